section
/-! pure rows to paste: stores, nI and lN arithmetic, masks, shifts, narrowing, branches by naturals (pk_le, pk_lt, pk_eq), loops (lp1 .. lp16: the measure of the state; rp1 ..: recursion), negatives. Take what you need -/
theorem pk_us {f : Nat → Int32} {k : Nat} {x : Int32} : upd f k x k = x := if_pos rfl
theorem pk_un {f : Nat → Int32} {k j : Nat} {x : Int32} (h : j ≠ k) : upd f k x j = f j := if_neg h
theorem pk_uLs {f : Nat → Int64} {k : Nat} {x : Int64} : vp_updL f k x k = x := if_pos rfl
theorem pk_uLn {f : Nat → Int64} {k j : Nat} {x : Int64} (h : j ≠ k) : vp_updL f k x j = f j := if_neg h
theorem pk_sub {a b : Nat} (h : b ≤ a) : nI a - nI b = nI (a - b) := by
  obtain ⟨c, rfl⟩ : ∃ c, a = c + b := ⟨a - b, by omega⟩
  rw [← nI_add, Int32.add_sub_cancel, Nat.add_sub_cancel]
theorem pk_m1 (n : Nat) : nI (n + 1) + (-1) = nI n := by
  rw [← nI_1, Int32.add_assoc, show (1 : Int32) + (-1) = 0 from rfl, Int32.add_zero]
theorem pk_mul (a b : Nat) : nI a * nI b = nI (a * b) := (Int32.ofNat_mul a b).symm
theorem pk_div {a d : Nat} (ha : a < 2 ^ 31) (h0 : 0 < d) (hd : d < 2 ^ 31) : nI a / nI d = nI (a / d) := by
  apply Int32.toInt_inj.mp
  rw [lg_idiv_nonneg (by rw [nI_toInt ha]; omega) (by rw [nI_toInt hd]; omega), nI_toInt ha, nI_toInt hd, nI_toInt (Nat.lt_of_le_of_lt (Nat.div_le_self a d) ha)]
  first | rfl | exact (Int.natCast_ediv _ _).symm
theorem pk_rem {a d : Nat} (ha : a < 2 ^ 31) (h0 : 0 < d) (hd : d < 2 ^ 31) : nI a - nI a / nI d * nI d = nI (a % d) := by
  rw [pk_div ha h0 hd, pk_mul, pk_sub (Nat.div_mul_le_self a d)]
  exact congrArg nI (by have := Nat.div_add_mod' a d; omega)
theorem pk_sub_toInt {a b : Nat} (ha : a < 2 ^ 30) (hb : b < 2 ^ 30) : (nI a - nI b).toInt = (a : Int) - b := by
  rw [Int32.toInt_sub, nI_toInt (by omega), nI_toInt (by omega)]
  exact Int.bmod_eq_of_le (by omega) (by omega)
theorem pk_sneg {a b : Nat} (hb : b < 2 ^ 30) (h : a < b) : nI a - nI b < 0 := by
  rw [Int32.lt_iff_toInt_lt, pk_sub_toInt (by omega) hb, show (0 : Int32).toInt = 0 from by decide]
  omega
theorem pk_ix (x : Int32) {n : Nat} (hn : n < 2 ^ 31) : x < 0 ∨ nI n ≤ x ∨ ∃ j : Nat, j < n ∧ x = nI j := by
  by_cases h : x < 0
  · exact Or.inl h
  · obtain ⟨j, hj, rfl⟩ := nI_of h
    by_cases h2 : j < n
    · exact Or.inr (Or.inr ⟨j, h2, rfl⟩)
    · exact Or.inr (Or.inl (nI_le (by omega) hj))
theorem pk_le {x y : Int32} {A B : Prop} (a b : Nat) (f : a ≤ b → A) (g : b < a → B) (hx : x = nI a := by rfl) (hy : y = nI b := by rfl) (ha : a < 2 ^ 31 := by omega) (hb : b < 2 ^ 31 := by omega) : (x ≤ y → A) ∧ (¬ x ≤ y → B) := by
  subst hx hy
  rw [nI_leI ha hb]
  exact ⟨f, fun z => g (by omega)⟩
theorem pk_lt {x y : Int32} {A B : Prop} (a b : Nat) (f : a < b → A) (g : b ≤ a → B) (hx : x = nI a := by rfl) (hy : y = nI b := by rfl) (ha : a < 2 ^ 31 := by omega) (hb : b < 2 ^ 31 := by omega) : (x < y → A) ∧ (¬ x < y → B) := by
  subst hx hy
  rw [nI_ltI ha hb]
  exact ⟨f, fun z => g (by omega)⟩
theorem pk_eq {x y : Int32} {A B : Prop} (a b : Nat) (f : a = b → A) (g : a ≠ b → B) (hx : x = nI a := by rfl) (hy : y = nI b := by rfl) (ha : a < 2 ^ 31 := by omega) (hb : b < 2 ^ 31 := by omega) : (x = y → A) ∧ (¬ x = y → B) := by
  subst hx hy
  rw [nI_eq ha hb]
  exact ⟨f, g⟩
theorem pk_in {x : Int32} (n N : Nat) (h : n < N) (hx : x = nI n := by rfl) (hN : N < 2 ^ 31 := by omega) : vp_in x N := by
  subst hx
  exact vp_in_nI h hN
theorem pk_cl {x : Int32} (n : Nat) (hx : x = nI n := by rfl) (h : n < 2 ^ 31 := by omega) : x.toNatClampNeg = n := by
  subst hx
  exact nI_clamp h
theorem pk_tn {n : Nat} (h : n < 2 ^ 32) : (nI n).toBitVec.toNat = n := Nat.mod_eq_of_lt h
theorem pk_and (x : Int32) {m : Int32} (k : Nat) (hm : m.toBitVec.toNat = 2 ^ k - 1) : x &&& m = nI (x.toBitVec.toNat % 2 ^ k) := by
  apply Int32.toBitVec_inj.mp
  apply BitVec.eq_of_toNat_eq
  rw [Int32.toBitVec_and, BitVec.toNat_and, hm, Nat.and_two_pow_sub_one_eq_mod]
  show _ = (BitVec.ofNat 32 _).toNat
  rw [BitVec.toNat_ofNat]
  exact (Nat.mod_eq_of_lt (Nat.lt_of_le_of_lt (Nat.mod_le _ _) x.toBitVec.isLt)).symm
theorem pk_andN {n : Nat} (h : n < 2 ^ 32) {m : Int32} (k : Nat) (hm : m.toBitVec.toNat = 2 ^ k - 1) : nI n &&& m = nI (n % 2 ^ k) := by
  rw [pk_and _ k hm, pk_tn h]
theorem pk_andE (x : Int32) {m : Int32} (k : Nat) (hm : m.toBitVec.toNat = 2 ^ k - 1) : ∃ j : Nat, j < 2 ^ k ∧ x &&& m = nI j := ⟨_, Nat.mod_lt _ (Nat.two_pow_pos k), pk_and x k hm⟩
theorem pk_andIn (x : Int32) {m : Int32} (k : Nat) (hm : m.toBitVec.toNat = 2 ^ k - 1) (hk : k ≤ 30) : vp_in (x &&& m) (2 ^ k) := by
  obtain ⟨j, hj, e⟩ := pk_andE x k hm
  rw [e]
  exact vp_in_nI hj (Nat.lt_of_le_of_lt (Nat.pow_le_pow_right (by decide) hk) (by decide))
theorem pk_shl (a s : Int32) (k : Nat) (hs : (s.toBitVec.smod 32).toNat = k) : (a <<< s).toBitVec.toNat = a.toBitVec.toNat * 2 ^ k % 2 ^ 32 := by
  show (a.toBitVec <<< (s.toBitVec.smod 32).toNat).toNat = _
  rw [hs, BitVec.toNat_shiftLeft, Nat.shiftLeft_eq]
theorem pk_shlN {n : Nat} (s : Int32) (k : Nat) (hs : (s.toBitVec.smod 32).toNat = k) (h : n * 2 ^ k < 2 ^ 32) : nI n <<< s = nI (n * 2 ^ k) := by
  apply Int32.toBitVec_inj.mp
  apply BitVec.eq_of_toNat_eq
  have hn : n < 2 ^ 32 := Nat.lt_of_le_of_lt (Nat.le_mul_of_pos_right n (Nat.two_pow_pos k)) h
  rw [pk_shl _ _ k hs, pk_tn hn, pk_tn h, Nat.mod_eq_of_lt h]
theorem pk_shr (a s : Int32) (k : Nat) (hs : (s.toBitVec.smod 32).toNat = k) : (a >>> s).toInt = a.toInt >>> k := by
  show (a.toBitVec.sshiftRight (s.toBitVec.smod 32).toNat).toInt = _
  rw [hs, BitVec.toInt_sshiftRight]
  rfl
theorem pk_shrN {n : Nat} (h : n < 2 ^ 31) (s : Int32) (k : Nat) (hs : (s.toBitVec.smod 32).toNat = k) : nI n >>> s = nI (n / 2 ^ k) := by
  apply Int32.toInt_inj.mp
  have h2 : n / 2 ^ k ≤ n := Nat.div_le_self _ _
  rw [pk_shr _ _ k hs, nI_toInt h, nI_toInt (by omega), Int.shiftRight_eq_div_pow]
  rfl
theorem pk_ushr (x s : Int32) (k : Nat) (hs : ((s.toUInt32 &&& Int32.toUInt32 31).toBitVec % 32).toNat = k) : (x.toUInt32 >>> (s.toUInt32 &&& Int32.toUInt32 31)).toInt32.toBitVec.toNat = x.toBitVec.toNat / 2 ^ k := by
  have e : (x.toUInt32 >>> (s.toUInt32 &&& Int32.toUInt32 31)).toInt32.toBitVec = x.toBitVec >>> k := by
    rw [← hs]
    exact UInt32.toBitVec_shiftRight _ _
  rw [e, BitVec.toNat_ushiftRight, Nat.shiftRight_eq_div_pow]
theorem pk_ushrN {n : Nat} (hn : n < 2 ^ 32) (s : Int32) (k : Nat) (hs : ((s.toUInt32 &&& Int32.toUInt32 31).toBitVec % 32).toNat = k) : ((nI n).toUInt32 >>> (s.toUInt32 &&& Int32.toUInt32 31)).toInt32 = nI (n / 2 ^ k) := by
  apply Int32.toBitVec_inj.mp
  apply BitVec.eq_of_toNat_eq
  rw [pk_ushr _ s k hs, pk_tn hn, pk_tn (Nat.lt_of_le_of_lt (Nat.div_le_self _ _) hn)]
theorem pk_nb (z : Int32) : narrow .byte (.int z.toInt8.toInt32) = .int z.toInt8.toInt32 := congrArg Value.int (by simp)
theorem pk_ns (z : Int32) : narrow .short (.int z.toInt16.toInt32) = .int z.toInt16.toInt32 := congrArg Value.int (by simp)
theorem pk_fb (r : Int32) : fits .byte (.int r.toInt8.toInt32) = true := by
  have ⟨a, b⟩ := lg_i2b_range r
  have h1 : (-128 : Int32).toInt = -128 := by decide
  have h2 : (127 : Int32).toInt = 127 := by decide
  simp only [fits, Bool.and_eq_true, decide_eq_true_eq, Int32.le_iff_toInt_le, h1, h2]
  omega
theorem pk_fs (r : Int32) : fits .short (.int r.toInt16.toInt32) = true := by
  have ⟨a, b⟩ := lg_i2s_range r
  have h1 : (-32768 : Int32).toInt = -32768 := by decide
  have h2 : (32767 : Int32).toInt = 32767 := by decide
  simp only [fits, Bool.and_eq_true, decide_eq_true_eq, Int32.le_iff_toInt_le, h1, h2]
  omega
theorem pk_charN {q : Nat} (hq : q < 65536) : narrow .char (.int (nI q)) = .int (nI q) ∧ fits .char (.int (nI q)) = true := by
  constructor
  · have e : (nI q).toUInt32.toUInt16.toUInt32.toInt32 = nI q := by
      apply Int32.toBitVec_inj.mp
      apply BitVec.eq_of_toNat_eq
      show (nI q).toUInt32.toUInt16.toUInt32.toNat = q % 2 ^ 32
      rw [UInt16.toNat_toUInt32, UInt32.toNat_toUInt16, show (nI q).toUInt32.toNat = q % 2 ^ 32 from rfl]
      omega
    exact congrArg Value.int e
  · have a : (0 : Int32) ≤ nI q := nI_pos' (by omega)
    have b : nI q ≤ 65535 := nI_le (b := 65535) (by omega) (by decide)
    show (decide ((0 : Int32) ≤ nI q) && decide (nI q ≤ 65535)) = true
    rw [decide_eq_true a, decide_eq_true b]
    rfl
theorem pk_char (x : Int32) : (x.toUInt32 % 65536).toInt32 = nI (x.toBitVec.toNat % 65536) := by
  apply Int32.toBitVec_inj.mp
  apply BitVec.eq_of_toNat_eq
  rw [pk_tn (by omega)]
  show (x.toUInt32 % 65536).toNat = _
  rw [UInt32.toNat_mod]
  rfl
theorem pk_nc (x : Int32) : narrow .char (.int (x.toUInt32 % 65536).toInt32) = .int (x.toUInt32 % 65536).toInt32 := by
  rw [pk_char]
  exact (pk_charN (Nat.mod_lt _ (by decide))).1
theorem pk_fc (x : Int32) : fits .char (.int (x.toUInt32 % 65536).toInt32) = true := by
  rw [pk_char]
  exact (pk_charN (Nat.mod_lt _ (by decide))).2
theorem pk_vb (z : Int32) : vp_nar .byte z.toInt8.toInt32 = z.toInt8.toInt32 := by rw [vp_nar_byte]; simp
theorem pk_vs (z : Int32) : vp_nar .short z.toInt16.toInt32 = z.toInt16.toInt32 := by rw [vp_nar_short]; simp
theorem pk_vc (z : Int32) : vp_nar .char (z.toUInt32 % 65536).toInt32 = (z.toUInt32 % 65536).toInt32 := Value.int.inj (pk_nc z)
theorem pk_lT {n : Nat} (h : n < 2 ^ 63) : (lN n).toInt = (n : Int) := lg_ofNat_toInt h
theorem pk_lLT {a b : Nat} (ha : a < 2 ^ 63) (hb : b < 2 ^ 63) : lN a < lN b ↔ a < b := by
  rw [Int64.lt_iff_toInt_lt, pk_lT ha, pk_lT hb]; omega
theorem pk_lLE {a b : Nat} (ha : a < 2 ^ 63) (hb : b < 2 ^ 63) : lN a ≤ lN b ↔ a ≤ b := by
  rw [Int64.le_iff_toInt_le, pk_lT ha, pk_lT hb]; omega
theorem pk_lEQ {a b : Nat} (ha : a < 2 ^ 63) (hb : b < 2 ^ 63) : lN a = lN b ↔ a = b := by
  rw [← Int64.toInt_inj, pk_lT ha, pk_lT hb]; omega
theorem pk_lOf {x : Int64} (h : ¬ x < 0) : ∃ k : Nat, k < 2 ^ 63 ∧ x = lN k := by
  rw [Int64.lt_iff_toInt_lt] at h
  have h0 : (0 : Int64).toInt = 0 := by decide
  have hx := Int64.toInt_lt x
  refine ⟨x.toInt.toNat, by omega, Int64.toInt_inj.mp ?_⟩
  rw [pk_lT (by omega)]
  omega
theorem pk_lDiv {a b : Nat} (ha : a < 2 ^ 63) (h0 : 0 < b) (hb : b < 2 ^ 63) : lN a / lN b = lN (a / b) := by
  apply Int64.toInt_inj.mp
  rw [lg_ldiv_nonneg (by rw [pk_lT ha]; omega) (by rw [pk_lT hb]; omega), pk_lT ha, pk_lT hb, pk_lT (Nat.lt_of_le_of_lt (Nat.div_le_self a b) ha)]
  rfl
theorem pk_lRem {a b : Nat} (ha : a < 2 ^ 63) (h0 : 0 < b) (hb : b < 2 ^ 63) : lN a - lN a / lN b * lN b = lN (a % b) := by
  rw [pk_lDiv ha h0 hb, lN_mul, lN_sub (Nat.div_mul_le_self a b)]
  exact congrArg lN (by have := Nat.div_add_mod' a b; omega)
theorem pk_loop {σ : Type} (W : Nat → Nat → σ → Prop) (I : Nat → σ → Prop) (e i0 : Nat) (s : σ) (hi : i0 ≤ e) (h0 : I i0 s) (hx : ∀ n s, I e s → W (n + 1) e s)
    (hs : ∀ n i s, i < e → I i s → (∀ s', I (i + 1) s' → W n (i + 1) s') → W (n + 1) i s) : ∃ n, W n i0 s :=
  ⟨e + 1, loop_i W I e hx hs (e + 1) i0 s hi (by omega) h0⟩
theorem pk_loopD {σ : Type} (W : Nat → Nat → σ → Prop) (I : Nat → σ → Prop) (hx : ∀ n s, I 0 s → W (n + 1) 0 s)
    (hs : ∀ n i s, I (i + 1) s → (∀ s', I i s' → W n i s') → W (n + 1) (i + 1) s) : ∀ (e : Nat) (s : σ), I e s → W (e + 1) e s := by
  intro e
  induction e with
  | zero => exact fun s h => hx 0 s h
  | succ e ih => exact fun s h => hs (e + 1) e s h (fun s' h' => ih s' h')
theorem lp1 {A1 : Type} (W : Nat → A1 → Prop) (I : A1 → Prop) (μ : A1 → Nat) (hs : ∀ (n : Nat) (a1 : A1), I a1 → (∀ (b1 : A1), I b1 → μ b1 < μ a1 → W n b1) → W (n + 1) a1) (a1 : A1) (h : I a1) : ∃ n, W n a1 :=
  loop_m (σ := A1) (fun n s => W n s) (fun s => I s) (fun s => μ s) (fun n s hI hk => hs n s hI (fun b1 h9 hm => hk b1 h9 hm)) a1 h
theorem lp2 {A1 A2 : Type} (W : Nat → A1 → A2 → Prop) (I : A1 → A2 → Prop) (μ : A1 → A2 → Nat) (hs : ∀ (n : Nat) (a1 : A1) (a2 : A2), I a1 a2 → (∀ (b1 : A1) (b2 : A2), I b1 b2 → μ b1 b2 < μ a1 a2 → W n b1 b2) → W (n + 1) a1 a2) (a1 : A1) (a2 : A2) (h : I a1 a2) : ∃ n, W n a1 a2 :=
  loop_m (σ := A1 × A2) (fun n s => W n s.1 s.2) (fun s => I s.1 s.2) (fun s => μ s.1 s.2) (fun n s hI hk => hs n s.1 s.2 hI (fun b1 b2 h9 hm => hk (b1, b2) h9 hm)) (a1, a2) h
theorem lp3 {A1 A2 A3 : Type} (W : Nat → A1 → A2 → A3 → Prop) (I : A1 → A2 → A3 → Prop) (μ : A1 → A2 → A3 → Nat) (hs : ∀ (n : Nat) (a1 : A1) (a2 : A2) (a3 : A3), I a1 a2 a3 → (∀ (b1 : A1) (b2 : A2) (b3 : A3), I b1 b2 b3 → μ b1 b2 b3 < μ a1 a2 a3 → W n b1 b2 b3) → W (n + 1) a1 a2 a3) (a1 : A1) (a2 : A2) (a3 : A3) (h : I a1 a2 a3) : ∃ n, W n a1 a2 a3 :=
  loop_m (σ := A1 × A2 × A3) (fun n s => W n s.1 s.2.1 s.2.2) (fun s => I s.1 s.2.1 s.2.2) (fun s => μ s.1 s.2.1 s.2.2) (fun n s hI hk => hs n s.1 s.2.1 s.2.2 hI (fun b1 b2 b3 h9 hm => hk (b1, b2, b3) h9 hm)) (a1, a2, a3) h
theorem lp4 {A1 A2 A3 A4 : Type} (W : Nat → A1 → A2 → A3 → A4 → Prop) (I : A1 → A2 → A3 → A4 → Prop) (μ : A1 → A2 → A3 → A4 → Nat) (hs : ∀ (n : Nat) (a1 : A1) (a2 : A2) (a3 : A3) (a4 : A4), I a1 a2 a3 a4 → (∀ (b1 : A1) (b2 : A2) (b3 : A3) (b4 : A4), I b1 b2 b3 b4 → μ b1 b2 b3 b4 < μ a1 a2 a3 a4 → W n b1 b2 b3 b4) → W (n + 1) a1 a2 a3 a4) (a1 : A1) (a2 : A2) (a3 : A3) (a4 : A4) (h : I a1 a2 a3 a4) : ∃ n, W n a1 a2 a3 a4 :=
  loop_m (σ := A1 × A2 × A3 × A4) (fun n s => W n s.1 s.2.1 s.2.2.1 s.2.2.2) (fun s => I s.1 s.2.1 s.2.2.1 s.2.2.2) (fun s => μ s.1 s.2.1 s.2.2.1 s.2.2.2) (fun n s hI hk => hs n s.1 s.2.1 s.2.2.1 s.2.2.2 hI (fun b1 b2 b3 b4 h9 hm => hk (b1, b2, b3, b4) h9 hm)) (a1, a2, a3, a4) h
theorem lp5 {A1 A2 A3 A4 A5 : Type} (W : Nat → A1 → A2 → A3 → A4 → A5 → Prop) (I : A1 → A2 → A3 → A4 → A5 → Prop) (μ : A1 → A2 → A3 → A4 → A5 → Nat) (hs : ∀ (n : Nat) (a1 : A1) (a2 : A2) (a3 : A3) (a4 : A4) (a5 : A5), I a1 a2 a3 a4 a5 → (∀ (b1 : A1) (b2 : A2) (b3 : A3) (b4 : A4) (b5 : A5), I b1 b2 b3 b4 b5 → μ b1 b2 b3 b4 b5 < μ a1 a2 a3 a4 a5 → W n b1 b2 b3 b4 b5) → W (n + 1) a1 a2 a3 a4 a5) (a1 : A1) (a2 : A2) (a3 : A3) (a4 : A4) (a5 : A5) (h : I a1 a2 a3 a4 a5) : ∃ n, W n a1 a2 a3 a4 a5 :=
  loop_m (σ := A1 × A2 × A3 × A4 × A5) (fun n s => W n s.1 s.2.1 s.2.2.1 s.2.2.2.1 s.2.2.2.2) (fun s => I s.1 s.2.1 s.2.2.1 s.2.2.2.1 s.2.2.2.2) (fun s => μ s.1 s.2.1 s.2.2.1 s.2.2.2.1 s.2.2.2.2) (fun n s hI hk => hs n s.1 s.2.1 s.2.2.1 s.2.2.2.1 s.2.2.2.2 hI (fun b1 b2 b3 b4 b5 h9 hm => hk (b1, b2, b3, b4, b5) h9 hm)) (a1, a2, a3, a4, a5) h
theorem lp6 {A1 A2 A3 A4 A5 A6 : Type} (W : Nat → A1 → A2 → A3 → A4 → A5 → A6 → Prop) (I : A1 → A2 → A3 → A4 → A5 → A6 → Prop) (μ : A1 → A2 → A3 → A4 → A5 → A6 → Nat) (hs : ∀ (n : Nat) (a1 : A1) (a2 : A2) (a3 : A3) (a4 : A4) (a5 : A5) (a6 : A6), I a1 a2 a3 a4 a5 a6 → (∀ (b1 : A1) (b2 : A2) (b3 : A3) (b4 : A4) (b5 : A5) (b6 : A6), I b1 b2 b3 b4 b5 b6 → μ b1 b2 b3 b4 b5 b6 < μ a1 a2 a3 a4 a5 a6 → W n b1 b2 b3 b4 b5 b6) → W (n + 1) a1 a2 a3 a4 a5 a6) (a1 : A1) (a2 : A2) (a3 : A3) (a4 : A4) (a5 : A5) (a6 : A6) (h : I a1 a2 a3 a4 a5 a6) : ∃ n, W n a1 a2 a3 a4 a5 a6 :=
  loop_m (σ := A1 × A2 × A3 × A4 × A5 × A6) (fun n s => W n s.1 s.2.1 s.2.2.1 s.2.2.2.1 s.2.2.2.2.1 s.2.2.2.2.2) (fun s => I s.1 s.2.1 s.2.2.1 s.2.2.2.1 s.2.2.2.2.1 s.2.2.2.2.2) (fun s => μ s.1 s.2.1 s.2.2.1 s.2.2.2.1 s.2.2.2.2.1 s.2.2.2.2.2) (fun n s hI hk => hs n s.1 s.2.1 s.2.2.1 s.2.2.2.1 s.2.2.2.2.1 s.2.2.2.2.2 hI (fun b1 b2 b3 b4 b5 b6 h9 hm => hk (b1, b2, b3, b4, b5, b6) h9 hm)) (a1, a2, a3, a4, a5, a6) h
theorem lp7 {A1 A2 A3 A4 A5 A6 A7 : Type} (W : Nat → A1 → A2 → A3 → A4 → A5 → A6 → A7 → Prop) (I : A1 → A2 → A3 → A4 → A5 → A6 → A7 → Prop) (μ : A1 → A2 → A3 → A4 → A5 → A6 → A7 → Nat) (hs : ∀ (n : Nat) (a1 : A1) (a2 : A2) (a3 : A3) (a4 : A4) (a5 : A5) (a6 : A6) (a7 : A7), I a1 a2 a3 a4 a5 a6 a7 → (∀ (b1 : A1) (b2 : A2) (b3 : A3) (b4 : A4) (b5 : A5) (b6 : A6) (b7 : A7), I b1 b2 b3 b4 b5 b6 b7 → μ b1 b2 b3 b4 b5 b6 b7 < μ a1 a2 a3 a4 a5 a6 a7 → W n b1 b2 b3 b4 b5 b6 b7) → W (n + 1) a1 a2 a3 a4 a5 a6 a7) (a1 : A1) (a2 : A2) (a3 : A3) (a4 : A4) (a5 : A5) (a6 : A6) (a7 : A7) (h : I a1 a2 a3 a4 a5 a6 a7) : ∃ n, W n a1 a2 a3 a4 a5 a6 a7 :=
  loop_m (σ := A1 × A2 × A3 × A4 × A5 × A6 × A7) (fun n s => W n s.1 s.2.1 s.2.2.1 s.2.2.2.1 s.2.2.2.2.1 s.2.2.2.2.2.1 s.2.2.2.2.2.2) (fun s => I s.1 s.2.1 s.2.2.1 s.2.2.2.1 s.2.2.2.2.1 s.2.2.2.2.2.1 s.2.2.2.2.2.2) (fun s => μ s.1 s.2.1 s.2.2.1 s.2.2.2.1 s.2.2.2.2.1 s.2.2.2.2.2.1 s.2.2.2.2.2.2) (fun n s hI hk => hs n s.1 s.2.1 s.2.2.1 s.2.2.2.1 s.2.2.2.2.1 s.2.2.2.2.2.1 s.2.2.2.2.2.2 hI (fun b1 b2 b3 b4 b5 b6 b7 h9 hm => hk (b1, b2, b3, b4, b5, b6, b7) h9 hm)) (a1, a2, a3, a4, a5, a6, a7) h
theorem lp8 {A1 A2 A3 A4 A5 A6 A7 A8 : Type} (W : Nat → A1 → A2 → A3 → A4 → A5 → A6 → A7 → A8 → Prop) (I : A1 → A2 → A3 → A4 → A5 → A6 → A7 → A8 → Prop) (μ : A1 → A2 → A3 → A4 → A5 → A6 → A7 → A8 → Nat) (hs : ∀ (n : Nat) (a1 : A1) (a2 : A2) (a3 : A3) (a4 : A4) (a5 : A5) (a6 : A6) (a7 : A7) (a8 : A8), I a1 a2 a3 a4 a5 a6 a7 a8 → (∀ (b1 : A1) (b2 : A2) (b3 : A3) (b4 : A4) (b5 : A5) (b6 : A6) (b7 : A7) (b8 : A8), I b1 b2 b3 b4 b5 b6 b7 b8 → μ b1 b2 b3 b4 b5 b6 b7 b8 < μ a1 a2 a3 a4 a5 a6 a7 a8 → W n b1 b2 b3 b4 b5 b6 b7 b8) → W (n + 1) a1 a2 a3 a4 a5 a6 a7 a8) (a1 : A1) (a2 : A2) (a3 : A3) (a4 : A4) (a5 : A5) (a6 : A6) (a7 : A7) (a8 : A8) (h : I a1 a2 a3 a4 a5 a6 a7 a8) : ∃ n, W n a1 a2 a3 a4 a5 a6 a7 a8 :=
  loop_m (σ := A1 × A2 × A3 × A4 × A5 × A6 × A7 × A8) (fun n s => W n s.1 s.2.1 s.2.2.1 s.2.2.2.1 s.2.2.2.2.1 s.2.2.2.2.2.1 s.2.2.2.2.2.2.1 s.2.2.2.2.2.2.2) (fun s => I s.1 s.2.1 s.2.2.1 s.2.2.2.1 s.2.2.2.2.1 s.2.2.2.2.2.1 s.2.2.2.2.2.2.1 s.2.2.2.2.2.2.2) (fun s => μ s.1 s.2.1 s.2.2.1 s.2.2.2.1 s.2.2.2.2.1 s.2.2.2.2.2.1 s.2.2.2.2.2.2.1 s.2.2.2.2.2.2.2) (fun n s hI hk => hs n s.1 s.2.1 s.2.2.1 s.2.2.2.1 s.2.2.2.2.1 s.2.2.2.2.2.1 s.2.2.2.2.2.2.1 s.2.2.2.2.2.2.2 hI (fun b1 b2 b3 b4 b5 b6 b7 b8 h9 hm => hk (b1, b2, b3, b4, b5, b6, b7, b8) h9 hm)) (a1, a2, a3, a4, a5, a6, a7, a8) h
theorem lp9 {A1 A2 A3 A4 A5 A6 A7 A8 A9 : Type} (W : Nat → A1 → A2 → A3 → A4 → A5 → A6 → A7 → A8 → A9 → Prop) (I : A1 → A2 → A3 → A4 → A5 → A6 → A7 → A8 → A9 → Prop) (μ : A1 → A2 → A3 → A4 → A5 → A6 → A7 → A8 → A9 → Nat) (hs : ∀ (n : Nat) (a1 : A1) (a2 : A2) (a3 : A3) (a4 : A4) (a5 : A5) (a6 : A6) (a7 : A7) (a8 : A8) (a9 : A9), I a1 a2 a3 a4 a5 a6 a7 a8 a9 → (∀ (b1 : A1) (b2 : A2) (b3 : A3) (b4 : A4) (b5 : A5) (b6 : A6) (b7 : A7) (b8 : A8) (b9 : A9), I b1 b2 b3 b4 b5 b6 b7 b8 b9 → μ b1 b2 b3 b4 b5 b6 b7 b8 b9 < μ a1 a2 a3 a4 a5 a6 a7 a8 a9 → W n b1 b2 b3 b4 b5 b6 b7 b8 b9) → W (n + 1) a1 a2 a3 a4 a5 a6 a7 a8 a9) (a1 : A1) (a2 : A2) (a3 : A3) (a4 : A4) (a5 : A5) (a6 : A6) (a7 : A7) (a8 : A8) (a9 : A9) (h : I a1 a2 a3 a4 a5 a6 a7 a8 a9) : ∃ n, W n a1 a2 a3 a4 a5 a6 a7 a8 a9 :=
  loop_m (σ := A1 × A2 × A3 × A4 × A5 × A6 × A7 × A8 × A9) (fun n s => W n s.1 s.2.1 s.2.2.1 s.2.2.2.1 s.2.2.2.2.1 s.2.2.2.2.2.1 s.2.2.2.2.2.2.1 s.2.2.2.2.2.2.2.1 s.2.2.2.2.2.2.2.2) (fun s => I s.1 s.2.1 s.2.2.1 s.2.2.2.1 s.2.2.2.2.1 s.2.2.2.2.2.1 s.2.2.2.2.2.2.1 s.2.2.2.2.2.2.2.1 s.2.2.2.2.2.2.2.2) (fun s => μ s.1 s.2.1 s.2.2.1 s.2.2.2.1 s.2.2.2.2.1 s.2.2.2.2.2.1 s.2.2.2.2.2.2.1 s.2.2.2.2.2.2.2.1 s.2.2.2.2.2.2.2.2) (fun n s hI hk => hs n s.1 s.2.1 s.2.2.1 s.2.2.2.1 s.2.2.2.2.1 s.2.2.2.2.2.1 s.2.2.2.2.2.2.1 s.2.2.2.2.2.2.2.1 s.2.2.2.2.2.2.2.2 hI (fun b1 b2 b3 b4 b5 b6 b7 b8 b9 h9 hm => hk (b1, b2, b3, b4, b5, b6, b7, b8, b9) h9 hm)) (a1, a2, a3, a4, a5, a6, a7, a8, a9) h
theorem lp10 {A1 A2 A3 A4 A5 A6 A7 A8 A9 A10 : Type} (W : Nat → A1 → A2 → A3 → A4 → A5 → A6 → A7 → A8 → A9 → A10 → Prop) (I : A1 → A2 → A3 → A4 → A5 → A6 → A7 → A8 → A9 → A10 → Prop) (μ : A1 → A2 → A3 → A4 → A5 → A6 → A7 → A8 → A9 → A10 → Nat) (hs : ∀ (n : Nat) (a1 : A1) (a2 : A2) (a3 : A3) (a4 : A4) (a5 : A5) (a6 : A6) (a7 : A7) (a8 : A8) (a9 : A9) (a10 : A10), I a1 a2 a3 a4 a5 a6 a7 a8 a9 a10 → (∀ (b1 : A1) (b2 : A2) (b3 : A3) (b4 : A4) (b5 : A5) (b6 : A6) (b7 : A7) (b8 : A8) (b9 : A9) (b10 : A10), I b1 b2 b3 b4 b5 b6 b7 b8 b9 b10 → μ b1 b2 b3 b4 b5 b6 b7 b8 b9 b10 < μ a1 a2 a3 a4 a5 a6 a7 a8 a9 a10 → W n b1 b2 b3 b4 b5 b6 b7 b8 b9 b10) → W (n + 1) a1 a2 a3 a4 a5 a6 a7 a8 a9 a10) (a1 : A1) (a2 : A2) (a3 : A3) (a4 : A4) (a5 : A5) (a6 : A6) (a7 : A7) (a8 : A8) (a9 : A9) (a10 : A10) (h : I a1 a2 a3 a4 a5 a6 a7 a8 a9 a10) : ∃ n, W n a1 a2 a3 a4 a5 a6 a7 a8 a9 a10 :=
  loop_m (σ := A1 × A2 × A3 × A4 × A5 × A6 × A7 × A8 × A9 × A10) (fun n s => W n s.1 s.2.1 s.2.2.1 s.2.2.2.1 s.2.2.2.2.1 s.2.2.2.2.2.1 s.2.2.2.2.2.2.1 s.2.2.2.2.2.2.2.1 s.2.2.2.2.2.2.2.2.1 s.2.2.2.2.2.2.2.2.2) (fun s => I s.1 s.2.1 s.2.2.1 s.2.2.2.1 s.2.2.2.2.1 s.2.2.2.2.2.1 s.2.2.2.2.2.2.1 s.2.2.2.2.2.2.2.1 s.2.2.2.2.2.2.2.2.1 s.2.2.2.2.2.2.2.2.2) (fun s => μ s.1 s.2.1 s.2.2.1 s.2.2.2.1 s.2.2.2.2.1 s.2.2.2.2.2.1 s.2.2.2.2.2.2.1 s.2.2.2.2.2.2.2.1 s.2.2.2.2.2.2.2.2.1 s.2.2.2.2.2.2.2.2.2) (fun n s hI hk => hs n s.1 s.2.1 s.2.2.1 s.2.2.2.1 s.2.2.2.2.1 s.2.2.2.2.2.1 s.2.2.2.2.2.2.1 s.2.2.2.2.2.2.2.1 s.2.2.2.2.2.2.2.2.1 s.2.2.2.2.2.2.2.2.2 hI (fun b1 b2 b3 b4 b5 b6 b7 b8 b9 b10 h9 hm => hk (b1, b2, b3, b4, b5, b6, b7, b8, b9, b10) h9 hm)) (a1, a2, a3, a4, a5, a6, a7, a8, a9, a10) h
theorem lp11 {A1 A2 A3 A4 A5 A6 A7 A8 A9 A10 A11 : Type} (W : Nat → A1 → A2 → A3 → A4 → A5 → A6 → A7 → A8 → A9 → A10 → A11 → Prop) (I : A1 → A2 → A3 → A4 → A5 → A6 → A7 → A8 → A9 → A10 → A11 → Prop) (μ : A1 → A2 → A3 → A4 → A5 → A6 → A7 → A8 → A9 → A10 → A11 → Nat) (hs : ∀ (n : Nat) (a1 : A1) (a2 : A2) (a3 : A3) (a4 : A4) (a5 : A5) (a6 : A6) (a7 : A7) (a8 : A8) (a9 : A9) (a10 : A10) (a11 : A11), I a1 a2 a3 a4 a5 a6 a7 a8 a9 a10 a11 → (∀ (b1 : A1) (b2 : A2) (b3 : A3) (b4 : A4) (b5 : A5) (b6 : A6) (b7 : A7) (b8 : A8) (b9 : A9) (b10 : A10) (b11 : A11), I b1 b2 b3 b4 b5 b6 b7 b8 b9 b10 b11 → μ b1 b2 b3 b4 b5 b6 b7 b8 b9 b10 b11 < μ a1 a2 a3 a4 a5 a6 a7 a8 a9 a10 a11 → W n b1 b2 b3 b4 b5 b6 b7 b8 b9 b10 b11) → W (n + 1) a1 a2 a3 a4 a5 a6 a7 a8 a9 a10 a11) (a1 : A1) (a2 : A2) (a3 : A3) (a4 : A4) (a5 : A5) (a6 : A6) (a7 : A7) (a8 : A8) (a9 : A9) (a10 : A10) (a11 : A11) (h : I a1 a2 a3 a4 a5 a6 a7 a8 a9 a10 a11) : ∃ n, W n a1 a2 a3 a4 a5 a6 a7 a8 a9 a10 a11 :=
  loop_m (σ := A1 × A2 × A3 × A4 × A5 × A6 × A7 × A8 × A9 × A10 × A11) (fun n s => W n s.1 s.2.1 s.2.2.1 s.2.2.2.1 s.2.2.2.2.1 s.2.2.2.2.2.1 s.2.2.2.2.2.2.1 s.2.2.2.2.2.2.2.1 s.2.2.2.2.2.2.2.2.1 s.2.2.2.2.2.2.2.2.2.1 s.2.2.2.2.2.2.2.2.2.2) (fun s => I s.1 s.2.1 s.2.2.1 s.2.2.2.1 s.2.2.2.2.1 s.2.2.2.2.2.1 s.2.2.2.2.2.2.1 s.2.2.2.2.2.2.2.1 s.2.2.2.2.2.2.2.2.1 s.2.2.2.2.2.2.2.2.2.1 s.2.2.2.2.2.2.2.2.2.2) (fun s => μ s.1 s.2.1 s.2.2.1 s.2.2.2.1 s.2.2.2.2.1 s.2.2.2.2.2.1 s.2.2.2.2.2.2.1 s.2.2.2.2.2.2.2.1 s.2.2.2.2.2.2.2.2.1 s.2.2.2.2.2.2.2.2.2.1 s.2.2.2.2.2.2.2.2.2.2) (fun n s hI hk => hs n s.1 s.2.1 s.2.2.1 s.2.2.2.1 s.2.2.2.2.1 s.2.2.2.2.2.1 s.2.2.2.2.2.2.1 s.2.2.2.2.2.2.2.1 s.2.2.2.2.2.2.2.2.1 s.2.2.2.2.2.2.2.2.2.1 s.2.2.2.2.2.2.2.2.2.2 hI (fun b1 b2 b3 b4 b5 b6 b7 b8 b9 b10 b11 h9 hm => hk (b1, b2, b3, b4, b5, b6, b7, b8, b9, b10, b11) h9 hm)) (a1, a2, a3, a4, a5, a6, a7, a8, a9, a10, a11) h
theorem lp12 {A1 A2 A3 A4 A5 A6 A7 A8 A9 A10 A11 A12 : Type} (W : Nat → A1 → A2 → A3 → A4 → A5 → A6 → A7 → A8 → A9 → A10 → A11 → A12 → Prop) (I : A1 → A2 → A3 → A4 → A5 → A6 → A7 → A8 → A9 → A10 → A11 → A12 → Prop) (μ : A1 → A2 → A3 → A4 → A5 → A6 → A7 → A8 → A9 → A10 → A11 → A12 → Nat) (hs : ∀ (n : Nat) (a1 : A1) (a2 : A2) (a3 : A3) (a4 : A4) (a5 : A5) (a6 : A6) (a7 : A7) (a8 : A8) (a9 : A9) (a10 : A10) (a11 : A11) (a12 : A12), I a1 a2 a3 a4 a5 a6 a7 a8 a9 a10 a11 a12 → (∀ (b1 : A1) (b2 : A2) (b3 : A3) (b4 : A4) (b5 : A5) (b6 : A6) (b7 : A7) (b8 : A8) (b9 : A9) (b10 : A10) (b11 : A11) (b12 : A12), I b1 b2 b3 b4 b5 b6 b7 b8 b9 b10 b11 b12 → μ b1 b2 b3 b4 b5 b6 b7 b8 b9 b10 b11 b12 < μ a1 a2 a3 a4 a5 a6 a7 a8 a9 a10 a11 a12 → W n b1 b2 b3 b4 b5 b6 b7 b8 b9 b10 b11 b12) → W (n + 1) a1 a2 a3 a4 a5 a6 a7 a8 a9 a10 a11 a12) (a1 : A1) (a2 : A2) (a3 : A3) (a4 : A4) (a5 : A5) (a6 : A6) (a7 : A7) (a8 : A8) (a9 : A9) (a10 : A10) (a11 : A11) (a12 : A12) (h : I a1 a2 a3 a4 a5 a6 a7 a8 a9 a10 a11 a12) : ∃ n, W n a1 a2 a3 a4 a5 a6 a7 a8 a9 a10 a11 a12 :=
  loop_m (σ := A1 × A2 × A3 × A4 × A5 × A6 × A7 × A8 × A9 × A10 × A11 × A12) (fun n s => W n s.1 s.2.1 s.2.2.1 s.2.2.2.1 s.2.2.2.2.1 s.2.2.2.2.2.1 s.2.2.2.2.2.2.1 s.2.2.2.2.2.2.2.1 s.2.2.2.2.2.2.2.2.1 s.2.2.2.2.2.2.2.2.2.1 s.2.2.2.2.2.2.2.2.2.2.1 s.2.2.2.2.2.2.2.2.2.2.2) (fun s => I s.1 s.2.1 s.2.2.1 s.2.2.2.1 s.2.2.2.2.1 s.2.2.2.2.2.1 s.2.2.2.2.2.2.1 s.2.2.2.2.2.2.2.1 s.2.2.2.2.2.2.2.2.1 s.2.2.2.2.2.2.2.2.2.1 s.2.2.2.2.2.2.2.2.2.2.1 s.2.2.2.2.2.2.2.2.2.2.2) (fun s => μ s.1 s.2.1 s.2.2.1 s.2.2.2.1 s.2.2.2.2.1 s.2.2.2.2.2.1 s.2.2.2.2.2.2.1 s.2.2.2.2.2.2.2.1 s.2.2.2.2.2.2.2.2.1 s.2.2.2.2.2.2.2.2.2.1 s.2.2.2.2.2.2.2.2.2.2.1 s.2.2.2.2.2.2.2.2.2.2.2) (fun n s hI hk => hs n s.1 s.2.1 s.2.2.1 s.2.2.2.1 s.2.2.2.2.1 s.2.2.2.2.2.1 s.2.2.2.2.2.2.1 s.2.2.2.2.2.2.2.1 s.2.2.2.2.2.2.2.2.1 s.2.2.2.2.2.2.2.2.2.1 s.2.2.2.2.2.2.2.2.2.2.1 s.2.2.2.2.2.2.2.2.2.2.2 hI (fun b1 b2 b3 b4 b5 b6 b7 b8 b9 b10 b11 b12 h9 hm => hk (b1, b2, b3, b4, b5, b6, b7, b8, b9, b10, b11, b12) h9 hm)) (a1, a2, a3, a4, a5, a6, a7, a8, a9, a10, a11, a12) h
theorem lp13 {A1 A2 A3 A4 A5 A6 A7 A8 A9 A10 A11 A12 A13 : Type} (W : Nat → A1 → A2 → A3 → A4 → A5 → A6 → A7 → A8 → A9 → A10 → A11 → A12 → A13 → Prop) (I : A1 → A2 → A3 → A4 → A5 → A6 → A7 → A8 → A9 → A10 → A11 → A12 → A13 → Prop) (μ : A1 → A2 → A3 → A4 → A5 → A6 → A7 → A8 → A9 → A10 → A11 → A12 → A13 → Nat) (hs : ∀ (n : Nat) (a1 : A1) (a2 : A2) (a3 : A3) (a4 : A4) (a5 : A5) (a6 : A6) (a7 : A7) (a8 : A8) (a9 : A9) (a10 : A10) (a11 : A11) (a12 : A12) (a13 : A13), I a1 a2 a3 a4 a5 a6 a7 a8 a9 a10 a11 a12 a13 → (∀ (b1 : A1) (b2 : A2) (b3 : A3) (b4 : A4) (b5 : A5) (b6 : A6) (b7 : A7) (b8 : A8) (b9 : A9) (b10 : A10) (b11 : A11) (b12 : A12) (b13 : A13), I b1 b2 b3 b4 b5 b6 b7 b8 b9 b10 b11 b12 b13 → μ b1 b2 b3 b4 b5 b6 b7 b8 b9 b10 b11 b12 b13 < μ a1 a2 a3 a4 a5 a6 a7 a8 a9 a10 a11 a12 a13 → W n b1 b2 b3 b4 b5 b6 b7 b8 b9 b10 b11 b12 b13) → W (n + 1) a1 a2 a3 a4 a5 a6 a7 a8 a9 a10 a11 a12 a13) (a1 : A1) (a2 : A2) (a3 : A3) (a4 : A4) (a5 : A5) (a6 : A6) (a7 : A7) (a8 : A8) (a9 : A9) (a10 : A10) (a11 : A11) (a12 : A12) (a13 : A13) (h : I a1 a2 a3 a4 a5 a6 a7 a8 a9 a10 a11 a12 a13) : ∃ n, W n a1 a2 a3 a4 a5 a6 a7 a8 a9 a10 a11 a12 a13 :=
  loop_m (σ := A1 × A2 × A3 × A4 × A5 × A6 × A7 × A8 × A9 × A10 × A11 × A12 × A13) (fun n s => W n s.1 s.2.1 s.2.2.1 s.2.2.2.1 s.2.2.2.2.1 s.2.2.2.2.2.1 s.2.2.2.2.2.2.1 s.2.2.2.2.2.2.2.1 s.2.2.2.2.2.2.2.2.1 s.2.2.2.2.2.2.2.2.2.1 s.2.2.2.2.2.2.2.2.2.2.1 s.2.2.2.2.2.2.2.2.2.2.2.1 s.2.2.2.2.2.2.2.2.2.2.2.2) (fun s => I s.1 s.2.1 s.2.2.1 s.2.2.2.1 s.2.2.2.2.1 s.2.2.2.2.2.1 s.2.2.2.2.2.2.1 s.2.2.2.2.2.2.2.1 s.2.2.2.2.2.2.2.2.1 s.2.2.2.2.2.2.2.2.2.1 s.2.2.2.2.2.2.2.2.2.2.1 s.2.2.2.2.2.2.2.2.2.2.2.1 s.2.2.2.2.2.2.2.2.2.2.2.2) (fun s => μ s.1 s.2.1 s.2.2.1 s.2.2.2.1 s.2.2.2.2.1 s.2.2.2.2.2.1 s.2.2.2.2.2.2.1 s.2.2.2.2.2.2.2.1 s.2.2.2.2.2.2.2.2.1 s.2.2.2.2.2.2.2.2.2.1 s.2.2.2.2.2.2.2.2.2.2.1 s.2.2.2.2.2.2.2.2.2.2.2.1 s.2.2.2.2.2.2.2.2.2.2.2.2) (fun n s hI hk => hs n s.1 s.2.1 s.2.2.1 s.2.2.2.1 s.2.2.2.2.1 s.2.2.2.2.2.1 s.2.2.2.2.2.2.1 s.2.2.2.2.2.2.2.1 s.2.2.2.2.2.2.2.2.1 s.2.2.2.2.2.2.2.2.2.1 s.2.2.2.2.2.2.2.2.2.2.1 s.2.2.2.2.2.2.2.2.2.2.2.1 s.2.2.2.2.2.2.2.2.2.2.2.2 hI (fun b1 b2 b3 b4 b5 b6 b7 b8 b9 b10 b11 b12 b13 h9 hm => hk (b1, b2, b3, b4, b5, b6, b7, b8, b9, b10, b11, b12, b13) h9 hm)) (a1, a2, a3, a4, a5, a6, a7, a8, a9, a10, a11, a12, a13) h
theorem lp14 {A1 A2 A3 A4 A5 A6 A7 A8 A9 A10 A11 A12 A13 A14 : Type} (W : Nat → A1 → A2 → A3 → A4 → A5 → A6 → A7 → A8 → A9 → A10 → A11 → A12 → A13 → A14 → Prop) (I : A1 → A2 → A3 → A4 → A5 → A6 → A7 → A8 → A9 → A10 → A11 → A12 → A13 → A14 → Prop) (μ : A1 → A2 → A3 → A4 → A5 → A6 → A7 → A8 → A9 → A10 → A11 → A12 → A13 → A14 → Nat) (hs : ∀ (n : Nat) (a1 : A1) (a2 : A2) (a3 : A3) (a4 : A4) (a5 : A5) (a6 : A6) (a7 : A7) (a8 : A8) (a9 : A9) (a10 : A10) (a11 : A11) (a12 : A12) (a13 : A13) (a14 : A14), I a1 a2 a3 a4 a5 a6 a7 a8 a9 a10 a11 a12 a13 a14 → (∀ (b1 : A1) (b2 : A2) (b3 : A3) (b4 : A4) (b5 : A5) (b6 : A6) (b7 : A7) (b8 : A8) (b9 : A9) (b10 : A10) (b11 : A11) (b12 : A12) (b13 : A13) (b14 : A14), I b1 b2 b3 b4 b5 b6 b7 b8 b9 b10 b11 b12 b13 b14 → μ b1 b2 b3 b4 b5 b6 b7 b8 b9 b10 b11 b12 b13 b14 < μ a1 a2 a3 a4 a5 a6 a7 a8 a9 a10 a11 a12 a13 a14 → W n b1 b2 b3 b4 b5 b6 b7 b8 b9 b10 b11 b12 b13 b14) → W (n + 1) a1 a2 a3 a4 a5 a6 a7 a8 a9 a10 a11 a12 a13 a14) (a1 : A1) (a2 : A2) (a3 : A3) (a4 : A4) (a5 : A5) (a6 : A6) (a7 : A7) (a8 : A8) (a9 : A9) (a10 : A10) (a11 : A11) (a12 : A12) (a13 : A13) (a14 : A14) (h : I a1 a2 a3 a4 a5 a6 a7 a8 a9 a10 a11 a12 a13 a14) : ∃ n, W n a1 a2 a3 a4 a5 a6 a7 a8 a9 a10 a11 a12 a13 a14 :=
  loop_m (σ := A1 × A2 × A3 × A4 × A5 × A6 × A7 × A8 × A9 × A10 × A11 × A12 × A13 × A14) (fun n s => W n s.1 s.2.1 s.2.2.1 s.2.2.2.1 s.2.2.2.2.1 s.2.2.2.2.2.1 s.2.2.2.2.2.2.1 s.2.2.2.2.2.2.2.1 s.2.2.2.2.2.2.2.2.1 s.2.2.2.2.2.2.2.2.2.1 s.2.2.2.2.2.2.2.2.2.2.1 s.2.2.2.2.2.2.2.2.2.2.2.1 s.2.2.2.2.2.2.2.2.2.2.2.2.1 s.2.2.2.2.2.2.2.2.2.2.2.2.2) (fun s => I s.1 s.2.1 s.2.2.1 s.2.2.2.1 s.2.2.2.2.1 s.2.2.2.2.2.1 s.2.2.2.2.2.2.1 s.2.2.2.2.2.2.2.1 s.2.2.2.2.2.2.2.2.1 s.2.2.2.2.2.2.2.2.2.1 s.2.2.2.2.2.2.2.2.2.2.1 s.2.2.2.2.2.2.2.2.2.2.2.1 s.2.2.2.2.2.2.2.2.2.2.2.2.1 s.2.2.2.2.2.2.2.2.2.2.2.2.2) (fun s => μ s.1 s.2.1 s.2.2.1 s.2.2.2.1 s.2.2.2.2.1 s.2.2.2.2.2.1 s.2.2.2.2.2.2.1 s.2.2.2.2.2.2.2.1 s.2.2.2.2.2.2.2.2.1 s.2.2.2.2.2.2.2.2.2.1 s.2.2.2.2.2.2.2.2.2.2.1 s.2.2.2.2.2.2.2.2.2.2.2.1 s.2.2.2.2.2.2.2.2.2.2.2.2.1 s.2.2.2.2.2.2.2.2.2.2.2.2.2) (fun n s hI hk => hs n s.1 s.2.1 s.2.2.1 s.2.2.2.1 s.2.2.2.2.1 s.2.2.2.2.2.1 s.2.2.2.2.2.2.1 s.2.2.2.2.2.2.2.1 s.2.2.2.2.2.2.2.2.1 s.2.2.2.2.2.2.2.2.2.1 s.2.2.2.2.2.2.2.2.2.2.1 s.2.2.2.2.2.2.2.2.2.2.2.1 s.2.2.2.2.2.2.2.2.2.2.2.2.1 s.2.2.2.2.2.2.2.2.2.2.2.2.2 hI (fun b1 b2 b3 b4 b5 b6 b7 b8 b9 b10 b11 b12 b13 b14 h9 hm => hk (b1, b2, b3, b4, b5, b6, b7, b8, b9, b10, b11, b12, b13, b14) h9 hm)) (a1, a2, a3, a4, a5, a6, a7, a8, a9, a10, a11, a12, a13, a14) h
theorem lp15 {A1 A2 A3 A4 A5 A6 A7 A8 A9 A10 A11 A12 A13 A14 A15 : Type} (W : Nat → A1 → A2 → A3 → A4 → A5 → A6 → A7 → A8 → A9 → A10 → A11 → A12 → A13 → A14 → A15 → Prop) (I : A1 → A2 → A3 → A4 → A5 → A6 → A7 → A8 → A9 → A10 → A11 → A12 → A13 → A14 → A15 → Prop) (μ : A1 → A2 → A3 → A4 → A5 → A6 → A7 → A8 → A9 → A10 → A11 → A12 → A13 → A14 → A15 → Nat) (hs : ∀ (n : Nat) (a1 : A1) (a2 : A2) (a3 : A3) (a4 : A4) (a5 : A5) (a6 : A6) (a7 : A7) (a8 : A8) (a9 : A9) (a10 : A10) (a11 : A11) (a12 : A12) (a13 : A13) (a14 : A14) (a15 : A15), I a1 a2 a3 a4 a5 a6 a7 a8 a9 a10 a11 a12 a13 a14 a15 → (∀ (b1 : A1) (b2 : A2) (b3 : A3) (b4 : A4) (b5 : A5) (b6 : A6) (b7 : A7) (b8 : A8) (b9 : A9) (b10 : A10) (b11 : A11) (b12 : A12) (b13 : A13) (b14 : A14) (b15 : A15), I b1 b2 b3 b4 b5 b6 b7 b8 b9 b10 b11 b12 b13 b14 b15 → μ b1 b2 b3 b4 b5 b6 b7 b8 b9 b10 b11 b12 b13 b14 b15 < μ a1 a2 a3 a4 a5 a6 a7 a8 a9 a10 a11 a12 a13 a14 a15 → W n b1 b2 b3 b4 b5 b6 b7 b8 b9 b10 b11 b12 b13 b14 b15) → W (n + 1) a1 a2 a3 a4 a5 a6 a7 a8 a9 a10 a11 a12 a13 a14 a15) (a1 : A1) (a2 : A2) (a3 : A3) (a4 : A4) (a5 : A5) (a6 : A6) (a7 : A7) (a8 : A8) (a9 : A9) (a10 : A10) (a11 : A11) (a12 : A12) (a13 : A13) (a14 : A14) (a15 : A15) (h : I a1 a2 a3 a4 a5 a6 a7 a8 a9 a10 a11 a12 a13 a14 a15) : ∃ n, W n a1 a2 a3 a4 a5 a6 a7 a8 a9 a10 a11 a12 a13 a14 a15 :=
  loop_m (σ := A1 × A2 × A3 × A4 × A5 × A6 × A7 × A8 × A9 × A10 × A11 × A12 × A13 × A14 × A15) (fun n s => W n s.1 s.2.1 s.2.2.1 s.2.2.2.1 s.2.2.2.2.1 s.2.2.2.2.2.1 s.2.2.2.2.2.2.1 s.2.2.2.2.2.2.2.1 s.2.2.2.2.2.2.2.2.1 s.2.2.2.2.2.2.2.2.2.1 s.2.2.2.2.2.2.2.2.2.2.1 s.2.2.2.2.2.2.2.2.2.2.2.1 s.2.2.2.2.2.2.2.2.2.2.2.2.1 s.2.2.2.2.2.2.2.2.2.2.2.2.2.1 s.2.2.2.2.2.2.2.2.2.2.2.2.2.2) (fun s => I s.1 s.2.1 s.2.2.1 s.2.2.2.1 s.2.2.2.2.1 s.2.2.2.2.2.1 s.2.2.2.2.2.2.1 s.2.2.2.2.2.2.2.1 s.2.2.2.2.2.2.2.2.1 s.2.2.2.2.2.2.2.2.2.1 s.2.2.2.2.2.2.2.2.2.2.1 s.2.2.2.2.2.2.2.2.2.2.2.1 s.2.2.2.2.2.2.2.2.2.2.2.2.1 s.2.2.2.2.2.2.2.2.2.2.2.2.2.1 s.2.2.2.2.2.2.2.2.2.2.2.2.2.2) (fun s => μ s.1 s.2.1 s.2.2.1 s.2.2.2.1 s.2.2.2.2.1 s.2.2.2.2.2.1 s.2.2.2.2.2.2.1 s.2.2.2.2.2.2.2.1 s.2.2.2.2.2.2.2.2.1 s.2.2.2.2.2.2.2.2.2.1 s.2.2.2.2.2.2.2.2.2.2.1 s.2.2.2.2.2.2.2.2.2.2.2.1 s.2.2.2.2.2.2.2.2.2.2.2.2.1 s.2.2.2.2.2.2.2.2.2.2.2.2.2.1 s.2.2.2.2.2.2.2.2.2.2.2.2.2.2) (fun n s hI hk => hs n s.1 s.2.1 s.2.2.1 s.2.2.2.1 s.2.2.2.2.1 s.2.2.2.2.2.1 s.2.2.2.2.2.2.1 s.2.2.2.2.2.2.2.1 s.2.2.2.2.2.2.2.2.1 s.2.2.2.2.2.2.2.2.2.1 s.2.2.2.2.2.2.2.2.2.2.1 s.2.2.2.2.2.2.2.2.2.2.2.1 s.2.2.2.2.2.2.2.2.2.2.2.2.1 s.2.2.2.2.2.2.2.2.2.2.2.2.2.1 s.2.2.2.2.2.2.2.2.2.2.2.2.2.2 hI (fun b1 b2 b3 b4 b5 b6 b7 b8 b9 b10 b11 b12 b13 b14 b15 h9 hm => hk (b1, b2, b3, b4, b5, b6, b7, b8, b9, b10, b11, b12, b13, b14, b15) h9 hm)) (a1, a2, a3, a4, a5, a6, a7, a8, a9, a10, a11, a12, a13, a14, a15) h
theorem lp16 {A1 A2 A3 A4 A5 A6 A7 A8 A9 A10 A11 A12 A13 A14 A15 A16 : Type} (W : Nat → A1 → A2 → A3 → A4 → A5 → A6 → A7 → A8 → A9 → A10 → A11 → A12 → A13 → A14 → A15 → A16 → Prop) (I : A1 → A2 → A3 → A4 → A5 → A6 → A7 → A8 → A9 → A10 → A11 → A12 → A13 → A14 → A15 → A16 → Prop) (μ : A1 → A2 → A3 → A4 → A5 → A6 → A7 → A8 → A9 → A10 → A11 → A12 → A13 → A14 → A15 → A16 → Nat) (hs : ∀ (n : Nat) (a1 : A1) (a2 : A2) (a3 : A3) (a4 : A4) (a5 : A5) (a6 : A6) (a7 : A7) (a8 : A8) (a9 : A9) (a10 : A10) (a11 : A11) (a12 : A12) (a13 : A13) (a14 : A14) (a15 : A15) (a16 : A16), I a1 a2 a3 a4 a5 a6 a7 a8 a9 a10 a11 a12 a13 a14 a15 a16 → (∀ (b1 : A1) (b2 : A2) (b3 : A3) (b4 : A4) (b5 : A5) (b6 : A6) (b7 : A7) (b8 : A8) (b9 : A9) (b10 : A10) (b11 : A11) (b12 : A12) (b13 : A13) (b14 : A14) (b15 : A15) (b16 : A16), I b1 b2 b3 b4 b5 b6 b7 b8 b9 b10 b11 b12 b13 b14 b15 b16 → μ b1 b2 b3 b4 b5 b6 b7 b8 b9 b10 b11 b12 b13 b14 b15 b16 < μ a1 a2 a3 a4 a5 a6 a7 a8 a9 a10 a11 a12 a13 a14 a15 a16 → W n b1 b2 b3 b4 b5 b6 b7 b8 b9 b10 b11 b12 b13 b14 b15 b16) → W (n + 1) a1 a2 a3 a4 a5 a6 a7 a8 a9 a10 a11 a12 a13 a14 a15 a16) (a1 : A1) (a2 : A2) (a3 : A3) (a4 : A4) (a5 : A5) (a6 : A6) (a7 : A7) (a8 : A8) (a9 : A9) (a10 : A10) (a11 : A11) (a12 : A12) (a13 : A13) (a14 : A14) (a15 : A15) (a16 : A16) (h : I a1 a2 a3 a4 a5 a6 a7 a8 a9 a10 a11 a12 a13 a14 a15 a16) : ∃ n, W n a1 a2 a3 a4 a5 a6 a7 a8 a9 a10 a11 a12 a13 a14 a15 a16 :=
  loop_m (σ := A1 × A2 × A3 × A4 × A5 × A6 × A7 × A8 × A9 × A10 × A11 × A12 × A13 × A14 × A15 × A16) (fun n s => W n s.1 s.2.1 s.2.2.1 s.2.2.2.1 s.2.2.2.2.1 s.2.2.2.2.2.1 s.2.2.2.2.2.2.1 s.2.2.2.2.2.2.2.1 s.2.2.2.2.2.2.2.2.1 s.2.2.2.2.2.2.2.2.2.1 s.2.2.2.2.2.2.2.2.2.2.1 s.2.2.2.2.2.2.2.2.2.2.2.1 s.2.2.2.2.2.2.2.2.2.2.2.2.1 s.2.2.2.2.2.2.2.2.2.2.2.2.2.1 s.2.2.2.2.2.2.2.2.2.2.2.2.2.2.1 s.2.2.2.2.2.2.2.2.2.2.2.2.2.2.2) (fun s => I s.1 s.2.1 s.2.2.1 s.2.2.2.1 s.2.2.2.2.1 s.2.2.2.2.2.1 s.2.2.2.2.2.2.1 s.2.2.2.2.2.2.2.1 s.2.2.2.2.2.2.2.2.1 s.2.2.2.2.2.2.2.2.2.1 s.2.2.2.2.2.2.2.2.2.2.1 s.2.2.2.2.2.2.2.2.2.2.2.1 s.2.2.2.2.2.2.2.2.2.2.2.2.1 s.2.2.2.2.2.2.2.2.2.2.2.2.2.1 s.2.2.2.2.2.2.2.2.2.2.2.2.2.2.1 s.2.2.2.2.2.2.2.2.2.2.2.2.2.2.2) (fun s => μ s.1 s.2.1 s.2.2.1 s.2.2.2.1 s.2.2.2.2.1 s.2.2.2.2.2.1 s.2.2.2.2.2.2.1 s.2.2.2.2.2.2.2.1 s.2.2.2.2.2.2.2.2.1 s.2.2.2.2.2.2.2.2.2.1 s.2.2.2.2.2.2.2.2.2.2.1 s.2.2.2.2.2.2.2.2.2.2.2.1 s.2.2.2.2.2.2.2.2.2.2.2.2.1 s.2.2.2.2.2.2.2.2.2.2.2.2.2.1 s.2.2.2.2.2.2.2.2.2.2.2.2.2.2.1 s.2.2.2.2.2.2.2.2.2.2.2.2.2.2.2) (fun n s hI hk => hs n s.1 s.2.1 s.2.2.1 s.2.2.2.1 s.2.2.2.2.1 s.2.2.2.2.2.1 s.2.2.2.2.2.2.1 s.2.2.2.2.2.2.2.1 s.2.2.2.2.2.2.2.2.1 s.2.2.2.2.2.2.2.2.2.1 s.2.2.2.2.2.2.2.2.2.2.1 s.2.2.2.2.2.2.2.2.2.2.2.1 s.2.2.2.2.2.2.2.2.2.2.2.2.1 s.2.2.2.2.2.2.2.2.2.2.2.2.2.1 s.2.2.2.2.2.2.2.2.2.2.2.2.2.2.1 s.2.2.2.2.2.2.2.2.2.2.2.2.2.2.2 hI (fun b1 b2 b3 b4 b5 b6 b7 b8 b9 b10 b11 b12 b13 b14 b15 b16 h9 hm => hk (b1, b2, b3, b4, b5, b6, b7, b8, b9, b10, b11, b12, b13, b14, b15, b16) h9 hm)) (a1, a2, a3, a4, a5, a6, a7, a8, a9, a10, a11, a12, a13, a14, a15, a16) h
theorem pk_least (P : Nat → Prop) (h : ∃ k, P k) : ∃ k, P k ∧ ∀ j, j < k → ¬ P j := by
  obtain ⟨k, hk⟩ := h
  induction k using Nat.strongRecOn with
  | ind k ih =>
    by_cases e : ∃ j, j < k ∧ P j
    · obtain ⟨j, hj, pj⟩ := e
      exact ih j hj pj
    · exact ⟨k, hk, fun j hj pj => e ⟨j, hj, pj⟩⟩
theorem rp1 {ρ A1 : Type} (W : Nat → (ρ → Prop) → A1 → Prop) (ok : A1 → Prop) (μ : A1 → Nat) (val : A1 → ρ)
    (hs : ∀ (d : Nat) (post : ρ → Prop) (a1 : A1), ok a1 → post (val a1) → (∀ (post' : ρ → Prop) (b1 : A1), ok b1 → μ b1 < μ a1 → post' (val b1) → W d post' b1) → W (d + 1) post a1) :
    ∀ (d : Nat) (post : ρ → Prop) (a1 : A1), ok a1 → μ a1 < d → post (val a1) → W d post a1 := by
  intro d
  induction d with
  | zero => intro post a1 _ h; omega
  | succ d ih =>
    intro post a1 ho hm hp
    exact hs d post a1 ho hp (fun post' b1 ho' hm' hp' => ih post' b1 ho' (by omega) hp')
theorem rp2 {ρ A1 A2 : Type} (W : Nat → (ρ → Prop) → A1 → A2 → Prop) (ok : A1 → A2 → Prop) (μ : A1 → A2 → Nat) (val : A1 → A2 → ρ)
    (hs : ∀ (d : Nat) (post : ρ → Prop) (a1 : A1) (a2 : A2), ok a1 a2 → post (val a1 a2) → (∀ (post' : ρ → Prop) (b1 : A1) (b2 : A2), ok b1 b2 → μ b1 b2 < μ a1 a2 → post' (val b1 b2) → W d post' b1 b2) → W (d + 1) post a1 a2) :
    ∀ (d : Nat) (post : ρ → Prop) (a1 : A1) (a2 : A2), ok a1 a2 → μ a1 a2 < d → post (val a1 a2) → W d post a1 a2 := by
  intro d
  induction d with
  | zero => intro post a1 a2 _ h; omega
  | succ d ih =>
    intro post a1 a2 ho hm hp
    exact hs d post a1 a2 ho hp (fun post' b1 b2 ho' hm' hp' => ih post' b1 b2 ho' (by omega) hp')
theorem rp3 {ρ A1 A2 A3 : Type} (W : Nat → (ρ → Prop) → A1 → A2 → A3 → Prop) (ok : A1 → A2 → A3 → Prop) (μ : A1 → A2 → A3 → Nat) (val : A1 → A2 → A3 → ρ)
    (hs : ∀ (d : Nat) (post : ρ → Prop) (a1 : A1) (a2 : A2) (a3 : A3), ok a1 a2 a3 → post (val a1 a2 a3) → (∀ (post' : ρ → Prop) (b1 : A1) (b2 : A2) (b3 : A3), ok b1 b2 b3 → μ b1 b2 b3 < μ a1 a2 a3 → post' (val b1 b2 b3) → W d post' b1 b2 b3) → W (d + 1) post a1 a2 a3) :
    ∀ (d : Nat) (post : ρ → Prop) (a1 : A1) (a2 : A2) (a3 : A3), ok a1 a2 a3 → μ a1 a2 a3 < d → post (val a1 a2 a3) → W d post a1 a2 a3 := by
  intro d
  induction d with
  | zero => intro post a1 a2 a3 _ h; omega
  | succ d ih =>
    intro post a1 a2 a3 ho hm hp
    exact hs d post a1 a2 a3 ho hp (fun post' b1 b2 b3 ho' hm' hp' => ih post' b1 b2 b3 ho' (by omega) hp')
theorem rp4 {ρ A1 A2 A3 A4 : Type} (W : Nat → (ρ → Prop) → A1 → A2 → A3 → A4 → Prop) (ok : A1 → A2 → A3 → A4 → Prop) (μ : A1 → A2 → A3 → A4 → Nat) (val : A1 → A2 → A3 → A4 → ρ)
    (hs : ∀ (d : Nat) (post : ρ → Prop) (a1 : A1) (a2 : A2) (a3 : A3) (a4 : A4), ok a1 a2 a3 a4 → post (val a1 a2 a3 a4) → (∀ (post' : ρ → Prop) (b1 : A1) (b2 : A2) (b3 : A3) (b4 : A4), ok b1 b2 b3 b4 → μ b1 b2 b3 b4 < μ a1 a2 a3 a4 → post' (val b1 b2 b3 b4) → W d post' b1 b2 b3 b4) → W (d + 1) post a1 a2 a3 a4) :
    ∀ (d : Nat) (post : ρ → Prop) (a1 : A1) (a2 : A2) (a3 : A3) (a4 : A4), ok a1 a2 a3 a4 → μ a1 a2 a3 a4 < d → post (val a1 a2 a3 a4) → W d post a1 a2 a3 a4 := by
  intro d
  induction d with
  | zero => intro post a1 a2 a3 a4 _ h; omega
  | succ d ih =>
    intro post a1 a2 a3 a4 ho hm hp
    exact hs d post a1 a2 a3 a4 ho hp (fun post' b1 b2 b3 b4 ho' hm' hp' => ih post' b1 b2 b3 b4 ho' (by omega) hp')
theorem rp5 {ρ A1 A2 A3 A4 A5 : Type} (W : Nat → (ρ → Prop) → A1 → A2 → A3 → A4 → A5 → Prop) (ok : A1 → A2 → A3 → A4 → A5 → Prop) (μ : A1 → A2 → A3 → A4 → A5 → Nat) (val : A1 → A2 → A3 → A4 → A5 → ρ)
    (hs : ∀ (d : Nat) (post : ρ → Prop) (a1 : A1) (a2 : A2) (a3 : A3) (a4 : A4) (a5 : A5), ok a1 a2 a3 a4 a5 → post (val a1 a2 a3 a4 a5) → (∀ (post' : ρ → Prop) (b1 : A1) (b2 : A2) (b3 : A3) (b4 : A4) (b5 : A5), ok b1 b2 b3 b4 b5 → μ b1 b2 b3 b4 b5 < μ a1 a2 a3 a4 a5 → post' (val b1 b2 b3 b4 b5) → W d post' b1 b2 b3 b4 b5) → W (d + 1) post a1 a2 a3 a4 a5) :
    ∀ (d : Nat) (post : ρ → Prop) (a1 : A1) (a2 : A2) (a3 : A3) (a4 : A4) (a5 : A5), ok a1 a2 a3 a4 a5 → μ a1 a2 a3 a4 a5 < d → post (val a1 a2 a3 a4 a5) → W d post a1 a2 a3 a4 a5 := by
  intro d
  induction d with
  | zero => intro post a1 a2 a3 a4 a5 _ h; omega
  | succ d ih =>
    intro post a1 a2 a3 a4 a5 ho hm hp
    exact hs d post a1 a2 a3 a4 a5 ho hp (fun post' b1 b2 b3 b4 b5 ho' hm' hp' => ih post' b1 b2 b3 b4 b5 ho' (by omega) hp')
theorem rp6 {ρ A1 A2 A3 A4 A5 A6 : Type} (W : Nat → (ρ → Prop) → A1 → A2 → A3 → A4 → A5 → A6 → Prop) (ok : A1 → A2 → A3 → A4 → A5 → A6 → Prop) (μ : A1 → A2 → A3 → A4 → A5 → A6 → Nat) (val : A1 → A2 → A3 → A4 → A5 → A6 → ρ)
    (hs : ∀ (d : Nat) (post : ρ → Prop) (a1 : A1) (a2 : A2) (a3 : A3) (a4 : A4) (a5 : A5) (a6 : A6), ok a1 a2 a3 a4 a5 a6 → post (val a1 a2 a3 a4 a5 a6) → (∀ (post' : ρ → Prop) (b1 : A1) (b2 : A2) (b3 : A3) (b4 : A4) (b5 : A5) (b6 : A6), ok b1 b2 b3 b4 b5 b6 → μ b1 b2 b3 b4 b5 b6 < μ a1 a2 a3 a4 a5 a6 → post' (val b1 b2 b3 b4 b5 b6) → W d post' b1 b2 b3 b4 b5 b6) → W (d + 1) post a1 a2 a3 a4 a5 a6) :
    ∀ (d : Nat) (post : ρ → Prop) (a1 : A1) (a2 : A2) (a3 : A3) (a4 : A4) (a5 : A5) (a6 : A6), ok a1 a2 a3 a4 a5 a6 → μ a1 a2 a3 a4 a5 a6 < d → post (val a1 a2 a3 a4 a5 a6) → W d post a1 a2 a3 a4 a5 a6 := by
  intro d
  induction d with
  | zero => intro post a1 a2 a3 a4 a5 a6 _ h; omega
  | succ d ih =>
    intro post a1 a2 a3 a4 a5 a6 ho hm hp
    exact hs d post a1 a2 a3 a4 a5 a6 ho hp (fun post' b1 b2 b3 b4 b5 b6 ho' hm' hp' => ih post' b1 b2 b3 b4 b5 b6 ho' (by omega) hp')
theorem rec_p {σ ρ : Type} (W : Nat → (ρ → Prop) → σ → Prop) (ok : σ → Prop) (μ : σ → Nat) (val : σ → ρ)
    (hs : ∀ d s post, ok s → post (val s) → (∀ s' post', ok s' → μ s' < μ s → post' (val s') → W d post' s') → W (d + 1) post s) :
    ∀ d s post, ok s → μ s < d → post (val s) → W d post s := by
  intro d
  induction d with
  | zero => intro s post _ h; omega
  | succ d ih =>
    intro s post ho hm hp
    exact hs d s post ho hp (fun s' post' ho' hm' hp' => ih s' post' ho' (by omega) hp')
theorem rec_q {σ ρ : Type} (W : Nat → (ρ → Prop) → σ → Prop) (ok : σ → Prop) (μ : σ → Nat) (Q : σ → ρ → Prop)
    (hs : ∀ d s post, ok s → (∀ r, Q s r → post r) → (∀ s' post', ok s' → μ s' < μ s → (∀ r, Q s' r → post' r) → W d post' s') → W (d + 1) post s) :
    ∀ d s post, ok s → μ s < d → (∀ r, Q s r → post r) → W d post s := by
  intro d
  induction d with
  | zero => intro s post _ h; omega
  | succ d ih =>
    intro s post ho hm hp
    exact hs d s post ho hp (fun s' post' ho' hm' hp' => ih s' post' ho' (by omega) hp')
def bx_sum (f : Nat → Int32) : Nat → Int32
  | 0 => 0
  | n + 1 => bx_sum f n + f n
theorem ek_u {A : Prop} {B : Nat → Prop} {k N : Nat} (hk : k < N) (h : B k) : (some k = none → A) ∧ (∀ y : Nat, some k = some y → (y < N ∧ B y)) :=
  ⟨fun z => absurd z (Option.some_ne_none k), fun _ e => (by cases e; exact ⟨hk, h⟩)⟩
theorem ek_nu {A : Prop} {B : Nat → Prop} (h : A) : ((none : Option Nat) = none → A) ∧ (∀ y : Nat, (none : Option Nat) = some y → B y) :=
  ⟨fun _ => h, fun _ e => (by cases e)⟩
theorem ek_if {c d A B : Prop} (e : c ↔ d) (f : d → A) (g : ¬ d → B) : (c → A) ∧ (¬ c → B) :=
  ⟨fun z => f (e.mp z), fun z => g (fun y => z (e.mpr y))⟩
theorem ek_v {α : Sort _} {P : α → Prop} {a b : α} (e : a = b) (h : P b) : P a := e ▸ h
theorem co_some {x : Option Nat} {A : Prop} {B : Nat → Prop} (i : Nat) (h : B i) (hx : x = some i := by rfl) : (x = none → A) ∧ (∀ y : Nat, x = some y → B y) := by
  subst hx
  exact ⟨fun e => (nomatch e), fun y e => Option.some.inj e ▸ h⟩
theorem co_none {x : Option Nat} {A : Prop} {B : Nat → Prop} (h : A) (hx : x = none := by rfl) : (x = none → A) ∧ (∀ y : Nat, x = some y → B y) := by
  subst hx
  exact ⟨fun _ => h, fun y e => (nomatch e)⟩
theorem co_any {x : Option Nat} {A : Prop} {B : Nat → Prop} (hn : x = none → A) (hs : ∀ i : Nat, x = some i → B i) : (x = none → A) ∧ (∀ y : Nat, x = some y → B y) := ⟨hn, hs⟩
theorem co_2 {P : Nat → Prop} (h0 : P 0) (h1 : P 1) {i : Nat} (hi : i < 2) : P i :=
  match i, hi with
  | 0, _ => h0
  | 1, _ => h1
theorem co_3 {P : Nat → Prop} (h0 : P 0) (h1 : P 1) (h2 : P 2) {i : Nat} (hi : i < 3) : P i :=
  match i, hi with
  | 0, _ => h0
  | 1, _ => h1
  | 2, _ => h2
theorem co_4 {P : Nat → Prop} (h0 : P 0) (h1 : P 1) (h2 : P 2) (h3 : P 3) {i : Nat} (hi : i < 4) : P i :=
  match i, hi with
  | 0, _ => h0
  | 1, _ => h1
  | 2, _ => h2
  | 3, _ => h3
theorem co_dec {N : Nat} {P : Nat → Prop} [DecidablePred P] (h : (List.range N).all (fun i => decide (P i)) = true) {i : Nat} (hi : i < N) : P i := by
  have := List.all_eq_true.mp h i (List.mem_range.mpr hi)
  exact of_decide_eq_true this
theorem co_tab {α : Type} {l : List α} {d : α} {P : α → Prop} (h : ∀ a, a ∈ l → P a) {i : Nat} (hi : i < l.length) : P (l.getD i d) := by
  rw [List.getD_eq_getElem?_getD, List.getElem?_eq_getElem hi]
  exact h _ (List.getElem_mem hi)
theorem pk_mu {x : Int32} {L : Nat} (h0 : ¬ x < 0) (h : ¬ nI L ≤ x) (hL : L < 2 ^ 31) : ∃ j : Nat, j < L ∧ x = nI j ∧ x + 1 = nI (j + 1) ∧ x.toNatClampNeg = j ∧ L - (x + 1).toNatClampNeg < L - x.toNatClampNeg := by
  obtain ⟨j, hj, rfl⟩ := nI_of h0
  have hl : j < L := Nat.not_le.mp fun q => h (nI_le q hj)
  refine ⟨j, hl, rfl, nI_1 j, nI_clamp hj, ?_⟩
  rw [nI_1, nI_clamp (by omega), nI_clamp hj]
  omega
theorem op_s {α : Type} {r : Option α} {A : Prop} {B : α → Prop} {y : α} (h : r = some y) (b : B y) : (r = none → A) ∧ ∀ z, r = some z → B z :=
  ⟨fun e => (by rw [h] at e; cases e), fun z e => (by rw [h] at e; cases e; exact b)⟩
def l_holds {α : Type} (a : Nat → Option Nat) (LP : List Nat) (p : Nat → α) (c : Nat) (b : Nat → α) : Prop :=
  ∀ j, j < c → ∃ y, a j = some y ∧ y ∈ LP ∧ p y = b j
theorem l_holds_0 {α : Type} {a : Nat → Option Nat} {LP : List Nat} {p b : Nat → α} : l_holds a LP p 0 b := fun j h => absurd h (Nat.not_lt_zero j)
theorem l_in_new (LP : List Nat) (q : Nat) : q ∈ LP ++ [q] := List.mem_append.mpr (Or.inr (List.mem_singleton.mpr rfl))
def l_sum (b : Nat → Int32) : Nat → Int32
  | 0 => 0
  | k + 1 => l_sum b k + b k
theorem sb_shr0 (x : Int32) : x >>> ((0 : Int32) &&& 31) = x := by
  rw [show ((0 : Int32) &&& 31) = 0 by decide]
  simp
theorem sb_shl0 (x : Int32) : x <<< ((0 : Int32) &&& 31) = x := by
  rw [show ((0 : Int32) &&& 31) = 0 by decide]
  simp
theorem sb_cl0 : (0 : Int32).toNatClampNeg = 0 := by decide
theorem sb_m1 {p : Nat} (h : 0 < p) : nI p + (-1) = nI (p - 1) := by
  obtain ⟨q, rfl⟩ : ∃ q, p = q + 1 := ⟨p - 1, by omega⟩
  exact pk_m1 q
def sb_b (c : Nat) : Int32 := (nI c).toInt8.toInt32
theorem sb_byte : ∀ c, c < 256 → sb_b c &&& 255 = nI c ∧ ((nI c).toUInt32 % 65536).toInt32 = nI c ∧ nI c ≤ 255 := by decide +kernel
def sb_Fit (a : Nat → Int32) : Prop := ∀ j, fits .byte (.int (a j)) = true
def sb_Lat (t : Nat → Nat) (n : Nat) (a : Nat → Int32) : Prop := ∀ j, j < n → t j < 256 ∧ a j = sb_b (t j)
theorem sb_fitB (c : Nat) : fits .byte (.int (sb_b c)) = true := pk_fb _
theorem sb_fit0 : sb_Fit (fun _ => 0) := fun _ => by
  show fits .byte (.int 0) = true
  decide
theorem sb_fitU {a : Nat → Int32} {k : Nat} {x : Int32} (h : sb_Fit a) (hx : fits .byte (.int x) = true) : sb_Fit (upd a k x) := by
  intro j
  by_cases e : j = k
  · subst e
    rw [pk_us]
    exact hx
  · rw [pk_un e]
    exact h j
def sb_cat (t : Nat → Nat) (n : Nat) (s : Nat → Nat) : Nat → Nat := fun j => if j < n then t j else s (j - n)
theorem sb_cat_lo {t s : Nat → Nat} {n j : Nat} (h : j < n) : sb_cat t n s j = t j := if_pos h
theorem sb_cat_hi {t s : Nat → Nat} {n j : Nat} : sb_cat t n s (n + j) = s j := by
  show (if n + j < n then t (n + j) else s (n + j - n)) = s j
  rw [if_neg (by omega), Nat.add_sub_cancel_left]
theorem sb_latPut {t s : Nat → Nat} {n w : Nat} {a a' : Nat → Int32} (h : sb_Lat t n a) (hk : ∀ j, j < n → a' j = a j) (hs : ∀ i, i < w → s i < 256 ∧ a' (n + i) = sb_b (s i)) : sb_Lat (sb_cat t n s) (n + w) a' := by
  intro j hj
  by_cases e : j < n
  · rw [sb_cat_lo e, hk j e]
    exact h j e
  · obtain ⟨i, rfl⟩ : ∃ i, j = n + i := ⟨j - n, by omega⟩
    rw [sb_cat_hi]
    exact hs i (by omega)
theorem sb_latKeep {t : Nat → Nat} {n : Nat} {a a' : Nat → Int32} (h : sb_Lat t n a) (hk : ∀ j, j < n → a' j = a j) : sb_Lat t n a' := fun j hj => by
  rw [hk j hj]
  exact h j hj
def sb_cap (q m : Nat) : Nat := if q ≤ m then m else if 2 * m + 2 < q then q else 2 * m + 2
def sb_Room (q m mc ms : Nat) : Prop := q ≤ m ∨ (1 ≤ mc ∧ sb_cap q m ≤ ms ∧ sb_cap q m ≤ 65536)
theorem sb_cap_ge (q m : Nat) : q ≤ sb_cap q m := by
  unfold sb_cap
  split
  · omega
  · split <;> omega
theorem sb_cap_gem (q m : Nat) : m ≤ sb_cap q m := by
  unfold sb_cap
  split
  · omega
  · split <;> omega
theorem sb_cap_le {q m mc ms : Nat} (hm : m ≤ 65536) (hr : sb_Room q m mc ms) : sb_cap q m ≤ 65536 := by
  rcases hr with h | h
  · rw [sb_cap, if_pos h]
    exact hm
  · exact h.2.2
theorem sb_at {P : Int32 → Prop} {x y : Int32} (e : x = y) (h : P y) : P x := e ▸ h
def sb_dg (w : Nat) : Nat := if w < 10 then 1 else if w < 100 then 2 else if w < 1000 then 3 else if w < 10000 then 4 else if w < 100000 then 5 else if w < 1000000 then 6 else if w < 10000000 then 7 else if w < 100000000 then 8 else if w < 1000000000 then 9 else 10
def sb_dec (v : Nat) : Nat → Nat := fun i => 48 + v / 10 ^ (sb_dg v - 1 - i) % 10
theorem sb_dg_in (w : Nat) : 1 ≤ sb_dg w ∧ sb_dg w ≤ 10 := by
  unfold sb_dg
  constructor <;> (repeat' split) <;> omega
theorem sb_dg100 {w : Nat} (h : 100 ≤ w) (hw : w < 2 ^ 31) : sb_dg w = sb_dg (w / 100) + 2 := by
  rw [sb_dg, sb_dg, if_neg (show ¬ w < 10 by omega), if_neg (show ¬ w < 100 by omega)]
  by_cases h3 : w < 1000
  · rw [if_pos h3, if_pos (show w / 100 < 10 by omega)]
  rw [if_neg h3, if_neg (show ¬ w / 100 < 10 by omega)]
  by_cases h4 : w < 10000
  · rw [if_pos h4, if_pos (show w / 100 < 100 by omega)]
  rw [if_neg h4, if_neg (show ¬ w / 100 < 100 by omega)]
  by_cases h5 : w < 100000
  · rw [if_pos h5, if_pos (show w / 100 < 1000 by omega)]
  rw [if_neg h5, if_neg (show ¬ w / 100 < 1000 by omega)]
  by_cases h6 : w < 1000000
  · rw [if_pos h6, if_pos (show w / 100 < 10000 by omega)]
  rw [if_neg h6, if_neg (show ¬ w / 100 < 10000 by omega)]
  by_cases h7 : w < 10000000
  · rw [if_pos h7, if_pos (show w / 100 < 100000 by omega)]
  rw [if_neg h7, if_neg (show ¬ w / 100 < 100000 by omega)]
  by_cases h8 : w < 100000000
  · rw [if_pos h8, if_pos (show w / 100 < 1000000 by omega)]
  rw [if_neg h8, if_neg (show ¬ w / 100 < 1000000 by omega)]
  by_cases h9 : w < 1000000000
  · rw [if_pos h9, if_pos (show w / 100 < 10000000 by omega)]
  rw [if_neg h9, if_neg (show ¬ w / 100 < 10000000 by omega)]
  rw [if_pos (show w / 100 < 100000000 by omega)]
theorem sb_negT {w : Nat} (h : w < 2 ^ 31) : (-nI w).toInt = -(w : Int) := by
  rw [Int32.toInt_neg, nI_toInt h]
  exact Int.bmod_eq_of_le (by omega) (by omega)
theorem sb_nle {a b : Nat} (ha : a < 2 ^ 31) (hb : b < 2 ^ 31) : -nI a ≤ -nI b ↔ b ≤ a := by
  rw [Int32.le_iff_toInt_le, sb_negT ha, sb_negT hb]
  omega
theorem sb_nlt {a b : Nat} (ha : a < 2 ^ 31) (hb : b < 2 ^ 31) : -nI a < -nI b ↔ b < a := by
  rw [Int32.lt_iff_toInt_lt, sb_negT ha, sb_negT hb]
  omega
theorem sb_cmp {A B : Prop} {x : Int32} (v c : Nat) (f : c ≤ v → A) (g : v < c → B) (hv : v < 2 ^ 31) (hx : x = -nI c := by rfl) (hc : c < 2 ^ 31 := by omega) : (-nI v ≤ x → A) ∧ (¬ -nI v ≤ x → B) := by
  subst hx
  rw [sb_nle hv hc]
  exact ⟨f, fun z => g (by omega)⟩
theorem sb_ndiv {w : Nat} (hw : w < 2 ^ 31) : (-nI w) / 100 = -nI (w / 100) := by
  apply Int32.toInt_inj.mp
  have h100 : (100 : Int32).toInt = 100 := by decide
  rw [Int32.toInt_div, sb_negT hw, h100, sb_negT (by omega), Int.neg_tdiv, Int.tdiv_eq_ediv_of_nonneg (by omega), Int.bmod_eq_of_le (by omega) (by omega)]
  omega
theorem sb_nrem {w : Nat} (hw : w < 2 ^ 31) : (-nI (w / 100)) * 100 - (-nI w) = nI (w % 100) := by
  have h := pk_rem (a := w) (d := 100) hw (by decide) (by decide)
  rw [pk_div hw (by decide) (by decide)] at h
  rw [← h]
  show (-nI (w / 100)) * nI 100 - (-nI w) = nI w - nI (w / 100) * nI 100
  rw [Int32.neg_mul, Int32.sub_neg, Int32.add_comm, ← Int32.sub_eq_add_neg]
end
section
/-! ===== Int32 by its bits: bt x i ===== -/
def bt (x : Int32) (i : Nat) : Bool := x.toBitVec.getLsbD i
theorem b_ext {x y : Int32} (h : ∀ i, i < 32 → bt x i = bt y i) : x = y := Int32.toBitVec_inj.mp (BitVec.eq_of_getLsbD_eq (fun i hi => h i hi))
theorem b_or (x y : Int32) (i : Nat) : bt (x ||| y) i = (bt x i || bt y i) := by unfold bt; rw [Int32.toBitVec_or, BitVec.getLsbD_or]
theorem b_and (x y : Int32) (i : Nat) : bt (x &&& y) i = (bt x i && bt y i) := by unfold bt; rw [Int32.toBitVec_and, BitVec.getLsbD_and]
theorem b_xor (x y : Int32) (i : Nat) : bt (x ^^^ y) i = (bt x i ^^ bt y i) := by unfold bt; rw [Int32.toBitVec_xor, BitVec.getLsbD_xor]
theorem b_big {x : Int32} {i : Nat} (h : 32 ≤ i) : bt x i = false := BitVec.getLsbD_of_ge _ _ h
theorem b_255 (i : Nat) : bt 255 i = decide (i < 8) := by
  rcases Nat.lt_or_ge i 32 with h | h
  · exact (by decide +kernel : ∀ i, i < 32 → bt 255 i = decide (i < 8)) i h
  · rw [b_big h, decide_eq_false (by omega)]
theorem b_65535 (i : Nat) : bt 65535 i = decide (i < 16) := by
  rcases Nat.lt_or_ge i 32 with h | h
  · exact (by decide +kernel : ∀ i, i < 32 → bt 65535 i = decide (i < 16)) i h
  · rw [b_big h, decide_eq_false (by omega)]
theorem b_m1 : ∀ i, i < 32 → bt (-1) i = true := by decide +kernel
theorem b_0 (i : Nat) : bt 0 i = false := BitVec.getLsbD_zero
theorem s_l : ∀ n, n < 32 → ((nI n &&& 31).toBitVec.smod 32).toNat = n := by decide +kernel
theorem s_u : ∀ n, n < 32 → (((nI n).toUInt32 &&& Int32.toUInt32 31).toBitVec % 32).toNat = n := by decide +kernel
theorem b_shl (n : Nat) (hn : n < 32) (x : Int32) {i : Nat} (hi : i < 32) : bt (x <<< (nI n &&& 31)) i = (decide (n ≤ i) && bt x (i - n)) := by
  unfold bt
  rw [Int32.toBitVec_shiftLeft]
  show (x.toBitVec <<< ((nI n &&& 31).toBitVec.smod 32).toNat).getLsbD i = _
  rw [s_l n hn, BitVec.getLsbD_shiftLeft]
  rcases Nat.lt_or_ge i n with h | h
  · simp [h, Nat.not_le.mpr h]
  · simp [hi, h, Nat.not_lt.mpr h]
theorem b_ushr (n : Nat) (hn : n < 32) (x : Int32) (i : Nat) : bt ((x.toUInt32 >>> ((nI n).toUInt32 &&& Int32.toUInt32 31)).toInt32) i = bt x (n + i) := by
  show (x.toUInt32 >>> ((nI n).toUInt32 &&& Int32.toUInt32 31)).toBitVec.getLsbD i = x.toUInt32.toBitVec.getLsbD (n + i)
  rw [UInt32.toBitVec_shiftRight]
  show (x.toUInt32.toBitVec >>> (((nI n).toUInt32 &&& Int32.toUInt32 31).toBitVec % 32).toNat).getLsbD i = _
  rw [s_u n hn, BitVec.getLsbD_ushiftRight]
theorem b_sshr (n : Nat) (hn : n < 32) (x : Int32) {i : Nat} (hi : i < 32) : bt (x >>> (nI n &&& 31)) i = if n + i < 32 then bt x (n + i) else bt x 31 := by
  unfold bt
  rw [Int32.toBitVec_shiftRight]
  show (x.toBitVec.sshiftRight ((nI n &&& 31).toBitVec.smod 32).toNat).getLsbD i = _
  rw [s_l n hn, BitVec.getLsbD_sshiftRight, BitVec.msb_eq_getLsbD_last]
  simp [hi]
theorem b_shl8 (x : Int32) {i : Nat} (hi : i < 32) : bt (x <<< ((8 : Int32) &&& 31)) i = (decide (8 ≤ i) && bt x (i - 8)) := b_shl 8 (by omega) x hi
theorem b_shl16 (x : Int32) {i : Nat} (hi : i < 32) : bt (x <<< ((16 : Int32) &&& 31)) i = (decide (16 ≤ i) && bt x (i - 16)) := b_shl 16 (by omega) x hi
theorem b_shl24 (x : Int32) {i : Nat} (hi : i < 32) : bt (x <<< ((24 : Int32) &&& 31)) i = (decide (24 ≤ i) && bt x (i - 24)) := b_shl 24 (by omega) x hi
theorem b_sshr8 (x : Int32) {i : Nat} (hi : i < 32) : bt (x >>> ((8 : Int32) &&& 31)) i = if 8 + i < 32 then bt x (8 + i) else bt x 31 := b_sshr 8 (by omega) x hi
/-! ===== nI under and, xor, >>>, one bit, 65535 ===== -/
theorem nx_and (a b : Nat) : nI a &&& nI b = nI (a &&& b) := by
  apply Int32.toBitVec_inj.1
  show BitVec.ofNat 32 a &&& BitVec.ofNat 32 b = BitVec.ofNat 32 (a &&& b)
  apply BitVec.eq_of_getLsbD_eq
  intro i hi
  simp [hi]
theorem nx_xor (a b : Nat) : nI a ^^^ nI b = nI (a ^^^ b) := by
  apply Int32.toBitVec_inj.1
  show BitVec.ofNat 32 a ^^^ BitVec.ofNat 32 b = BitVec.ofNat 32 (a ^^^ b)
  apply BitVec.eq_of_getLsbD_eq
  intro i hi
  simp [hi]
/-! ===== Int64 as a set of bits: test, set, clear ===== -/
theorem ts_nf {x : Bool} (h : ¬ x = false) : x = true := by cases x <;> first | rfl | exact absurd rfl h
theorem ts_nt {x : Bool} (h : ¬ x = true) : x = false := by cases x <;> first | rfl | exact absurd rfl h
theorem ts_bit {w : Int64} {s : UInt64} {j : Nat} (hj : j < 64) (hs : s.toNat = j) : ((w.toUInt64 >>> s).toInt64 &&& 1) = 0 ↔ w.toBitVec.getLsbD j = false := by
  have e : (w.toUInt64 >>> s).toInt64.toBitVec = w.toBitVec >>> j := by
    apply BitVec.eq_of_toNat_eq
    show (w.toUInt64 >>> s).toNat = _
    rw [UInt64.toNat_shiftRight, hs, Nat.mod_eq_of_lt hj, BitVec.toNat_ushiftRight]
    rfl
  rw [← Int64.toBitVec_inj, Int64.toBitVec_and, e]
  show w.toBitVec >>> j &&& 1#64 = 0#64 ↔ _
  constructor
  · intro h
    have t := congrArg (fun x => x.getLsbD 0) h
    simpa using t
  · intro h
    apply BitVec.eq_of_getLsbD_eq
    intro i hi
    cases i with
    | zero => simp [h]
    | succ i => simp
theorem ts_or {w m : Int64} {j : Nat} (hj : j < 64) (hm : m.toBitVec = BitVec.twoPow 64 j) : (w ||| m) = w ↔ w.toBitVec.getLsbD j = true := by
  rw [← Int64.toBitVec_inj, Int64.toBitVec_or, hm]
  constructor
  · intro h
    have t := congrArg (fun x => x.getLsbD j) h
    simp only [BitVec.getLsbD_or, BitVec.getLsbD_twoPow] at t
    simpa [hj] using t.symm
  · intro h
    apply BitVec.eq_of_getLsbD_eq
    intro i hi
    rw [BitVec.getLsbD_or, BitVec.getLsbD_twoPow]
    by_cases e : j = i
    · subst e; rw [h, Bool.true_or]
    · simp [e]
theorem ts_and {w m : Int64} {j : Nat} (hj : j < 64) (hm : m.toBitVec = BitVec.twoPow 64 j) : (w &&& (m ^^^ (-1))) = w ↔ w.toBitVec.getLsbD j = false := by
  have ha : (-1 : Int64).toBitVec = BitVec.allOnes 64 := by decide
  rw [← Int64.toBitVec_inj, Int64.toBitVec_and, Int64.toBitVec_xor, hm, ha]
  constructor
  · intro h
    have t := congrArg (fun x => x.getLsbD j) h
    simp only [BitVec.getLsbD_and, BitVec.getLsbD_xor, BitVec.getLsbD_twoPow, BitVec.getLsbD_allOnes] at t
    simpa [hj] using t.symm
  · intro h
    apply BitVec.eq_of_getLsbD_eq
    intro i hi
    rw [BitVec.getLsbD_and, BitVec.getLsbD_xor, BitVec.getLsbD_twoPow, BitVec.getLsbD_allOnes]
    by_cases e : j = i
    · subst e; rw [h, Bool.false_and]
    · simp [e, hi]
end
section
/-! own rows: bits of nI, counting, the two states as tuples of plain data -/
theorem bq_tb {n i : Nat} (hi : i < 32) : bt (nI n) i = n.testBit i := by
  show (BitVec.ofNat 32 n).getLsbD i = _
  rw [BitVec.getLsbD_ofNat, decide_eq_true hi, Bool.true_and]
theorem bq_or (a b : Nat) : nI a ||| nI b = nI (a ||| b) := by
  apply b_ext
  intro i hi
  rw [b_or, bq_tb hi, bq_tb hi, bq_tb hi, Nat.testBit_or]
def bq_an (m b : Nat) : Nat := m ^^^ (m &&& b)
theorem bq_an_tb (m b i : Nat) : (bq_an m b).testBit i = (m.testBit i && !b.testBit i) := by
  unfold bq_an
  rw [Nat.testBit_xor, Nat.testBit_and]
  cases m.testBit i <;> cases b.testBit i <;> rfl
theorem bq_anI (m b : Nat) : nI m &&& (nI b ^^^ (-1)) = nI (bq_an m b) := by
  apply b_ext
  intro i hi
  rw [b_and, b_xor, bq_tb hi, bq_tb hi, bq_tb hi, b_m1 i hi, bq_an_tb]
  cases m.testBit i <;> cases b.testBit i <;> rfl
theorem bq_le (m b : Nat) : bq_an m b ≤ m := by
  apply Nat.le_of_testBit
  intro i h
  rw [bq_an_tb] at h
  cases e : m.testBit i
  · rw [e] at h; exact absurd h (by simp)
  · rfl
theorem bq_bitx (x : Int32) {j : Nat} (hj : j < 32) : (x >>> (nI j &&& 31)) &&& 1 = if bt x j then 1 else 0 := by
  apply b_ext
  intro i hi
  rw [b_and, b_sshr j hj x hi]
  by_cases h0 : i = 0
  · subst h0
    have h1 : bt 1 0 = true := by decide
    rw [if_pos (by omega), h1, Bool.and_true, Nat.add_zero]
    cases bt x j <;> decide
  · have h1 : bt 1 i = false := by
      have : ∀ i, i < 32 → i ≠ 0 → bt 1 i = false := by decide +kernel
      exact this i hi h0
    rw [h1, Bool.and_false]
    cases bt x j
    · exact (b_0 i).symm
    · exact h1.symm
theorem bq_bit {m j : Nat} (hj : j < 32) : (nI m >>> (nI j &&& 31)) &&& 1 = if m.testBit j then 1 else 0 := by
  rw [bq_bitx _ hj, bq_tb hj]
theorem bq_cbit {m j : Nat} (hj : j < 32) : ((nI m ^^^ (-1)) >>> (nI j &&& 31)) &&& 1 = if m.testBit j then 0 else 1 := by
  rw [bq_bitx _ hj, b_xor, bq_tb hj, b_m1 j hj]
  cases m.testBit j <;> rfl
theorem bq_pow {j : Nat} (hj : j < 31) : (1 : Int32) <<< (nI j &&& 31) = nI (2 ^ j) := by
  have h2 : (2 : Nat) ^ j < 2 ^ 31 := Nat.pow_lt_pow_right (by decide) hj
  have := pk_shlN (n := 1) (nI j &&& 31) j (s_l j (by omega)) (by omega)
  rw [Nat.one_mul] at this
  exact this
theorem bq_half {x : Nat} (hx : x < 2 ^ 31) : nI x >>> ((1 : Int32) &&& 31) = nI (x / 2) := pk_shrN hx _ 1 (by decide)
theorem bq_low {x : Nat} (hx : x < 2 ^ 31) : nI x &&& 1 = nI (x % 2) := pk_andN (by omega) 1 (by decide)
theorem bq_low0 {x : Nat} (hx : x < 2 ^ 31) : nI x &&& 1 = 0 ↔ x % 2 = 0 := by
  rw [bq_low hx, ← nI_0, nI_eq (by omega) (by omega)]
theorem bq_bit0 {m j : Nat} (hj : j < 32) : (nI m >>> (nI j &&& 31)) &&& 1 = 0 ↔ m.testBit j = false := by
  rw [bq_bit hj]
  cases m.testBit j
  · exact ⟨fun _ => rfl, fun _ => rfl⟩
  · exact ⟨fun h => absurd h (by decide), fun h => absurd h (by decide)⟩
theorem bq_single : ∀ o, o < 64 → o ≠ 0 → o &&& (o - 1) = 0 → ∃ j, j < 6 ∧ o = 2 ^ j := by decide +kernel
theorem bq_sub1 (x : Int32) : x + (-1) = x - 1 := (Int32.sub_eq_add_neg x 1).symm
theorem bq_p2 {n : Nat} (h : n ≤ 6) : 2 ^ n ≤ 64 := by
  have : (2 : Nat) ^ n ≤ 2 ^ 6 := Nat.pow_le_pow_right (by decide) h
  omega
theorem bq_lt2 {n m : Nat} (h : ∀ i, m.testBit i = true → i < n) : m < 2 ^ n := by
  apply Nat.lt_pow_two_of_testBit
  intro i hi
  cases e : m.testBit i
  · rfl
  · exact absurd (h i e) (by omega)
theorem bq_tlt {n m i : Nat} (h : m < 2 ^ n) (hi : m.testBit i = true) : i < n := by
  rcases Nat.lt_or_ge i n with h1 | h1
  · exact h1
  · have : m < 2 ^ i := Nat.lt_of_lt_of_le h (Nat.pow_le_pow_right (by decide) h1)
    rw [Nat.testBit_lt_two_pow this] at hi
    exact absurd hi (by decide)
theorem bq_ext {n a b : Nat} (ha : a < 2 ^ n) (hb : b < 2 ^ n) (h : ∀ i, i < n → a.testBit i = b.testBit i) : a = b := by
  apply Nat.eq_of_testBit_eq
  intro i
  rcases Nat.lt_or_ge i n with h1 | h1
  · exact h i h1
  · have p : (2 : Nat) ^ n ≤ 2 ^ i := Nat.pow_le_pow_right (by decide) h1
    rw [Nat.testBit_lt_two_pow (by omega), Nat.testBit_lt_two_pow (by omega)]
theorem bq_ones {n i : Nat} : (2 ^ n - 1).testBit i = decide (i < n) := Nat.testBit_two_pow_sub_one n i
theorem bq_one {j i : Nat} : (2 ^ j).testBit i = decide (j = i) := Nat.testBit_two_pow
theorem bq_z {m : Nat} : m = 0 ↔ ∀ i, m.testBit i = false := by
  constructor
  · intro h i; rw [h, Nat.zero_testBit]
  · intro h; exact Nat.eq_of_testBit_eq (fun i => by rw [h i, Nat.zero_testBit])
theorem bq_nI0 {m : Nat} (h : m < 2 ^ 31) : nI m = 0 ↔ m = 0 := by rw [← nI_0, nI_eq h (by omega)]
theorem bq_andlt {a b n : Nat} (h : a < n) : a &&& b < n := Nat.lt_of_le_of_lt Nat.and_le_left h
theorem bq_xorlt {a b n : Nat} (ha : a < 2 ^ n) (hb : b < 2 ^ n) : a ^^^ b < 2 ^ n := Nat.xor_lt_two_pow ha hb
/-- pigeons -/
theorem pg_le : ∀ (m n : Nat) (f : Nat → Nat), (∀ i, i < n → f i < m) → (∀ i j, i < j → j < n → f i ≠ f j) → n ≤ m := by
  intro m
  induction m with
  | zero =>
    intro n f h _
    rcases Nat.eq_zero_or_pos n with z | z
    · omega
    · exact absurd (h 0 z) (by omega)
  | succ m ih =>
    intro n f h hd
    rcases Nat.eq_zero_or_pos n with z | z
    · omega
    · by_cases hm : ∃ k, k < n ∧ f k = m
      · obtain ⟨k, hk, ek⟩ := hm
        have := ih (n - 1) (fun i => if i < k then f i else f (i + 1)) (by
          intro i hi
          split
          · next c =>
            have := h i (by omega)
            have := hd i k c hk
            omega
          · next c =>
            have := h (i + 1) (by omega)
            have := hd k (i + 1) (by omega) (by omega)
            omega) (by
          intro i j hij hj
          split <;> split <;> first | exact hd _ _ (by omega) (by omega) | omega)
        omega
      · have := ih n f (by
          intro i hi
          have := h i hi
          have : f i ≠ m := fun e => hm ⟨i, hi, e⟩
          omega) hd
        omega
/-- counting -/
def ct_n (p : Nat → Bool) : Nat → Nat
  | 0 => 0
  | n + 1 => ct_n p n + (if p n then 1 else 0)
theorem ct_le (p : Nat → Bool) : ∀ n, ct_n p n ≤ n := by
  intro n
  induction n with
  | zero => exact Nat.le_refl _
  | succ n ih => unfold ct_n; split <;> omega
theorem ct_mono {p q : Nat → Bool} : ∀ n, (∀ i, i < n → p i = true → q i = true) → ct_n p n ≤ ct_n q n := by
  intro n
  induction n with
  | zero => intro _; exact Nat.le_refl _
  | succ n ih =>
    intro h
    have := ih (fun i hi => h i (by omega))
    unfold ct_n
    have h2 := h n (by omega)
    cases e : p n
    · simp only [Bool.false_eq_true, if_false]; split <;> omega
    · rw [h2 e]; simp only [if_true]; omega
theorem ct_lt {p q : Nat → Bool} {k : Nat} : ∀ n, (∀ i, i < n → p i = true → q i = true) → k < n → p k = false → q k = true → ct_n p n < ct_n q n := by
  intro n
  induction n with
  | zero => intro _ h; omega
  | succ n ih =>
    intro h hk h1 h2
    unfold ct_n
    by_cases e : k = n
    · subst e
      have := ct_mono k (fun i hi => h i (by omega))
      rw [h1, h2]
      simp only [Bool.false_eq_true, if_false, if_true]
      omega
    · have := ih (fun i hi => h i (by omega)) (by omega) h1 h2
      have h3 := h n (by omega)
      cases e2 : p n
      · simp only [Bool.false_eq_true, if_false]; split <;> omega
      · rw [h3 e2]; simp only [if_true]; omega
/-- stores into plain arrays -/
def up_n (f : Nat → Nat) (k x : Nat) : Nat → Nat := fun j => if j = k then x else f j
theorem up_s {f : Nat → Nat} {k x : Nat} : up_n f k x k = x := if_pos rfl
theorem up_o {f : Nat → Nat} {k x j : Nat} (h : j ≠ k) : up_n f k x j = f j := if_neg h
theorem up_I {f : Nat → Nat} {k x : Nat} (hk : k < 2 ^ 31) : upd (fun i => nI (f i)) (nI k).toNatClampNeg (nI x) = (fun i => nI (up_n f k x i)) := by
  funext i
  rw [nI_clamp hk]
  unfold upd up_n
  split <;> rfl
theorem up_L {f : Nat → Nat} {k x : Nat} : upd (fun i => nI (f i)) k (nI x) = (fun i => nI (up_n f k x i)) := by
  funext i
  unfold upd up_n
  split <;> rfl
theorem up_R {f : Nat → Int32} {k : Nat} {x : Int32} (hk : k < 2 ^ 31) : upd f (nI k).toNatClampNeg x = upd f k x := by rw [nI_clamp hk]
theorem up_rd {f : Nat → Nat} {k : Nat} (hk : k < 2 ^ 31) : (fun i => nI (f i)) (nI k).toNatClampNeg = nI (f k) := by rw [nI_clamp hk]
abbrev gt_C : Type := Nat × Nat × Nat × Nat × Nat × Nat × Nat × Nat × Nat × (Nat → Nat) × (Nat → Nat) × (Nat → Nat) × (Nat → Nat) × (Nat → Nat) × (Nat → Nat) × (Nat → Nat)
abbrev xc_ci (x : gt_C) : Nat := x.1
abbrev xc_cl (x : gt_C) : Nat := x.2.1
abbrev xc_cg (x : gt_C) : Nat := x.2.2.1
abbrev xc_N (x : gt_C) : Nat := x.2.2.2.1
abbrev xc_ni (x : gt_C) : Nat := x.2.2.2.2.1
abbrev xc_nl (x : gt_C) : Nat := x.2.2.2.2.2.1
abbrev xc_ng (x : gt_C) : Nat := x.2.2.2.2.2.2.1
abbrev xc_fx (x : gt_C) : Nat := x.2.2.2.2.2.2.2.1
abbrev xc_on (x : gt_C) : Nat := x.2.2.2.2.2.2.2.2.1
abbrev xc_kind (x : gt_C) : (Nat → Nat) := x.2.2.2.2.2.2.2.2.2.1
abbrev xc_idx (x : gt_C) : (Nat → Nat) := x.2.2.2.2.2.2.2.2.2.2.1
abbrev xc_opA (x : gt_C) : (Nat → Nat) := x.2.2.2.2.2.2.2.2.2.2.2.1
abbrev xc_opB (x : gt_C) : (Nat → Nat) := x.2.2.2.2.2.2.2.2.2.2.2.2.1
abbrev xc_inN (x : gt_C) : (Nat → Nat) := x.2.2.2.2.2.2.2.2.2.2.2.2.2.1
abbrev xc_laN (x : gt_C) : (Nat → Nat) := x.2.2.2.2.2.2.2.2.2.2.2.2.2.2.1
abbrev xc_root (x : gt_C) : (Nat → Nat) := x.2.2.2.2.2.2.2.2.2.2.2.2.2.2.2
abbrev gt_V : Type := Nat × Nat × Nat × (Nat → Nat) × (Nat → Nat) × (Nat → Nat) × (Nat → Nat)
abbrev xv_ph (x : gt_V) : Nat := x.1
abbrev xv_fr (x : gt_V) : Nat := x.2.1
abbrev xv_cc (x : gt_V) : Nat := x.2.2.1
abbrev xv_cm (x : gt_V) : (Nat → Nat) := x.2.2.2.1
abbrev xv_cv (x : gt_V) : (Nat → Nat) := x.2.2.2.2.1
abbrev xv_ts (x : gt_V) : (Nat → Nat) := x.2.2.2.2.2.1
abbrev xv_ti (x : gt_V) : (Nat → Nat) := x.2.2.2.2.2.2
abbrev gt_A : Type := Nat × Int32 × Int32 × Nat × Nat × (Nat → Int32) × (Nat → Nat)
abbrev xa_ts (x : gt_A) : Nat := x.1
abbrev xa_cf (x : gt_A) : Int32 := x.2.1
abbrev xa_ch (x : gt_A) : Int32 := x.2.2.1
abbrev xa_km (x : gt_A) : Nat := x.2.2.2.1
abbrev xa_kv (x : gt_A) : Nat := x.2.2.2.2.1
abbrev xa_val (x : gt_A) : (Nat → Int32) := x.2.2.2.2.2.1
abbrev xa_tr (x : gt_A) : (Nat → Nat) := x.2.2.2.2.2.2
abbrev gt_B : Type := Nat × (Nat → Nat) × (Nat → Nat)
abbrev xb_bc (x : gt_B) : Nat := x.1
abbrev xb_bm (x : gt_B) : (Nat → Nat) := x.2.1
abbrev xb_bv (x : gt_B) : (Nat → Nat) := x.2.2
abbrev gt_E : Type := Nat × (Nat → Nat) × (Nat → Nat) × (Nat → Int32)
abbrev xe_dc (x : gt_E) : Nat := x.1
abbrev xe_dn (x : gt_E) : (Nat → Nat) := x.2.1
abbrev xe_dm (x : gt_E) : (Nat → Nat) := x.2.2.1
abbrev xe_df (x : gt_E) : (Nat → Int32) := x.2.2.2
abbrev gt_O : Type := Nat × Nat
abbrev xo_ss (x : gt_O) : Nat := x.1
abbrev xo_si (x : gt_O) : Nat := x.2
abbrev gt_L : Type := Nat × (Nat → Nat) × (Nat → Nat) × (Nat → Nat) × (Nat → Int32)
abbrev xl_lc (x : gt_L) : Nat := x.1
abbrev xl_lm (x : gt_L) : (Nat → Nat) := x.2.1
abbrev xl_lv (x : gt_L) : (Nat → Nat) := x.2.2.1
abbrev xl_le (x : gt_L) : (Nat → Nat) := x.2.2.2.1
abbrev xl_st (x : gt_L) : (Nat → Int32) := x.2.2.2.2
abbrev gt_P : Type := Int32 × Nat × Nat
abbrev xp_gb (x : gt_P) : Int32 := x.1
abbrev xp_gm (x : gt_P) : Nat := x.2.1
abbrev xp_gv (x : gt_P) : Nat := x.2.2
abbrev gt_F : Type := Nat × Nat
abbrev xf_m (x : gt_F) : Nat := x.1
abbrev xf_v (x : gt_F) : Nat := x.2
abbrev gt_H : Type := Nat × Nat
abbrev xh_m (x : gt_H) : Nat := x.1
abbrev xh_v (x : gt_H) : Nat := x.2
abbrev gt_K : Type := (Nat → Nat) × (Nat → Nat)
abbrev xk_m (x : gt_K) : (Nat → Nat) := x.1
abbrev xk_v (x : gt_K) : (Nat → Nat) := x.2
def mk_X (C : gt_C) (vv : gt_V) (dd : (Nat → Int64)) (sm : (Nat → Int32)) (aa : gt_A) (bb : gt_B) (ee : gt_E) (oo : gt_O) (ll : gt_L) (pp : gt_P) (ff : gt_F) (hh : gt_H) (kk : gt_K) : SX := ((nI (xc_ci C)), (nI (xc_cl C)), (nI (xc_cg C)), (nI (xc_N C)), (nI (xc_ni C)), (nI (xc_nl C)), (nI (xc_ng C)), (nI (xc_fx C)), (nI (xc_on C)), (nI (xv_ph vv)), (nI (xv_fr vv)), (nI (xv_cc vv)), (nI (xa_ts aa)), (xa_cf aa), (xa_ch aa), (nI (xa_km aa)), (nI (xa_kv aa)), (nI (xb_bc bb)), (nI (xe_dc ee)), (nI (xo_ss oo)), (nI (xo_si oo)), (nI (xl_lc ll)), (xp_gb pp), (nI (xp_gm pp)), (nI (xp_gv pp)), (nI (xf_m ff)), (nI (xf_v ff)), (nI (xh_m hh)), (nI (xh_v hh)), (fun zi => nI (xc_kind C zi)), (fun zi => nI (xc_idx C zi)), (fun zi => nI (xc_opA C zi)), (fun zi => nI (xc_opB C zi)), (fun zi => nI (xc_inN C zi)), (fun zi => nI (xc_laN C zi)), (fun zi => nI (xc_root C zi)), (fun zi => nI (xv_cm vv zi)), (fun zi => nI (xv_cv vv zi)), (fun zi => nI (xv_ts vv zi)), (fun zi => nI (xv_ti vv zi)), dd, sm, (xa_val aa), (fun zi => nI (xa_tr aa zi)), (fun zi => nI (xb_bm bb zi)), (fun zi => nI (xb_bv bb zi)), (fun zi => nI (xe_dn ee zi)), (fun zi => nI (xe_dm ee zi)), (xe_df ee), (fun zi => nI (xl_lm ll zi)), (fun zi => nI (xl_lv ll zi)), (fun zi => nI (xl_le ll zi)), (xl_st ll), (fun zi => nI (xk_m kk zi)), (fun zi => nI (xk_v kk zi)))
abbrev gu_C : Type := Nat × Nat × Nat × Nat × Nat × Nat × Nat × (Nat → Nat) × (Nat → Nat) × (Nat → Nat) × (Nat → Nat) × (Nat → Nat)
abbrev yc_ci (x : gu_C) : Nat := x.1
abbrev yc_cl (x : gu_C) : Nat := x.2.1
abbrev yc_cg (x : gu_C) : Nat := x.2.2.1
abbrev yc_N (x : gu_C) : Nat := x.2.2.2.1
abbrev yc_ni (x : gu_C) : Nat := x.2.2.2.2.1
abbrev yc_nl (x : gu_C) : Nat := x.2.2.2.2.2.1
abbrev yc_ng (x : gu_C) : Nat := x.2.2.2.2.2.2.1
abbrev yc_kind (x : gu_C) : (Nat → Nat) := x.2.2.2.2.2.2.2.1
abbrev yc_fst (x : gu_C) : (Nat → Nat) := x.2.2.2.2.2.2.2.2.1
abbrev yc_snd (x : gu_C) : (Nat → Nat) := x.2.2.2.2.2.2.2.2.2.1
abbrev yc_ini (x : gu_C) : (Nat → Nat) := x.2.2.2.2.2.2.2.2.2.2.1
abbrev yc_root (x : gu_C) : (Nat → Nat) := x.2.2.2.2.2.2.2.2.2.2.2
abbrev gu_V : Type := Nat × Nat × Nat × (Nat → Nat) × (Nat → Nat)
abbrev yv_fr (x : gu_V) : Nat := x.1
abbrev yv_cc (x : gu_V) : Nat := x.2.1
abbrev yv_ph (x : gu_V) : Nat := x.2.2.1
abbrev yv_cm (x : gu_V) : (Nat → Nat) := x.2.2.2.1
abbrev yv_cv (x : gu_V) : (Nat → Nat) := x.2.2.2.2
abbrev gu_T : Type := (Nat → Nat) × (Nat → Nat)
abbrev yt_ts (x : gu_T) : (Nat → Nat) := x.1
abbrev yt_ti (x : gu_T) : (Nat → Nat) := x.2
def mk_Y (D : gu_C) (ww : gu_V) (tt : gu_T) (nv : (Nat → Nat)) (ds : (Nat → Int32)) (fi : (Nat → Int32)) : SY := ((nI (yc_ci D)), (nI (yc_cl D)), (nI (yc_cg D)), (nI (yc_N D)), (nI (yc_ni D)), (nI (yc_nl D)), (nI (yc_ng D)), (nI (yv_fr ww)), (nI (yv_cc ww)), (nI (yv_ph ww)), (fun zi => nI (yc_kind D zi)), (fun zi => nI (yc_fst D zi)), (fun zi => nI (yc_snd D zi)), (fun zi => nI (nv zi)), (fun zi => nI (yc_ini D zi)), (fun zi => nI (yc_root D zi)), (fun zi => nI (yv_cm ww zi)), (fun zi => nI (yv_cv ww zi)), (fun zi => nI (yt_ts tt zi)), (fun zi => nI (yt_ti tt zi)), ds, fi)
end
section
/-! the circuit, plainly: values of nodes, legality, successor, badness -/
def cr_lv (f : Nat → Bool) (x : Nat) : Bool := f (x / 2) ^^ decide (x % 2 = 1)
def cr_gate (C : gt_C) (s u : Nat) (f : Nat → Bool) (n : Nat) : Bool :=
  if xc_kind C n = 1 then u.testBit (xc_idx C n)
  else if xc_kind C n = 2 then s.testBit (xc_idx C n)
  else if xc_kind C n = 3 then cr_lv f (xc_opA C n) && cr_lv f (xc_opB C n)
  else if xc_kind C n = 4 then cr_lv f (xc_opA C n) || cr_lv f (xc_opB C n)
  else if xc_kind C n = 5 then cr_lv f (xc_opA C n) ^^ cr_lv f (xc_opB C n)
  else false
def cr_tab (C : gt_C) (s u : Nat) : Nat → Nat → Bool
  | 0 => fun _ => false
  | k + 1 => fun n => if n = k then cr_gate C s u (cr_tab C s u k) k else cr_tab C s u k n
def cr_ev (C : gt_C) (s u n : Nat) : Bool := cr_tab C s u (n + 1) n
def cr_lit (C : gt_C) (s u x : Nat) : Bool := cr_lv (cr_ev C s u) x
/-- the circuit is well formed -/
def cr_OK (C : gt_C) : Prop :=
  (xc_N C = 1 + xc_ni C + xc_nl C + xc_ng C ∧ xc_ci C ≤ 2 ∧ xc_cl C ≤ 6 ∧ xc_cg C ≤ 20 ∧ xc_ni C ≤ xc_ci C ∧ xc_nl C ≤ xc_cl C ∧ xc_ng C ≤ xc_cg C) ∧
  (xc_kind C 0 = 0 ∧ ∀ n, n < xc_N C → 0 < n → 1 ≤ xc_kind C n ∧ xc_kind C n ≤ 5) ∧
  (∀ n, n < xc_N C → xc_kind C n = 1 → xc_idx C n < xc_ni C ∧ xc_inN C (xc_idx C n) = n) ∧
  (∀ n, n < xc_N C → xc_kind C n = 2 → xc_idx C n < xc_nl C ∧ xc_laN C (xc_idx C n) = n) ∧
  (∀ n, n < xc_N C → 3 ≤ xc_kind C n → xc_opA C n < 2 * n ∧ xc_opB C n < 2 * n) ∧
  (∀ j, j < xc_ni C → xc_inN C j < xc_N C ∧ xc_kind C (xc_inN C j) = 1 ∧ xc_idx C (xc_inN C j) = j) ∧
  (∀ j, j < xc_nl C → xc_laN C j < xc_N C ∧ xc_kind C (xc_laN C j) = 2 ∧ xc_idx C (xc_laN C j) = j) ∧
  (∀ j, j < xc_nl C + 2 → xc_root C j < 2 * xc_N C) ∧
  (xc_fx C < 2 ^ xc_nl C ∧ xc_on C < 2 ^ xc_nl C)
theorem cr_b {C : gt_C} (h : cr_OK C) : xc_N C ≤ 29 ∧ 1 ≤ xc_N C ∧ xc_ni C ≤ 2 ∧ xc_nl C ≤ 6 := by
  obtain ⟨⟨h1, h2, h3, h4, h5, h6, h7⟩, _⟩ := h
  omega
theorem cr_k0 {C : gt_C} (h : cr_OK C) : xc_kind C 0 = 0 := h.2.1.1
theorem cr_kp {C : gt_C} (h : cr_OK C) {n : Nat} (hn : n < xc_N C) (h0 : 0 < n) : 1 ≤ xc_kind C n ∧ xc_kind C n ≤ 5 := h.2.1.2 n hn h0
theorem cr_ki {C : gt_C} (h : cr_OK C) {n : Nat} (hn : n < xc_N C) (hk : xc_kind C n = 1) : xc_idx C n < xc_ni C ∧ xc_inN C (xc_idx C n) = n := h.2.2.1 n hn hk
theorem cr_kl {C : gt_C} (h : cr_OK C) {n : Nat} (hn : n < xc_N C) (hk : xc_kind C n = 2) : xc_idx C n < xc_nl C ∧ xc_laN C (xc_idx C n) = n := h.2.2.2.1 n hn hk
theorem cr_kg {C : gt_C} (h : cr_OK C) {n : Nat} (hn : n < xc_N C) (hk : 3 ≤ xc_kind C n) : xc_opA C n < 2 * n ∧ xc_opB C n < 2 * n := h.2.2.2.2.1 n hn hk
theorem cr_in {C : gt_C} (h : cr_OK C) {j : Nat} (hj : j < xc_ni C) : xc_inN C j < xc_N C ∧ xc_kind C (xc_inN C j) = 1 ∧ xc_idx C (xc_inN C j) = j := h.2.2.2.2.2.1 j hj
theorem cr_la {C : gt_C} (h : cr_OK C) {j : Nat} (hj : j < xc_nl C) : xc_laN C j < xc_N C ∧ xc_kind C (xc_laN C j) = 2 ∧ xc_idx C (xc_laN C j) = j := h.2.2.2.2.2.2.1 j hj
theorem cr_ro {C : gt_C} (h : cr_OK C) {j : Nat} (hj : j < xc_nl C + 2) : xc_root C j < 2 * xc_N C := h.2.2.2.2.2.2.2.1 j hj
theorem cr_fo {C : gt_C} (h : cr_OK C) : xc_fx C < 2 ^ xc_nl C ∧ xc_on C < 2 ^ xc_nl C := h.2.2.2.2.2.2.2.2
theorem cr_p64 {C : gt_C} (h : cr_OK C) : 2 ^ xc_nl C ≤ 64 := bq_p2 (cr_b h).2.2.2
theorem cr_p4 {C : gt_C} (h : cr_OK C) : 2 ^ xc_ni C ≤ 4 := by
  have : (2 : Nat) ^ xc_ni C ≤ 2 ^ 2 := Nat.pow_le_pow_right (by decide) (cr_b h).2.2.1
  omega
theorem cr_tab_ev (C : gt_C) (s u : Nat) : ∀ k n, n < k → cr_tab C s u k n = cr_ev C s u n := by
  intro k
  induction k with
  | zero => intro n h; omega
  | succ k ih =>
    intro n h
    by_cases e : n = k
    · subst e; rfl
    · show (if n = k then _ else cr_tab C s u k n) = _
      rw [if_neg e]
      exact ih n (by omega)
theorem cr_gate_c {C : gt_C} {s u : Nat} {f g : Nat → Bool} {n : Nat} (hA : 3 ≤ xc_kind C n → cr_lv f (xc_opA C n) = cr_lv g (xc_opA C n)) (hB : 3 ≤ xc_kind C n → cr_lv f (xc_opB C n) = cr_lv g (xc_opB C n)) : cr_gate C s u f n = cr_gate C s u g n := by
  unfold cr_gate
  by_cases h : 3 ≤ xc_kind C n
  · rw [hA h, hB h]
  · have h3 : ¬ xc_kind C n = 3 := by omega
    have h4 : ¬ xc_kind C n = 4 := by omega
    have h5 : ¬ xc_kind C n = 5 := by omega
    simp only [h3, h4, h5, if_false]
theorem cr_ev_eq {C : gt_C} (h : cr_OK C) {s u n : Nat} (hn : n < xc_N C) : cr_ev C s u n = cr_gate C s u (cr_ev C s u) n := by
  show (if n = n then _ else _) = _
  rw [if_pos rfl]
  apply cr_gate_c
  · intro h3
    have := (cr_kg h hn h3).1
    unfold cr_lv
    rw [cr_tab_ev C s u n _ (by omega)]
  · intro h3
    have := (cr_kg h hn h3).2
    unfold cr_lv
    rw [cr_tab_ev C s u n _ (by omega)]
theorem cr_ev0 {C : gt_C} (h : cr_OK C) {s u : Nat} : cr_ev C s u 0 = false := by
  rw [cr_ev_eq h (by have := cr_b h; omega)]
  unfold cr_gate
  rw [cr_k0 h]
  rfl
theorem cr_ev_in {C : gt_C} (h : cr_OK C) {s u j : Nat} (hj : j < xc_ni C) : cr_ev C s u (xc_inN C j) = u.testBit j := by
  obtain ⟨a, b, c⟩ := cr_in h hj
  rw [cr_ev_eq h a]
  unfold cr_gate
  rw [if_pos b, c]
theorem cr_ev_la {C : gt_C} (h : cr_OK C) {s u j : Nat} (hj : j < xc_nl C) : cr_ev C s u (xc_laN C j) = s.testBit j := by
  obtain ⟨a, b, c⟩ := cr_la h hj
  rw [cr_ev_eq h a]
  unfold cr_gate
  rw [if_neg (by omega), if_pos b, c]
theorem cr_x1 (x : Nat) : (x ^^^ 1) / 2 = x / 2 ∧ (x ^^^ 1) % 2 = 1 - x % 2 := by
  constructor
  · rw [Nat.xor_div_two, show 1 / 2 = 0 from rfl, Nat.xor_zero]
  · have h : ((x ^^^ 1) % 2 = 1) ↔ ¬ ((x % 2 = 1) ↔ (1 % 2 = 1)) := Nat.xor_mod_two_eq_one
    have h1 : (x ^^^ 1) % 2 < 2 := Nat.mod_lt _ (by decide)
    rcases Nat.mod_two_eq_zero_or_one x with e | e
    · have := h.mpr (by rw [e]; decide)
      omega
    · have h2 : ¬ (x ^^^ 1) % 2 = 1 := fun z => h.mp z (by rw [e])
      omega
theorem cr_lit_flip (C : gt_C) (s u x : Nat) : cr_lit C s u (x ^^^ 1) = !cr_lit C s u x := by
  unfold cr_lit cr_lv
  rw [(cr_x1 x).1, (cr_x1 x).2]
  rcases Nat.mod_two_eq_zero_or_one x with e | e <;> rw [e] <;> cases cr_ev C s u (x / 2) <;> rfl
def cr_leg (C : gt_C) (s u : Nat) : Bool := cr_lit C s u (xc_root C 1)
def cr_bad (C : gt_C) (s u : Nat) : Bool := cr_leg C s u && cr_lit C s u (xc_root C 0)
def cr_nxj (C : gt_C) (s u : Nat) : Nat → Nat
  | 0 => 0
  | j + 1 => if cr_lit C s u (xc_root C (2 + j)) then cr_nxj C s u j ||| 2 ^ j else cr_nxj C s u j
def cr_nxt (C : gt_C) (s u : Nat) : Nat := cr_nxj C s u (xc_nl C)
theorem cr_nxj_tb (C : gt_C) (s u i : Nat) : ∀ j, (cr_nxj C s u j).testBit i = (decide (i < j) && cr_lit C s u (xc_root C (2 + i))) := by
  intro j
  induction j with
  | zero => unfold cr_nxj; simp
  | succ j ih =>
    unfold cr_nxj
    by_cases e : i = j
    · subst e
      split
      · next c => rw [Nat.testBit_or, ih, bq_one, c]; simp
      · next c => rw [ih]; simp only [Bool.not_eq_true] at c; rw [c]; simp
    · have d : decide (i < j + 1) = decide (i < j) := by
        by_cases l : i < j
        · rw [decide_eq_true l, decide_eq_true (by omega)]
        · rw [decide_eq_false l, decide_eq_false (by omega)]
      rw [d]
      split
      · rw [Nat.testBit_or, ih, bq_one, decide_eq_false (p := j = i) (by omega), Bool.or_false]
      · exact ih
theorem cr_nxt_tb (C : gt_C) (s u : Nat) {i : Nat} (hi : i < xc_nl C) : (cr_nxt C s u).testBit i = cr_lit C s u (xc_root C (2 + i)) := by
  unfold cr_nxt
  rw [cr_nxj_tb, decide_eq_true hi, Bool.true_and]
theorem cr_nxj_lt (C : gt_C) (s u j : Nat) : cr_nxj C s u j < 2 ^ j := by
  apply bq_lt2
  intro i h
  rw [cr_nxj_tb, Bool.and_eq_true, decide_eq_true_eq] at h
  exact h.1
theorem cr_nxt_lt (C : gt_C) (s u : Nat) : cr_nxt C s u < 2 ^ xc_nl C := cr_nxj_lt C s u _
/-- initial states -/
def cr_ini (C : gt_C) (s : Nat) : Prop := s < 2 ^ xc_nl C ∧ (s ^^^ xc_on C) &&& xc_fx C = 0
/-- cubes -/
def cu_in (m v s : Nat) : Prop := s &&& m = v
def cu_ok (C : gt_C) (m v : Nat) : Prop := m < 2 ^ xc_nl C ∧ v &&& m = v
theorem cu_iff {m v s : Nat} (h : v &&& m = v) : cu_in m v s ↔ ∀ i, m.testBit i = true → s.testBit i = v.testBit i := by
  unfold cu_in
  constructor
  · intro e i hi
    have := congrArg (fun x => Nat.testBit x i) e
    simp only [Nat.testBit_and, hi, Bool.and_true] at this
    exact this
  · intro e
    apply Nat.eq_of_testBit_eq
    intro i
    have hv := congrArg (fun x => Nat.testBit x i) h
    simp only [Nat.testBit_and] at hv
    rw [Nat.testBit_and]
    cases hm : m.testBit i
    · rw [hm] at hv; simpa using hv
    · rw [Bool.and_true]; exact e i hm
theorem cu_vlt {C : gt_C} {m v : Nat} (h : cu_ok C m v) : v < 2 ^ xc_nl C := by
  have := h.2
  rw [← this, Nat.and_comm]
  exact bq_andlt h.1
/-- runs -/
def cr_T (C : gt_C) (s t : Nat) : Prop := s < 2 ^ xc_nl C ∧ ∃ u, u < 2 ^ xc_ni C ∧ cr_leg C s u = true ∧ cr_nxt C s u = t
def cr_bs (C : gt_C) (s : Nat) : Prop := s < 2 ^ xc_nl C ∧ ∃ u, u < 2 ^ xc_ni C ∧ cr_bad C s u = true
def cr_R (C : gt_C) : Nat → Nat → Prop
  | 0 => fun s => cr_ini C s
  | k + 1 => fun t => ∃ s, cr_R C k s ∧ cr_T C s t
theorem cr_R_lt {C : gt_C} : ∀ {k s : Nat}, cr_R C k s → s < 2 ^ xc_nl C := by
  intro k
  cases k with
  | zero => intro s h; exact h.1
  | succ k => intro s h; obtain ⟨q, _, _, u, _, _, rfl⟩ := h; exact cr_nxt_lt C q u
/-- a bad pair exactly m steps on -/
def cr_can (C : gt_C) : Nat → Nat → Prop
  | 0 => fun s => cr_bs C s
  | m + 1 => fun s => ∃ t, cr_T C s t ∧ cr_can C m t
theorem cr_can_R {C : gt_C} : ∀ (m k : Nat) {s : Nat}, cr_R C k s → cr_can C m s → ∃ t, cr_R C (k + m) t ∧ cr_bs C t := by
  intro m
  induction m with
  | zero => intro k s h hc; exact ⟨s, h, hc⟩
  | succ m ih =>
    intro k s h hc
    obtain ⟨t, ht, hc⟩ := hc
    obtain ⟨z, hz, hb⟩ := ih (k + 1) (s := t) ⟨s, h, ht⟩ hc
    exact ⟨z, by rw [show k + (m + 1) = k + 1 + m by omega]; exact hz, hb⟩
theorem cr_R_can {C : gt_C} : ∀ (k m : Nat) {t : Nat}, cr_R C k t → cr_can C m t → ∃ s, cr_ini C s ∧ cr_can C (k + m) s := by
  intro k
  induction k with
  | zero => intro m t h hc; exact ⟨t, h, by rw [Nat.zero_add]; exact hc⟩
  | succ k ih =>
    intro m t h hc
    obtain ⟨s, hs, ht⟩ := h
    obtain ⟨z, hz, hb⟩ := ih (m + 1) hs ⟨t, ht, hc⟩
    exact ⟨z, hz, by rw [show k + 1 + m = k + (m + 1) by omega]; exact hb⟩
/-- least distances are below 64 -/
def cr_md (C : gt_C) (d s : Nat) : Prop := cr_R C d s ∧ ∀ k, k < d → ¬ cr_R C k s
theorem cr_md_dn {C : gt_C} : ∀ (d s : Nat), cr_md C d s → ∀ i, i ≤ d → ∃ t, cr_md C i t := by
  intro d
  induction d with
  | zero => intro s h i hi; exact ⟨s, by rw [show i = 0 by omega]; exact h⟩
  | succ d ih =>
    intro s h i hi
    by_cases e : i = d + 1
    · subst e; exact ⟨s, h⟩
    · obtain ⟨⟨t, ht, hT⟩, hm⟩ := h
      exact ih t ⟨ht, fun k hk hR => hm (k + 1) (by omega) ⟨t, hR, hT⟩⟩ i (by omega)
theorem cr_md_u {C : gt_C} {i j s : Nat} (h : cr_md C i s) (h2 : cr_md C j s) : i = j := by
  rcases Nat.lt_trichotomy i j with l | l | l
  · exact absurd h.1 (h2.2 i l)
  · exact l
  · exact absurd h2.1 (h.2 j l)
theorem cr_md_lt {C : gt_C} (hC : cr_OK C) {d s : Nat} (h : cr_md C d s) : d < 64 := by
  have H := cr_md_dn d s h
  have c : ∀ i, ∃ t, i ≤ d → cr_md C i t := by
    intro i
    by_cases hi : i ≤ d
    · obtain ⟨t, ht⟩ := H i hi; exact ⟨t, fun _ => ht⟩
    · exact ⟨0, fun z => absurd z hi⟩
  have := pg_le (2 ^ xc_nl C) (d + 1) (fun i => Classical.choose (c i)) (by
    intro i hi
    exact cr_R_lt (Classical.choose_spec (c i) (by omega)).1) (by
    intro i j hij hj e
    have a := Classical.choose_spec (c i) (by omega)
    have b := Classical.choose_spec (c j) (by omega)
    rw [← e] at b
    have := cr_md_u a b
    omega)
  have := cr_p64 hC
  omega
theorem cr_R_md {C : gt_C} : ∀ (k s : Nat), cr_R C k s → ∃ d, d ≤ k ∧ cr_md C d s := by
  intro k
  induction k using Nat.strongRecOn with
  | ind k ih =>
    intro s h
    by_cases e : ∃ j, j < k ∧ cr_R C j s
    · obtain ⟨j, hj, hr⟩ := e
      obtain ⟨d, hd, hm⟩ := ih j hj s hr
      exact ⟨d, by omega, hm⟩
    · exact ⟨k, Nat.le_refl _, h, fun j hj hr => e ⟨j, hj, hr⟩⟩
end
section
/-! the solver's assignments, plainly -/
theorem i1n0 : ¬ (1 : Int32) = 0 := by decide
def sa_ag (v : Int32) (b : Bool) : Prop := (v = 1 → b = true) ∧ (v = -1 → b = false)
def sa_P (C : gt_C) (a : gt_A) (m s u : Nat) : Prop := ∀ i, i < m → sa_ag (xa_val a (xa_tr a i)) (cr_ev C s u (xa_tr a i))
def sa_S (C : gt_C) (a : gt_A) (s u : Nat) : Prop := xa_cf a = 0 ∧ sa_P C a (xa_ts a) s u
def sa_W1 (C : gt_C) (a : gt_A) : Prop := xa_ts a ≤ xc_N C ∧ (∀ i, i < xa_ts a → xa_tr a i < xc_N C ∧ xa_val a (xa_tr a i) ≠ 0) ∧ (∀ i j, i < j → j < xa_ts a → xa_tr a i ≠ xa_tr a j)
def sa_W2 (C : gt_C) (a : gt_A) : Prop := ∀ n, n < xc_N C → xa_val a n = 0 ∨ ((xa_val a n = 1 ∨ xa_val a n = -1) ∧ ∃ i, i < xa_ts a ∧ xa_tr a i = n)
def sa_W3 (C : gt_C) (a : gt_A) : Prop := xa_km a < 2 ^ xc_nl C ∧ xa_kv a < 2 ^ xc_nl C ∧ ∀ j, j < xc_nl C → (xa_km a).testBit j = !decide (xa_val a (xc_laN C j) = 0) ∧ (xa_kv a).testBit j = decide (xa_val a (xc_laN C j) = 1)
def sa_W (C : gt_C) (a : gt_A) : Prop := sa_W1 C a ∧ sa_W2 C a ∧ sa_W3 C a
def sa_w (x : Nat) : Int32 := if x % 2 = 0 then 1 else -1
theorem sa_w01 (x : Nat) : sa_w x = 1 ∨ sa_w x = -1 := by
  unfold sa_w; split
  · exact Or.inl rfl
  · exact Or.inr rfl
theorem sa_w0 (x : Nat) : sa_w x ≠ 0 := by
  rcases sa_w01 x with h | h <;> rw [h] <;> decide
theorem sa_agw (x : Nat) (b : Bool) : sa_ag (sa_w x) b ↔ (b ^^ decide (x % 2 = 1)) = true := by
  unfold sa_ag sa_w
  rcases Nat.mod_two_eq_zero_or_one x with e | e
  · rw [if_pos e, e]
    cases b <;> simp
  · rw [if_neg (by omega), e]
    cases b <;> simp
/-- what makeTrue may do -/
def sa_MT (C : gt_C) (x : Nat) (a a' : gt_A) : Prop :=
  (xa_val a (x / 2) = sa_w x ∧ a' = a) ∨
  (xa_val a (x / 2) ≠ sa_w x ∧ xa_val a (x / 2) ≠ 0 ∧ a' = ((xa_ts a, 1, xa_ch a, xa_km a, xa_kv a, xa_val a, xa_tr a) : gt_A)) ∨
  (xa_val a (x / 2) = 0 ∧ a' = ((xa_ts a + 1, xa_cf a, 1, if xc_kind C (x / 2) = 2 then xa_km a ||| 2 ^ xc_idx C (x / 2) else xa_km a, if xc_kind C (x / 2) = 2 ∧ x % 2 = 0 then xa_kv a ||| 2 ^ xc_idx C (x / 2) else xa_kv a, upd (xa_val a) (x / 2) (sa_w x), up_n (xa_tr a) (xa_ts a) (x / 2)) : gt_A))
theorem sa_room {C : gt_C} {a : gt_A} {n : Nat} (h : sa_W1 C a) (hn : n < xc_N C) (hv : xa_val a n = 0) : xa_ts a < xc_N C := by
  obtain ⟨h1, h2, h3⟩ := h
  have := pg_le (xc_N C) (xa_ts a + 1) (fun i => if i < xa_ts a then xa_tr a i else n) (by
    intro i hi
    split
    · next c => exact (h2 i c).1
    · exact hn) (by
    intro i j hij hj
    rw [if_pos (by omega)]
    split
    · next c => exact h3 i j hij c
    · intro e
      have := (h2 i (by omega)).2
      rw [e] at this
      exact this hv)
  omega
theorem sa_M_W {C : gt_C} {a a' : gt_A} {x : Nat} (hC : cr_OK C) (hx : x < 2 * xc_N C) (h : sa_W C a) (hM : sa_MT C x a a') : sa_W C a' := by
  rcases hM with ⟨_, rfl⟩ | ⟨_, _, rfl⟩ | ⟨hv, rfl⟩
  · exact h
  · exact h
  · have hn : x / 2 < xc_N C := by omega
    have hr := sa_room h.1 hn hv
    obtain ⟨⟨h1, h2, h3⟩, h4, h5, h6, h7⟩ := h
    refine ⟨⟨?_, ?_, ?_⟩, ?_, ?_, ?_, ?_⟩
    · exact hr
    · intro i hi
      show up_n (xa_tr a) (xa_ts a) (x / 2) i < xc_N C ∧ upd (xa_val a) (x / 2) (sa_w x) (up_n (xa_tr a) (xa_ts a) (x / 2) i) ≠ 0
      by_cases e : i = xa_ts a
      · subst e; rw [up_s, pk_us]; exact ⟨hn, sa_w0 x⟩
      · have hi' : i < xa_ts a := by
          have : i < xa_ts a + 1 := hi
          omega
        have := h2 i hi'
        rw [up_o e, pk_un (fun z => this.2 (by rw [z]; exact hv))]
        exact this
    · intro i j hij hj
      have hj' : j < xa_ts a + 1 := hj
      show up_n (xa_tr a) (xa_ts a) (x / 2) i ≠ up_n (xa_tr a) (xa_ts a) (x / 2) j
      rw [up_o (by omega)]
      by_cases e : j = xa_ts a
      · subst e; rw [up_s]
        intro z
        exact (h2 i hij).2 (by rw [z]; exact hv)
      · rw [up_o e]; exact h3 i j hij (by omega)
    · intro n hn'
      show upd (xa_val a) (x / 2) (sa_w x) n = 0 ∨ ((upd (xa_val a) (x / 2) (sa_w x) n = 1 ∨ upd (xa_val a) (x / 2) (sa_w x) n = -1) ∧ ∃ i, i < xa_ts a + 1 ∧ up_n (xa_tr a) (xa_ts a) (x / 2) i = n)
      by_cases e : n = x / 2
      · subst e
        rw [pk_us]
        exact Or.inr ⟨sa_w01 x, xa_ts a, by omega, up_s⟩
      · rw [pk_un e]
        rcases h4 n hn' with z | ⟨z, i, hi, ei⟩
        · exact Or.inl z
        · exact Or.inr ⟨z, i, by omega, by rw [up_o (by omega)]; exact ei⟩
    · show (if xc_kind C (x / 2) = 2 then xa_km a ||| 2 ^ xc_idx C (x / 2) else xa_km a) < _
      split
      · next c => exact Nat.or_lt_two_pow h5 (Nat.pow_lt_pow_right (by decide) (cr_kl hC hn c).1)
      · exact h5
    · show (if xc_kind C (x / 2) = 2 ∧ x % 2 = 0 then xa_kv a ||| 2 ^ xc_idx C (x / 2) else xa_kv a) < _
      split
      · next c => exact Nat.or_lt_two_pow h6 (Nat.pow_lt_pow_right (by decide) (cr_kl hC hn c.1).1)
      · exact h6
    · intro j hj
      obtain ⟨l1, l2, l3⟩ := cr_la hC hj
      obtain ⟨k1, k2⟩ := h7 j hj
      show (if xc_kind C (x / 2) = 2 then xa_km a ||| 2 ^ xc_idx C (x / 2) else xa_km a).testBit j = !decide (upd (xa_val a) (x / 2) (sa_w x) (xc_laN C j) = 0) ∧ (if xc_kind C (x / 2) = 2 ∧ x % 2 = 0 then xa_kv a ||| 2 ^ xc_idx C (x / 2) else xa_kv a).testBit j = decide (upd (xa_val a) (x / 2) (sa_w x) (xc_laN C j) = 1)
      by_cases e : xc_laN C j = x / 2
      · rw [← e, pk_us, l2, l3, if_pos rfl, decide_eq_false (sa_w0 x)]
        refine ⟨by rw [Nat.testBit_or, bq_one, decide_eq_true rfl, Bool.or_true]; rfl, ?_⟩
        rcases Nat.mod_two_eq_zero_or_one x with z | z
        · have w1 : sa_w x = 1 := if_pos z
          rw [if_pos ⟨rfl, z⟩, w1, Nat.testBit_or, bq_one, decide_eq_true rfl, Bool.or_true]; rfl
        · have w1 : sa_w x = -1 := if_neg (by omega)
          rw [if_neg (by omega), w1, k2, e, hv]; rfl
      · rw [pk_un e]
        have ne : xc_kind C (x / 2) = 2 → xc_idx C (x / 2) ≠ j := by
          intro c z
          exact e (by rw [← z]; exact (cr_kl hC hn c).2)
        constructor
        · rw [← k1]
          split
          · next c => rw [Nat.testBit_or, bq_one, decide_eq_false (ne c), Bool.or_false]
          · rfl
        · rw [← k2]
          split
          · next c => rw [Nat.testBit_or, bq_one, decide_eq_false (ne c.1), Bool.or_false]
          · rfl
theorem sa_S_n {C : gt_C} {a : gt_A} {s u n : Nat} (h : sa_W C a) (hS : sa_S C a s u) (hn : n < xc_N C) : sa_ag (xa_val a n) (cr_ev C s u n) := by
  rcases h.2.1 n hn with z | ⟨_, i, hi, rfl⟩
  · rw [z]; exact ⟨fun e => absurd e (by decide), fun e => absurd e (by decide)⟩
  · exact hS.2 i hi
theorem sa_M_S {C : gt_C} {a a' : gt_A} {x s u : Nat} (hx : x < 2 * xc_N C) (h : sa_W C a) (hM : sa_MT C x a a') : sa_S C a' s u ↔ (sa_S C a s u ∧ cr_lit C s u x = true) := by
  have hn : x / 2 < xc_N C := by omega
  rcases hM with ⟨hv, rfl⟩ | ⟨hv, hv0, rfl⟩ | ⟨hv, rfl⟩
  · constructor
    · intro hS
      have := sa_S_n h hS hn
      rw [hv, sa_agw] at this
      exact ⟨hS, this⟩
    · exact fun z => z.1
  · constructor
    · intro hS
      exact absurd hS.1 i1n0
    · intro ⟨hS, hl⟩
      exfalso
      have h1 := sa_S_n h hS hn
      have h2 := (sa_agw x _).mpr hl
      rcases h.2.1 _ hn with z | ⟨z | z, _⟩
      · exact hv0 z
      · rcases sa_w01 x with w | w
        · exact hv (by rw [z, w])
        · rw [z] at h1; rw [w] at h2
          exact absurd ((h1.1 rfl).symm.trans (h2.2 rfl)) (by decide)
      · rcases sa_w01 x with w | w
        · rw [z] at h1; rw [w] at h2
          exact absurd ((h1.2 rfl).symm.trans (h2.1 rfl)) (by decide)
        · exact hv (by rw [z, w])
  · obtain ⟨⟨h1, h2, h3⟩, h4⟩ := h
    have hne : ∀ i, i < xa_ts a → up_n (xa_tr a) (xa_ts a) (x / 2) i = xa_tr a i ∧ upd (xa_val a) (x / 2) (sa_w x) (xa_tr a i) = xa_val a (xa_tr a i) := by
      intro i hi
      exact ⟨up_o (by omega), pk_un (fun z => (h2 i hi).2 (by rw [z]; exact hv))⟩
    constructor
    · intro ⟨hc, hS⟩
      refine ⟨⟨hc, ?_⟩, ?_⟩
      · intro i hi
        have := hS i (Nat.lt_succ_of_lt hi)
        change sa_ag (upd (xa_val a) (x / 2) (sa_w x) (up_n (xa_tr a) (xa_ts a) (x / 2) i)) (cr_ev C s u (up_n (xa_tr a) (xa_ts a) (x / 2) i)) at this
        rw [(hne i hi).1, (hne i hi).2] at this
        exact this
      · have := hS (xa_ts a) (Nat.lt_succ_self _)
        change sa_ag (upd (xa_val a) (x / 2) (sa_w x) (up_n (xa_tr a) (xa_ts a) (x / 2) (xa_ts a))) (cr_ev C s u (up_n (xa_tr a) (xa_ts a) (x / 2) (xa_ts a))) at this
        rw [up_s, pk_us, sa_agw] at this
        exact this
    · intro ⟨⟨hc, hS⟩, hl⟩
      refine ⟨hc, ?_⟩
      intro i hi
      have hi' : i < xa_ts a + 1 := hi
      show sa_ag (upd (xa_val a) (x / 2) (sa_w x) (up_n (xa_tr a) (xa_ts a) (x / 2) i)) (cr_ev C s u (up_n (xa_tr a) (xa_ts a) (x / 2) i))
      by_cases e : i = xa_ts a
      · subst e
        rw [up_s, pk_us, sa_agw]
        exact hl
      · have l : i < xa_ts a := by omega
        rw [(hne i l).1, (hne i l).2]
        exact hS i l
/-- growing -/
def sa_E (a a' : gt_A) : Prop := xa_ts a ≤ xa_ts a' ∧ (∀ i, i < xa_ts a → xa_tr a' i = xa_tr a i) ∧ (∀ n, xa_val a n ≠ 0 → xa_val a' n = xa_val a n) ∧ (xa_cf a' = 0 → xa_cf a = 0) ∧ (xa_ch a' = 0 → xa_ch a = 0 ∧ xa_val a' = xa_val a) ∧ (xa_ch a' ≠ 0 → xa_ch a ≠ 0 ∨ xa_ts a < xa_ts a')
theorem sa_E_r (a : gt_A) : sa_E a a := ⟨Nat.le_refl _, fun _ _ => rfl, fun _ _ => rfl, fun h => h, fun h => ⟨h, rfl⟩, fun h => Or.inl h⟩
theorem sa_E_t {a b c : gt_A} (h : sa_E a b) (k : sa_E b c) : sa_E a c := by
  obtain ⟨h1, h2, h3, h4, h5, h6⟩ := h
  obtain ⟨k1, k2, k3, k4, k5, k6⟩ := k
  refine ⟨by omega, ?_, ?_, fun z => h4 (k4 z), ?_, ?_⟩
  · intro i hi; rw [k2 i (by omega), h2 i hi]
  · intro n hn; rw [k3 n (by rw [h3 n hn]; exact hn), h3 n hn]
  · intro z; obtain ⟨p, q⟩ := k5 z; obtain ⟨p2, q2⟩ := h5 p; exact ⟨p2, by rw [q, q2]⟩
  · intro z
    rcases k6 z with p | p
    · rcases h6 p with q | q
      · exact Or.inl q
      · exact Or.inr (by omega)
    · exact Or.inr (by omega)
theorem sa_M_E {C : gt_C} {a a' : gt_A} {x : Nat} (h : sa_W C a) (hM : sa_MT C x a a') : sa_E a a' := by
  rcases hM with ⟨hv, rfl⟩ | ⟨hv, hv0, rfl⟩ | ⟨hv, rfl⟩
  · exact sa_E_r _
  · exact ⟨Nat.le_refl _, fun _ _ => rfl, fun _ _ => rfl, fun z => absurd z i1n0, fun z => ⟨z, rfl⟩, fun z => Or.inl z⟩
  · refine ⟨Nat.le_succ _, fun i hi => up_o (by omega), fun n hn => pk_un (fun z => hn (by rw [z]; exact hv)), fun z => z, fun z => absurd z i1n0, fun _ => Or.inr (Nat.lt_succ_self _)⟩
def sb_ok (b : gt_B) (s : Nat) : Prop := ∀ i, i < xb_bc b → ¬ cu_in (xb_bm b i) (xb_bv b i) s
/-- a step that keeps the solutions -/
def sa_R (C : gt_C) (b : gt_B) (a a' : gt_A) : Prop := sa_W C a' ∧ sa_E a a' ∧ ∀ s u, s < 2 ^ xc_nl C → u < 2 ^ xc_ni C → sb_ok b s → (sa_S C a' s u ↔ sa_S C a s u)
theorem sa_R_r {C : gt_C} {b : gt_B} {a : gt_A} (h : sa_W C a) : sa_R C b a a := ⟨h, sa_E_r a, fun _ _ _ _ _ => Iff.rfl⟩
theorem sa_R_t {C : gt_C} {b : gt_B} {a1 a2 a3 : gt_A} (h : sa_R C b a1 a2) (k : sa_R C b a2 a3) : sa_R C b a1 a3 :=
  ⟨k.1, sa_E_t h.2.1 k.2.1, fun s u hs hu ho => (k.2.2 s u hs hu ho).trans (h.2.2 s u hs hu ho)⟩
theorem sa_R_M {C : gt_C} {b : gt_B} {a a1 a2 : gt_A} {x : Nat} (hC : cr_OK C) (hx : x < 2 * xc_N C) (h : sa_R C b a a1) (hi : ∀ s u, s < 2 ^ xc_nl C → u < 2 ^ xc_ni C → sb_ok b s → sa_S C a s u → cr_lit C s u x = true) (hM : sa_MT C x a1 a2) : sa_R C b a a2 := by
  refine ⟨sa_M_W hC hx h.1 hM, sa_E_t h.2.1 (sa_M_E h.1 hM), fun s u hs hu ho => ?_⟩
  rw [sa_M_S hx h.1 hM, h.2.2 s u hs hu ho]
  exact ⟨fun z => z.1, fun z => ⟨z, hi s u hs hu ho z⟩⟩
/-- a literal's value -/
def sa_l (a : gt_A) (x : Nat) : Int32 := if x % 2 = 0 then xa_val a (x / 2) else -(xa_val a (x / 2))
theorem sa_l3 {C : gt_C} {a : gt_A} {x : Nat} (h : sa_W C a) (hx : x < 2 * xc_N C) : sa_l a x = 0 ∨ sa_l a x = 1 ∨ sa_l a x = -1 := by
  unfold sa_l
  rcases h.2.1 (x / 2) (by omega) with z | ⟨z | z, _⟩ <;> rw [z] <;> split <;> decide
theorem sa_l_t {C : gt_C} {a : gt_A} {x s u : Nat} (h : sa_W C a) (hx : x < 2 * xc_N C) (hS : sa_S C a s u) : sa_ag (sa_l a x) (cr_lit C s u x) := by
  have := sa_S_n h hS (n := x / 2) (by omega)
  unfold sa_l cr_lit cr_lv
  rcases Nat.mod_two_eq_zero_or_one x with e | e
  · rw [if_pos e, e, decide_eq_false (by decide), Bool.xor_false]; exact this
  · rw [if_neg (by omega), e, decide_eq_true rfl, Bool.xor_true]
    unfold sa_ag at this ⊢
    rcases h.2.1 (x / 2) (by omega) with z | ⟨z | z, _⟩ <;> rw [z] at this ⊢
    · exact ⟨fun e => absurd e (by decide), fun e => absurd e (by decide)⟩
    · exact ⟨fun e => absurd e (by decide), fun _ => by rw [this.1 rfl]; rfl⟩
    · exact ⟨fun _ => by rw [this.2 rfl]; rfl, fun e => absurd e (by decide)⟩
theorem sa_l_M {C : gt_C} {a a' : gt_A} {x : Nat} (h : sa_W C a) (hx : x < 2 * xc_N C) (hM : sa_MT C x a a') (hc : xa_cf a' = 0) : sa_l a' x = 1 := by
  have e : xa_val a' (x / 2) = sa_w x := by
    rcases hM with ⟨hv, rfl⟩ | ⟨hv, hv0, rfl⟩ | ⟨hv, rfl⟩
    · exact hv
    · exact absurd hc i1n0
    · exact pk_us
  unfold sa_l
  rw [e]
  unfold sa_w
  split <;> decide
theorem sa_l_E {a a' : gt_A} {x : Nat} (h : sa_E a a') (hn : sa_l a x ≠ 0) : sa_l a' x = sa_l a x := by
  unfold sa_l at hn ⊢
  split at hn
  · next c => rw [if_pos c, if_pos c]; exact h.2.2.1 _ hn
  · next c =>
    rw [if_neg c, if_neg c]
    rw [h.2.2.1 _ (fun z => hn (by rw [z]; decide))]
theorem sa_l_x (a : gt_A) (x : Nat) : sa_l a (x ^^^ 1) = -(sa_l a x) := by
  unfold sa_l
  rw [(cr_x1 x).1, (cr_x1 x).2]
  rcases Nat.mod_two_eq_zero_or_one x with e | e
  · rw [e, if_neg (by omega), if_pos rfl]
  · rw [e, if_pos (by omega), if_neg (by omega), Int32.neg_neg]
theorem sa_l_q {a a' : gt_A} {x : Nat} (h : sa_E a a') (hc : xa_ch a' = 0) : sa_l a' x = sa_l a x := by
  unfold sa_l
  rw [(h.2.2.2.2.1 hc).2]
theorem cr_x1lt {x n : Nat} (h : x < 2 * n) : x ^^^ 1 < 2 * n := by
  have := cr_x1 x
  omega
/-- gates at rest -/
def sa_QA (a : gt_A) (o x y : Nat) : Prop := (sa_l a x = 1 → sa_l a y = 1 → sa_l a o = 1) ∧ (sa_l a x = -1 ∨ sa_l a y = -1 → sa_l a o = -1)
def sa_QX (a : gt_A) (o x y : Nat) : Prop := sa_l a x ≠ 0 → sa_l a y ≠ 0 → sa_l a o = (if sa_l a x = sa_l a y then -1 else 1)
end
section
/-! walks: makeTrue, literalValue, propagateAnd, propagateXor, propagateGate -/
section
variable {C : gt_C} {vv : gt_V} {dd : (Nat → Int64)} {sm : (Nat → Int32)} {aa : gt_A} {bb : gt_B} {ee : gt_E} {oo : gt_O} {ll : gt_L} {pp : gt_P} {ff : gt_F} {hh : gt_H} {kk : gt_K}
theorem xm_mt15 {post : SX → Prop} {x : Nat} (hC : cr_OK C) (hx : x < 2 * xc_N C) (hW : sa_W C aa) (K : ∀ a', sa_MT C x aa a' → post (mk_X C vv dd sm a' bb ee oo ll pp ff hh kk)) : wX_makeTrue_15 post (nI (x / 2)) (sa_w x) (nI (xc_ci C)) (nI (xc_cl C)) (nI (xc_cg C)) (nI (xc_N C)) (nI (xc_ni C)) (nI (xc_nl C)) (nI (xc_ng C)) (nI (xc_fx C)) (nI (xc_on C)) (nI (xv_ph vv)) (nI (xv_fr vv)) (nI (xv_cc vv)) (nI (xa_ts aa)) (xa_cf aa) (xa_ch aa) (nI (xa_km aa)) (nI (xa_kv aa)) (nI (xb_bc bb)) (nI (xe_dc ee)) (nI (xo_ss oo)) (nI (xo_si oo)) (nI (xl_lc ll)) (xp_gb pp) (nI (xp_gm pp)) (nI (xp_gv pp)) (nI (xf_m ff)) (nI (xf_v ff)) (nI (xh_m hh)) (nI (xh_v hh)) (fun zi => nI (xc_kind C zi)) (fun zi => nI (xc_idx C zi)) (fun zi => nI (xc_opA C zi)) (fun zi => nI (xc_opB C zi)) (fun zi => nI (xc_inN C zi)) (fun zi => nI (xc_laN C zi)) (fun zi => nI (xc_root C zi)) (fun zi => nI (xv_cm vv zi)) (fun zi => nI (xv_cv vv zi)) (fun zi => nI (xv_ts vv zi)) (fun zi => nI (xv_ti vv zi)) dd sm (xa_val aa) (fun zi => nI (xa_tr aa zi)) (fun zi => nI (xb_bm bb zi)) (fun zi => nI (xb_bv bb zi)) (fun zi => nI (xe_dn ee zi)) (fun zi => nI (xe_dm ee zi)) (xe_df ee) (fun zi => nI (xl_lm ll zi)) (fun zi => nI (xl_lv ll zi)) (fun zi => nI (xl_le ll zi)) (xl_st ll) (fun zi => nI (xk_m kk zi)) (fun zi => nI (xk_v kk zi)) := by
  have hb := cr_b hC
  have hn : x / 2 < xc_N C := by omega
  have hin : vp_in (nI (x / 2)) 29 := vp_in_nI (by omega) (by omega)
  have hcl : (nI (x / 2)).toNatClampNeg = x / 2 := nI_clamp (by omega)
  unfold wX_makeTrue_15
  rw [hcl]
  refine ⟨hin, br_c (fun h1 => K aa (Or.inl ⟨h1, rfl⟩)) (fun h1 => ⟨hin, br_c (fun h0 => ?_) (fun h0 => K (((xa_ts aa, 1, xa_ch aa, xa_km aa, xa_kv aa, xa_val aa, xa_tr aa) : gt_A)) (Or.inr (Or.inl ⟨h1, h0, rfl⟩)))⟩)⟩
  have hr := sa_room hW.1 hn h0
  have hts : vp_in (nI (xa_ts aa)) 29 := vp_in_nI (by omega) (by omega)
  have e := K _ (Or.inr (Or.inr ⟨h0, rfl⟩))
  have hk5 : xc_kind C (x / 2) ≤ 5 := by
    rcases Nat.eq_zero_or_pos (x / 2) with z | z
    · rw [z, cr_k0 hC]; omega
    · exact (cr_kp hC hn z).2
  refine ⟨hin, nm_e ⟨hts, nm_r (up_I (by omega)) (nm_r (nI_1 _) ⟨hin, br_c (fun hk => ?_) (fun hk => ?_)⟩)⟩⟩
  · have hk' : xc_kind C (x / 2) = 2 := (nI_eq (b := 2) (by omega) (by omega)).mp hk
    have hidx := (cr_kl hC hn hk').1
    rw [if_pos hk'] at e
    refine ⟨hin, nm_r (bq_pow (by omega)) (nm_r (bq_or _ _) (br_c (fun hz => ?_) (fun hz => nm_r (bq_or _ _) ?_)))⟩
    · have h2 : ¬ x % 2 = 0 := fun z => absurd hz (by rw [show sa_w x = 1 from if_pos z]; decide)
      rw [if_neg (fun z => h2 z.2)] at e
      exact e
    · have h2 : x % 2 = 0 := by
        rcases Nat.mod_two_eq_zero_or_one x with z | z
        · exact z
        · exact absurd (show sa_w x ≤ 0 by rw [show sa_w x = -1 from if_neg (by omega)]; decide) hz
      rw [if_pos ⟨hk', h2⟩] at e
      exact e
  · have hk' : ¬ xc_kind C (x / 2) = 2 := fun z => hk (by show nI (xc_kind C (x / 2)) = 2; rw [z]; rfl)
    rw [if_neg hk', if_neg (fun z => hk' z.1)] at e
    exact e
theorem xm_makeTrue {post : SX → Prop} {x : Nat} (hC : cr_OK C) (hx : x < 2 * xc_N C) (hW : sa_W C aa) (K : ∀ a', sa_MT C x aa a' → post (mk_X C vv dd sm a' bb ee oo ll pp ff hh kk)) : wpX_makeTrue post (mk_X C vv dd sm aa bb ee oo ll pp ff hh kk) (nI x) := by
  have hb := cr_b hC
  have h15 := xm_mt15 (post := post) hC hx hW K
  refine nm_r (bq_half (by omega)) (br_c (fun h => ?_) (fun h => ?_))
  · rw [show sa_w x = 1 from if_pos ((bq_low0 (by omega)).mp h)] at h15
    exact h15
  · rw [show sa_w x = -1 from if_neg (fun z => h ((bq_low0 (by omega)).mpr z))] at h15
    exact h15
theorem xm_lv {post : Int32 → Prop} {x : Nat} (hC : cr_OK C) (hx : x < 2 * xc_N C) (K : post (sa_l aa x)) : wpX_literalValue post (mk_X C vv dd sm aa bb ee oo ll pp ff hh kk) (nI x) := by
  have hb := cr_b hC
  have hh : nI x >>> ((1 : Int32) &&& 31) = nI (x / 2) := bq_half (by omega)
  refine ⟨by rw [hh]; exact vp_in_nI (by omega) (by omega), nm_r (e' := xa_val aa (x / 2)) (by rw [hh, nI_clamp (by omega)]) (br_c (fun h => ?_) (fun h => ?_))⟩
  · have : sa_l aa x = xa_val aa (x / 2) := if_pos ((bq_low0 (by omega)).mp h)
    rw [← this]; exact K
  · have : sa_l aa x = -(xa_val aa (x / 2)) := if_neg (fun z => h ((bq_low0 (by omega)).mpr z))
    rw [← this]; exact K
theorem xm_and91 {post : SX → Prop} {a0 : gt_A} {x : Nat} {z : Int32} (hC : cr_OK C) (hx : x < 2 * xc_N C) (hR : sa_R C bb a0 aa) (hi : 0 < z → ∀ s u, s < 2 ^ xc_nl C → u < 2 ^ xc_ni C → sb_ok bb s → sa_S C a0 s u → cr_lit C s u (x ^^^ 1) = true) (K : ∀ a', sa_R C bb a0 a' → sa_E aa a' → post (mk_X C vv dd sm a' bb ee oo ll pp ff hh kk)) : wX_propagateAnd_91 post (nI x) z (nI (xc_ci C)) (nI (xc_cl C)) (nI (xc_cg C)) (nI (xc_N C)) (nI (xc_ni C)) (nI (xc_nl C)) (nI (xc_ng C)) (nI (xc_fx C)) (nI (xc_on C)) (nI (xv_ph vv)) (nI (xv_fr vv)) (nI (xv_cc vv)) (nI (xa_ts aa)) (xa_cf aa) (xa_ch aa) (nI (xa_km aa)) (nI (xa_kv aa)) (nI (xb_bc bb)) (nI (xe_dc ee)) (nI (xo_ss oo)) (nI (xo_si oo)) (nI (xl_lc ll)) (xp_gb pp) (nI (xp_gm pp)) (nI (xp_gv pp)) (nI (xf_m ff)) (nI (xf_v ff)) (nI (xh_m hh)) (nI (xh_v hh)) (fun zi => nI (xc_kind C zi)) (fun zi => nI (xc_idx C zi)) (fun zi => nI (xc_opA C zi)) (fun zi => nI (xc_opB C zi)) (fun zi => nI (xc_inN C zi)) (fun zi => nI (xc_laN C zi)) (fun zi => nI (xc_root C zi)) (fun zi => nI (xv_cm vv zi)) (fun zi => nI (xv_cv vv zi)) (fun zi => nI (xv_ts vv zi)) (fun zi => nI (xv_ti vv zi)) dd sm (xa_val aa) (fun zi => nI (xa_tr aa zi)) (fun zi => nI (xb_bm bb zi)) (fun zi => nI (xb_bv bb zi)) (fun zi => nI (xe_dn ee zi)) (fun zi => nI (xe_dm ee zi)) (xe_df ee) (fun zi => nI (xl_lm ll zi)) (fun zi => nI (xl_lv ll zi)) (fun zi => nI (xl_le ll zi)) (xl_st ll) (fun zi => nI (xk_m kk zi)) (fun zi => nI (xk_v kk zi)) := by
  refine br_c (fun _ => K aa hR (sa_E_r aa)) (fun hz => ?_)
  rw [show nI x ^^^ 1 = nI (x ^^^ 1) from nx_xor x 1]
  refine xm_makeTrue hC (cr_x1lt hx) hR.1 (fun a' hM => ?_)
  exact K a' (sa_R_M hC (cr_x1lt hx) hR (hi (Int32.not_le.mp hz)) hM) (sa_M_E hR.1 hM)
theorem xm_and56 {post : SX → Prop} {a0 : gt_A} {x y : Nat} {zx zy zo : Int32} (hC : cr_OK C) (hx : x < 2 * xc_N C) (hy : y < 2 * xc_N C) (hR : sa_R C bb a0 aa)
    (h1 : 0 < zo → ∀ s u, s < 2 ^ xc_nl C → u < 2 ^ xc_ni C → sb_ok bb s → sa_S C a0 s u → cr_lit C s u x = true ∧ cr_lit C s u y = true)
    (h2 : zo < 0 → 0 < zx → ∀ s u, s < 2 ^ xc_nl C → u < 2 ^ xc_ni C → sb_ok bb s → sa_S C a0 s u → cr_lit C s u (y ^^^ 1) = true)
    (h3 : zo < 0 → 0 < zy → ∀ s u, s < 2 ^ xc_nl C → u < 2 ^ xc_ni C → sb_ok bb s → sa_S C a0 s u → cr_lit C s u (x ^^^ 1) = true)
    (K : ∀ a', sa_R C bb a0 a' → sa_E aa a' → post (mk_X C vv dd sm a' bb ee oo ll pp ff hh kk)) : wX_propagateAnd_56 post (nI x) (nI y) zx zy zo (nI (xc_ci C)) (nI (xc_cl C)) (nI (xc_cg C)) (nI (xc_N C)) (nI (xc_ni C)) (nI (xc_nl C)) (nI (xc_ng C)) (nI (xc_fx C)) (nI (xc_on C)) (nI (xv_ph vv)) (nI (xv_fr vv)) (nI (xv_cc vv)) (nI (xa_ts aa)) (xa_cf aa) (xa_ch aa) (nI (xa_km aa)) (nI (xa_kv aa)) (nI (xb_bc bb)) (nI (xe_dc ee)) (nI (xo_ss oo)) (nI (xo_si oo)) (nI (xl_lc ll)) (xp_gb pp) (nI (xp_gm pp)) (nI (xp_gv pp)) (nI (xf_m ff)) (nI (xf_v ff)) (nI (xh_m hh)) (nI (xh_v hh)) (fun zi => nI (xc_kind C zi)) (fun zi => nI (xc_idx C zi)) (fun zi => nI (xc_opA C zi)) (fun zi => nI (xc_opB C zi)) (fun zi => nI (xc_inN C zi)) (fun zi => nI (xc_laN C zi)) (fun zi => nI (xc_root C zi)) (fun zi => nI (xv_cm vv zi)) (fun zi => nI (xv_cv vv zi)) (fun zi => nI (xv_ts vv zi)) (fun zi => nI (xv_ti vv zi)) dd sm (xa_val aa) (fun zi => nI (xa_tr aa zi)) (fun zi => nI (xb_bm bb zi)) (fun zi => nI (xb_bv bb zi)) (fun zi => nI (xe_dn ee zi)) (fun zi => nI (xe_dm ee zi)) (xe_df ee) (fun zi => nI (xl_lm ll zi)) (fun zi => nI (xl_lv ll zi)) (fun zi => nI (xl_le ll zi)) (xl_st ll) (fun zi => nI (xk_m kk zi)) (fun zi => nI (xk_v kk zi)) := by
  refine br_c (fun _ => br_c (fun _ => K aa hR (sa_E_r aa)) (fun hz => br_c (fun _ => ?_) (fun hzx => ?_))) (fun hz => ?_)
  · exact xm_and91 hC hx hR (h3 (Int32.not_le.mp hz)) K
  · rw [show nI y ^^^ 1 = nI (y ^^^ 1) from nx_xor y 1]
    refine xm_makeTrue hC (cr_x1lt hy) hR.1 (fun a' hM => ?_)
    have hR' := sa_R_M hC (cr_x1lt hy) hR (h2 (Int32.not_le.mp hz) (Int32.not_le.mp hzx)) hM
    exact xm_and91 hC hx hR' (h3 (Int32.not_le.mp hz)) (fun a'' hr he => K a'' hr (sa_E_t (sa_M_E hR.1 hM) he))
  · have h1' := h1 (Int32.not_le.mp hz)
    refine xm_makeTrue hC hx hR.1 (fun a' hM => ?_)
    have hR' := sa_R_M hC hx hR (fun s u a b c d => (h1' s u a b c d).1) hM
    refine xm_makeTrue hC hy hR'.1 (fun a'' hM' => ?_)
    exact K a'' (sa_R_M hC hy hR' (fun s u a b c d => (h1' s u a b c d).2) hM') (sa_E_t (sa_M_E hR.1 hM) (sa_M_E hR'.1 hM'))
end
end
section
/-! walks: propagateAnd, propagateXor, propagateGate -/
theorem i3_n {v : Int32} (h : v = 0 ∨ v = 1 ∨ v = -1) : v < 0 ↔ v = -1 := by
  rcases h with h | h | h <;> rw [h] <;> decide
theorem i3_p {v : Int32} (h : v = 0 ∨ v = 1 ∨ v = -1) : 0 < v ↔ v = 1 := by
  rcases h with h | h | h <;> rw [h] <;> decide
theorem i3_nn {v : Int32} (h : v = 0 ∨ v = 1 ∨ v = -1) (h1 : -v = 1) : v = -1 := by
  rcases h with h | h | h <;> rw [h] at h1 ⊢ <;> first | rfl | exact absurd h1 (by decide)
theorem i3_z (v : Int32) (h : v = 0 ∨ v = 1 ∨ v = -1) (h1 : v ≠ 0) : v = 1 ∨ v = -1 := by
  rcases h with h | h
  · exact absurd h h1
  · exact h
def sa_GQ (C : gt_C) (a : gt_A) (n : Nat) : Prop :=
  (xc_kind C n = 3 → sa_QA a (2 * n) (xc_opA C n) (xc_opB C n)) ∧
  (xc_kind C n = 4 → sa_QA a (2 * n ^^^ 1) (xc_opA C n ^^^ 1) (xc_opB C n ^^^ 1)) ∧
  (xc_kind C n = 5 → sa_QX a (2 * n) (xc_opA C n) (xc_opB C n))
theorem cr_lit2 (C : gt_C) (s u n : Nat) : cr_lit C s u (2 * n) = cr_ev C s u n := by
  unfold cr_lit cr_lv
  rw [show 2 * n / 2 = n by omega, show 2 * n % 2 = 0 by omega, decide_eq_false (by decide), Bool.xor_false]
section
variable {C : gt_C} {vv : gt_V} {dd : (Nat → Int64)} {sm : (Nat → Int32)} {aa : gt_A} {bb : gt_B} {ee : gt_E} {oo : gt_O} {ll : gt_L} {pp : gt_P} {ff : gt_F} {hh : gt_H} {kk : gt_K}
theorem xm_pAnd {post : SX → Prop} {o x y : Nat} (hC : cr_OK C) (ho : o < 2 * xc_N C) (hx : x < 2 * xc_N C) (hy : y < 2 * xc_N C) (hW : sa_W C aa) (hs : ∀ s u, cr_lit C s u o = (cr_lit C s u x && cr_lit C s u y)) (K : ∀ a', sa_R C bb aa a' → (xa_ch a' = 0 → xa_cf a' = 0 → sa_QA a' o x y) → post (mk_X C vv dd sm a' bb ee oo ll pp ff hh kk)) : wpX_propagateAnd post (mk_X C vv dd sm aa bb ee oo ll pp ff hh kk) (nI o) (nI x) (nI y) := by
  have x3 := sa_l3 hW hx
  have y3 := sa_l3 hW hy
  have o3 := sa_l3 hW ho
  have h56 : ∀ a1, sa_R C bb aa a1 → (∀ a', sa_R C bb aa a' → sa_E a1 a' → post (mk_X C vv dd sm a' bb ee oo ll pp ff hh kk)) → wX_propagateAnd_56 post (nI x) (nI y) (sa_l aa x) (sa_l aa y) (sa_l aa o) (nI (xc_ci C)) (nI (xc_cl C)) (nI (xc_cg C)) (nI (xc_N C)) (nI (xc_ni C)) (nI (xc_nl C)) (nI (xc_ng C)) (nI (xc_fx C)) (nI (xc_on C)) (nI (xv_ph vv)) (nI (xv_fr vv)) (nI (xv_cc vv)) (nI (xa_ts a1)) (xa_cf a1) (xa_ch a1) (nI (xa_km a1)) (nI (xa_kv a1)) (nI (xb_bc bb)) (nI (xe_dc ee)) (nI (xo_ss oo)) (nI (xo_si oo)) (nI (xl_lc ll)) (xp_gb pp) (nI (xp_gm pp)) (nI (xp_gv pp)) (nI (xf_m ff)) (nI (xf_v ff)) (nI (xh_m hh)) (nI (xh_v hh)) (fun zi => nI (xc_kind C zi)) (fun zi => nI (xc_idx C zi)) (fun zi => nI (xc_opA C zi)) (fun zi => nI (xc_opB C zi)) (fun zi => nI (xc_inN C zi)) (fun zi => nI (xc_laN C zi)) (fun zi => nI (xc_root C zi)) (fun zi => nI (xv_cm vv zi)) (fun zi => nI (xv_cv vv zi)) (fun zi => nI (xv_ts vv zi)) (fun zi => nI (xv_ti vv zi)) dd sm (xa_val a1) (fun zi => nI (xa_tr a1 zi)) (fun zi => nI (xb_bm bb zi)) (fun zi => nI (xb_bv bb zi)) (fun zi => nI (xe_dn ee zi)) (fun zi => nI (xe_dm ee zi)) (xe_df ee) (fun zi => nI (xl_lm ll zi)) (fun zi => nI (xl_lv ll zi)) (fun zi => nI (xl_le ll zi)) (xl_st ll) (fun zi => nI (xk_m kk zi)) (fun zi => nI (xk_v kk zi)) := by
    intro a1 hR1 K1
    refine xm_and56 hC hx hy hR1 ?_ ?_ ?_ K1
    · intro h s u _ _ _ hS
      have := (sa_l_t hW ho hS).1 ((i3_p o3).mp h)
      rw [hs, Bool.and_eq_true] at this
      exact this
    · intro h h' s u _ _ _ hS
      have a1 := (sa_l_t hW ho hS).2 ((i3_n o3).mp h)
      have a2 := (sa_l_t hW hx hS).1 ((i3_p x3).mp h')
      rw [hs, a2, Bool.true_and] at a1
      rw [cr_lit_flip, a1]; rfl
    · intro h h' s u _ _ _ hS
      have a1 := (sa_l_t hW ho hS).2 ((i3_n o3).mp h)
      have a2 := (sa_l_t hW hy hS).1 ((i3_p y3).mp h')
      rw [hs, a2, Bool.and_true] at a1
      rw [cr_lit_flip, a1]; rfl
  have h31 : (sa_l aa x = -1 ∨ sa_l aa y = -1) → wX_propagateAnd_31 post (nI o) (nI x) (nI y) (sa_l aa x) (sa_l aa y) (sa_l aa o) (nI (xc_ci C)) (nI (xc_cl C)) (nI (xc_cg C)) (nI (xc_N C)) (nI (xc_ni C)) (nI (xc_nl C)) (nI (xc_ng C)) (nI (xc_fx C)) (nI (xc_on C)) (nI (xv_ph vv)) (nI (xv_fr vv)) (nI (xv_cc vv)) (nI (xa_ts aa)) (xa_cf aa) (xa_ch aa) (nI (xa_km aa)) (nI (xa_kv aa)) (nI (xb_bc bb)) (nI (xe_dc ee)) (nI (xo_ss oo)) (nI (xo_si oo)) (nI (xl_lc ll)) (xp_gb pp) (nI (xp_gm pp)) (nI (xp_gv pp)) (nI (xf_m ff)) (nI (xf_v ff)) (nI (xh_m hh)) (nI (xh_v hh)) (fun zi => nI (xc_kind C zi)) (fun zi => nI (xc_idx C zi)) (fun zi => nI (xc_opA C zi)) (fun zi => nI (xc_opB C zi)) (fun zi => nI (xc_inN C zi)) (fun zi => nI (xc_laN C zi)) (fun zi => nI (xc_root C zi)) (fun zi => nI (xv_cm vv zi)) (fun zi => nI (xv_cv vv zi)) (fun zi => nI (xv_ts vv zi)) (fun zi => nI (xv_ti vv zi)) dd sm (xa_val aa) (fun zi => nI (xa_tr aa zi)) (fun zi => nI (xb_bm bb zi)) (fun zi => nI (xb_bv bb zi)) (fun zi => nI (xe_dn ee zi)) (fun zi => nI (xe_dm ee zi)) (xe_df ee) (fun zi => nI (xl_lm ll zi)) (fun zi => nI (xl_lv ll zi)) (fun zi => nI (xl_le ll zi)) (xl_st ll) (fun zi => nI (xk_m kk zi)) (fun zi => nI (xk_v kk zi)) := by
    intro hz
    unfold wX_propagateAnd_31
    rw [show nI o ^^^ 1 = nI (o ^^^ 1) from nx_xor o 1]
    refine xm_makeTrue hC (cr_x1lt ho) hW (fun a1 hM => ?_)
    have hR1 := sa_R_M hC (cr_x1lt ho) (sa_R_r (b := bb) hW) (fun s u _ _ _ hS => by
      rw [cr_lit_flip, hs]
      rcases hz with z | z
      · rw [(sa_l_t hW hx hS).2 z]; rfl
      · rw [(sa_l_t hW hy hS).2 z, Bool.and_false]; rfl) hM
    refine h56 a1 hR1 (fun a' hR he => K a' hR (fun hch hcf => ?_))
    have c1 : xa_cf a1 = 0 := he.2.2.2.1 hcf
    have e1 := sa_l_M hW (cr_x1lt ho) hM c1
    rw [← sa_l_q he hch, sa_l_x] at e1
    have e2 := i3_nn (sa_l3 hR.1 ho) e1
    refine ⟨fun p q => ?_, fun _ => e2⟩
    rw [sa_l_q hR.2.1 hch] at p q
    rcases hz with z | z
    · exact absurd (p.symm.trans z) (by decide)
    · exact absurd (q.symm.trans z) (by decide)
  have hk : ¬ (sa_l aa x = -1 ∨ sa_l aa y = -1) → ¬ (sa_l aa x = 1 ∧ sa_l aa y = 1) → wX_propagateAnd_56 post (nI x) (nI y) (sa_l aa x) (sa_l aa y) (sa_l aa o) (nI (xc_ci C)) (nI (xc_cl C)) (nI (xc_cg C)) (nI (xc_N C)) (nI (xc_ni C)) (nI (xc_nl C)) (nI (xc_ng C)) (nI (xc_fx C)) (nI (xc_on C)) (nI (xv_ph vv)) (nI (xv_fr vv)) (nI (xv_cc vv)) (nI (xa_ts aa)) (xa_cf aa) (xa_ch aa) (nI (xa_km aa)) (nI (xa_kv aa)) (nI (xb_bc bb)) (nI (xe_dc ee)) (nI (xo_ss oo)) (nI (xo_si oo)) (nI (xl_lc ll)) (xp_gb pp) (nI (xp_gm pp)) (nI (xp_gv pp)) (nI (xf_m ff)) (nI (xf_v ff)) (nI (xh_m hh)) (nI (xh_v hh)) (fun zi => nI (xc_kind C zi)) (fun zi => nI (xc_idx C zi)) (fun zi => nI (xc_opA C zi)) (fun zi => nI (xc_opB C zi)) (fun zi => nI (xc_inN C zi)) (fun zi => nI (xc_laN C zi)) (fun zi => nI (xc_root C zi)) (fun zi => nI (xv_cm vv zi)) (fun zi => nI (xv_cv vv zi)) (fun zi => nI (xv_ts vv zi)) (fun zi => nI (xv_ti vv zi)) dd sm (xa_val aa) (fun zi => nI (xa_tr aa zi)) (fun zi => nI (xb_bm bb zi)) (fun zi => nI (xb_bv bb zi)) (fun zi => nI (xe_dn ee zi)) (fun zi => nI (xe_dm ee zi)) (xe_df ee) (fun zi => nI (xl_lm ll zi)) (fun zi => nI (xl_lv ll zi)) (fun zi => nI (xl_le ll zi)) (xl_st ll) (fun zi => nI (xk_m kk zi)) (fun zi => nI (xk_v kk zi)) := by
    intro hn hp
    refine h56 aa (sa_R_r hW) (fun a' hR he => K a' hR (fun hch hcf => ?_))
    unfold sa_QA
    rw [sa_l_q hR.2.1 hch, sa_l_q hR.2.1 hch]
    exact ⟨fun p q => absurd ⟨p, q⟩ hp, fun p => absurd p hn⟩
  refine xm_lv (C := C) (vv := vv) (dd := dd) (sm := sm) (aa := aa) (bb := bb) (ee := ee) (oo := oo) (ll := ll) (pp := pp) (ff := ff) (hh := hh) (kk := kk) hC hx (xm_lv (C := C) (vv := vv) (dd := dd) (sm := sm) (aa := aa) (bb := bb) (ee := ee) (oo := oo) (ll := ll) (pp := pp) (ff := ff) (hh := hh) (kk := kk) hC hy (xm_lv (C := C) (vv := vv) (dd := dd) (sm := sm) (aa := aa) (bb := bb) (ee := ee) (oo := oo) (ll := ll) (pp := pp) (ff := ff) (hh := hh) (kk := kk) hC ho ?_))
  refine br_c (fun h1 => h31 (Or.inl ((i3_n x3).mp h1))) (fun h1 => br_c (fun h2 => br_c (fun h3 => ?_) (fun h3 => br_c (fun h4 => ?_) (fun h4 => ?_))) (fun h2 => h31 (Or.inr ((i3_n y3).mp (Int32.not_le.mp h2)))))
  · refine hk ?_ ?_
    · rintro (z | z)
      · exact h1 ((i3_n x3).mpr z)
      · exact absurd ((i3_n y3).mpr z) (Int32.not_lt.mpr h2)
    · intro ⟨z, _⟩
      exact absurd ((i3_p x3).mpr z) (Int32.not_lt.mpr h3)
  · refine hk ?_ ?_
    · rintro (z | z)
      · exact h1 ((i3_n x3).mpr z)
      · exact absurd ((i3_n y3).mpr z) (Int32.not_lt.mpr h2)
    · intro ⟨_, z⟩
      exact absurd ((i3_p y3).mpr z) (Int32.not_lt.mpr h4)
  · have hx1 := (i3_p x3).mp (Int32.not_le.mp h3)
    have hy1 := (i3_p y3).mp (Int32.not_le.mp h4)
    refine xm_makeTrue hC ho hW (fun a1 hM => ?_)
    have hR1 := sa_R_M hC ho (sa_R_r (b := bb) hW) (fun s u _ _ _ hS => by
      rw [hs, (sa_l_t hW hx hS).1 hx1, (sa_l_t hW hy hS).1 hy1]; rfl) hM
    refine h56 a1 hR1 (fun a' hR he => K a' hR (fun hch hcf => ?_))
    have c1 : xa_cf a1 = 0 := he.2.2.2.1 hcf
    have e1 := sa_l_M hW ho hM c1
    rw [← sa_l_q he hch] at e1
    refine ⟨fun _ _ => e1, fun p => ?_⟩
    rw [sa_l_q hR.2.1 hch, sa_l_q hR.2.1 hch, hx1, hy1] at p
    exact absurd p (by decide)
theorem xm_x83 {post : SX → Prop} {x : Nat} {zy zo : Int32} (hC : cr_OK C) (hx : x < 2 * xc_N C) (hW : sa_W C aa)
    (h1 : zo ≠ 0 → zy ≠ 0 → zo = zy → ∀ s u, sa_S C aa s u → cr_lit C s u (x ^^^ 1) = true)
    (h2 : zo ≠ 0 → zy ≠ 0 → zo ≠ zy → ∀ s u, sa_S C aa s u → cr_lit C s u x = true)
    (K : ∀ a', sa_R C bb aa a' → post (mk_X C vv dd sm a' bb ee oo ll pp ff hh kk)) : wX_propagateXor_83 post (nI x) zy zo (nI (xc_ci C)) (nI (xc_cl C)) (nI (xc_cg C)) (nI (xc_N C)) (nI (xc_ni C)) (nI (xc_nl C)) (nI (xc_ng C)) (nI (xc_fx C)) (nI (xc_on C)) (nI (xv_ph vv)) (nI (xv_fr vv)) (nI (xv_cc vv)) (nI (xa_ts aa)) (xa_cf aa) (xa_ch aa) (nI (xa_km aa)) (nI (xa_kv aa)) (nI (xb_bc bb)) (nI (xe_dc ee)) (nI (xo_ss oo)) (nI (xo_si oo)) (nI (xl_lc ll)) (xp_gb pp) (nI (xp_gm pp)) (nI (xp_gv pp)) (nI (xf_m ff)) (nI (xf_v ff)) (nI (xh_m hh)) (nI (xh_v hh)) (fun zi => nI (xc_kind C zi)) (fun zi => nI (xc_idx C zi)) (fun zi => nI (xc_opA C zi)) (fun zi => nI (xc_opB C zi)) (fun zi => nI (xc_inN C zi)) (fun zi => nI (xc_laN C zi)) (fun zi => nI (xc_root C zi)) (fun zi => nI (xv_cm vv zi)) (fun zi => nI (xv_cv vv zi)) (fun zi => nI (xv_ts vv zi)) (fun zi => nI (xv_ti vv zi)) dd sm (xa_val aa) (fun zi => nI (xa_tr aa zi)) (fun zi => nI (xb_bm bb zi)) (fun zi => nI (xb_bv bb zi)) (fun zi => nI (xe_dn ee zi)) (fun zi => nI (xe_dm ee zi)) (xe_df ee) (fun zi => nI (xl_lm ll zi)) (fun zi => nI (xl_lv ll zi)) (fun zi => nI (xl_le ll zi)) (xl_st ll) (fun zi => nI (xk_m kk zi)) (fun zi => nI (xk_v kk zi)) := by
  refine br_c (fun _ => K aa (sa_R_r hW)) (fun hz => br_c (fun _ => K aa (sa_R_r hW)) (fun hy => br_c (fun e => ?_) (fun e => ?_)))
  · unfold wX_propagateXor_108
    rw [show nI x ^^^ 1 = nI (x ^^^ 1) from nx_xor x 1]
    exact xm_makeTrue hC (cr_x1lt hx) hW (fun a1 hM => K a1 (sa_R_M hC (cr_x1lt hx) (sa_R_r hW) (fun s u _ _ _ hS => h1 hz hy e s u hS) hM))
  · unfold wX_propagateXor_108
    exact xm_makeTrue hC hx hW (fun a1 hM => K a1 (sa_R_M hC hx (sa_R_r hW) (fun s u _ _ _ hS => h2 hz hy e s u hS) hM))
theorem xm_pXor {post : SX → Prop} {o x y : Nat} (hC : cr_OK C) (ho : o < 2 * xc_N C) (hx : x < 2 * xc_N C) (hy : y < 2 * xc_N C) (hW : sa_W C aa) (hs : ∀ s u, cr_lit C s u o = (cr_lit C s u x ^^ cr_lit C s u y)) (K : ∀ a', sa_R C bb aa a' → (xa_ch a' = 0 → xa_cf a' = 0 → sa_QX a' o x y) → post (mk_X C vv dd sm a' bb ee oo ll pp ff hh kk)) : wpX_propagateXor post (mk_X C vv dd sm aa bb ee oo ll pp ff hh kk) (nI o) (nI x) (nI y) := by
  have x3 := sa_l3 hW hx
  have y3 := sa_l3 hW hy
  have o3 := sa_l3 hW ho
  have key : ∀ {p q r : Nat}, p < 2 * xc_N C → q < 2 * xc_N C → (∀ s u, cr_lit C s u r = (cr_lit C s u p ^^ cr_lit C s u q)) → sa_l aa p ≠ 0 → sa_l aa q ≠ 0 → (sa_l aa p = sa_l aa q → ∀ s u, sa_S C aa s u → cr_lit C s u (r ^^^ 1) = true) ∧ (sa_l aa p ≠ sa_l aa q → ∀ s u, sa_S C aa s u → cr_lit C s u r = true) := by
    intro p q r hp hq hr np nq
    have p2 := i3_z _ (sa_l3 hW hp) np
    have q2 := i3_z _ (sa_l3 hW hq) nq
    constructor
    · intro e s u hS
      have a1 := sa_l_t hW hp hS
      have a2 := sa_l_t hW hq hS
      rw [cr_lit_flip, hr]
      rw [← e] at a2
      rcases p2 with z | z
      · rw [a1.1 z, a2.1 z]; rfl
      · rw [a1.2 z, a2.2 z]; rfl
    · intro e s u hS
      have a1 := sa_l_t hW hp hS
      have a2 := sa_l_t hW hq hS
      rw [hr]
      rcases p2 with z | z <;> rcases q2 with z2 | z2
      · exact absurd (z.trans z2.symm) e
      · rw [a1.1 z, a2.2 z2]; rfl
      · rw [a1.2 z, a2.1 z2]; rfl
      · exact absurd (z.trans z2.symm) e
  have hs2 : ∀ s u, cr_lit C s u y = (cr_lit C s u o ^^ cr_lit C s u x) := by
    intro s u; rw [hs]; cases cr_lit C s u x <;> cases cr_lit C s u y <;> rfl
  have hs3 : ∀ s u, cr_lit C s u x = (cr_lit C s u o ^^ cr_lit C s u y) := by
    intro s u; rw [hs]; cases cr_lit C s u x <;> cases cr_lit C s u y <;> rfl
  have h52 : (sa_l aa x = 0 ∨ sa_l aa y = 0) → wX_propagateXor_52 post (nI x) (nI y) (sa_l aa x) (sa_l aa y) (sa_l aa o) (nI (xc_ci C)) (nI (xc_cl C)) (nI (xc_cg C)) (nI (xc_N C)) (nI (xc_ni C)) (nI (xc_nl C)) (nI (xc_ng C)) (nI (xc_fx C)) (nI (xc_on C)) (nI (xv_ph vv)) (nI (xv_fr vv)) (nI (xv_cc vv)) (nI (xa_ts aa)) (xa_cf aa) (xa_ch aa) (nI (xa_km aa)) (nI (xa_kv aa)) (nI (xb_bc bb)) (nI (xe_dc ee)) (nI (xo_ss oo)) (nI (xo_si oo)) (nI (xl_lc ll)) (xp_gb pp) (nI (xp_gm pp)) (nI (xp_gv pp)) (nI (xf_m ff)) (nI (xf_v ff)) (nI (xh_m hh)) (nI (xh_v hh)) (fun zi => nI (xc_kind C zi)) (fun zi => nI (xc_idx C zi)) (fun zi => nI (xc_opA C zi)) (fun zi => nI (xc_opB C zi)) (fun zi => nI (xc_inN C zi)) (fun zi => nI (xc_laN C zi)) (fun zi => nI (xc_root C zi)) (fun zi => nI (xv_cm vv zi)) (fun zi => nI (xv_cv vv zi)) (fun zi => nI (xv_ts vv zi)) (fun zi => nI (xv_ti vv zi)) dd sm (xa_val aa) (fun zi => nI (xa_tr aa zi)) (fun zi => nI (xb_bm bb zi)) (fun zi => nI (xb_bv bb zi)) (fun zi => nI (xe_dn ee zi)) (fun zi => nI (xe_dm ee zi)) (xe_df ee) (fun zi => nI (xl_lm ll zi)) (fun zi => nI (xl_lv ll zi)) (fun zi => nI (xl_le ll zi)) (xl_st ll) (fun zi => nI (xk_m kk zi)) (fun zi => nI (xk_v kk zi)) := by
    intro hz
    have K' : ∀ a', sa_R C bb aa a' → post (mk_X C vv dd sm a' bb ee oo ll pp ff hh kk) := by
      intro a' hR
      refine K a' hR (fun hch _ p q => ?_)
      rw [sa_l_q hR.2.1 hch] at p q
      rcases hz with z | z
      · exact absurd z p
      · exact absurd z q
    have h83 : wX_propagateXor_83 post (nI x) (sa_l aa y) (sa_l aa o) (nI (xc_ci C)) (nI (xc_cl C)) (nI (xc_cg C)) (nI (xc_N C)) (nI (xc_ni C)) (nI (xc_nl C)) (nI (xc_ng C)) (nI (xc_fx C)) (nI (xc_on C)) (nI (xv_ph vv)) (nI (xv_fr vv)) (nI (xv_cc vv)) (nI (xa_ts aa)) (xa_cf aa) (xa_ch aa) (nI (xa_km aa)) (nI (xa_kv aa)) (nI (xb_bc bb)) (nI (xe_dc ee)) (nI (xo_ss oo)) (nI (xo_si oo)) (nI (xl_lc ll)) (xp_gb pp) (nI (xp_gm pp)) (nI (xp_gv pp)) (nI (xf_m ff)) (nI (xf_v ff)) (nI (xh_m hh)) (nI (xh_v hh)) (fun zi => nI (xc_kind C zi)) (fun zi => nI (xc_idx C zi)) (fun zi => nI (xc_opA C zi)) (fun zi => nI (xc_opB C zi)) (fun zi => nI (xc_inN C zi)) (fun zi => nI (xc_laN C zi)) (fun zi => nI (xc_root C zi)) (fun zi => nI (xv_cm vv zi)) (fun zi => nI (xv_cv vv zi)) (fun zi => nI (xv_ts vv zi)) (fun zi => nI (xv_ti vv zi)) dd sm (xa_val aa) (fun zi => nI (xa_tr aa zi)) (fun zi => nI (xb_bm bb zi)) (fun zi => nI (xb_bv bb zi)) (fun zi => nI (xe_dn ee zi)) (fun zi => nI (xe_dm ee zi)) (xe_df ee) (fun zi => nI (xl_lm ll zi)) (fun zi => nI (xl_lv ll zi)) (fun zi => nI (xl_le ll zi)) (xl_st ll) (fun zi => nI (xk_m kk zi)) (fun zi => nI (xk_v kk zi)) := by
      refine xm_x83 hC hx hW ?_ ?_ K'
      · intro a b e; exact (key ho hy hs3 a b).1 e
      · intro a b e; exact (key ho hy hs3 a b).2 e
    refine br_c (fun _ => h83) (fun h1 => br_c (fun _ => h83) (fun h2 => br_c (fun e => ?_) (fun e => ?_)))
    · unfold wX_propagateXor_77
      rw [show nI y ^^^ 1 = nI (y ^^^ 1) from nx_xor y 1]
      exact xm_makeTrue hC (cr_x1lt hy) hW (fun a1 hM => K' a1 (sa_R_M hC (cr_x1lt hy) (sa_R_r hW) (fun s u _ _ _ hS => (key ho hx hs2 h1 h2).1 e s u hS) hM))
    · unfold wX_propagateXor_77
      exact xm_makeTrue hC hy hW (fun a1 hM => K' a1 (sa_R_M hC hy (sa_R_r hW) (fun s u _ _ _ hS => (key ho hx hs2 h1 h2).2 e s u hS) hM))
  refine xm_lv (C := C) (vv := vv) (dd := dd) (sm := sm) (aa := aa) (bb := bb) (ee := ee) (oo := oo) (ll := ll) (pp := pp) (ff := ff) (hh := hh) (kk := kk) hC hx (xm_lv (C := C) (vv := vv) (dd := dd) (sm := sm) (aa := aa) (bb := bb) (ee := ee) (oo := oo) (ll := ll) (pp := pp) (ff := ff) (hh := hh) (kk := kk) hC hy (xm_lv (C := C) (vv := vv) (dd := dd) (sm := sm) (aa := aa) (bb := bb) (ee := ee) (oo := oo) (ll := ll) (pp := pp) (ff := ff) (hh := hh) (kk := kk) hC ho ?_))
  refine br_c (fun h1 => h52 (Or.inl h1)) (fun h1 => br_c (fun h2 => h52 (Or.inr h2)) (fun h2 => br_c (fun e => ?_) (fun e => ?_)))
  · unfold wX_propagateXor_46
    rw [show nI o ^^^ 1 = nI (o ^^^ 1) from nx_xor o 1]
    refine xm_makeTrue hC (cr_x1lt ho) hW (fun a1 hM => ?_)
    have hR := sa_R_M hC (cr_x1lt ho) (sa_R_r (b := bb) hW) (fun s u _ _ _ hS => (key hx hy hs h1 h2).1 e s u hS) hM
    refine K a1 hR (fun hch hcf _ _ => ?_)
    have e1 := sa_l_M hW (cr_x1lt ho) hM hcf
    rw [sa_l_x] at e1
    rw [sa_l_q hR.2.1 hch (x := o), sa_l_q hR.2.1 hch (x := x), sa_l_q hR.2.1 hch (x := y), if_pos e]
    have := i3_nn (sa_l3 hR.1 ho) e1
    rw [sa_l_q hR.2.1 hch] at this
    exact this
  · unfold wX_propagateXor_46
    refine xm_makeTrue hC ho hW (fun a1 hM => ?_)
    have hR := sa_R_M hC ho (sa_R_r (b := bb) hW) (fun s u _ _ _ hS => (key hx hy hs h1 h2).2 e s u hS) hM
    refine K a1 hR (fun hch hcf _ _ => ?_)
    have e1 := sa_l_M hW ho hM hcf
    rw [e1, sa_l_q hR.2.1 hch, sa_l_q hR.2.1 hch (x := y), if_neg e]
theorem xm_k3 : ∀ k, k ≤ 5 → ((nI k - 3 = 0 ↔ k = 3) ∧ (nI k - 3 = 1 ↔ k = 4) ∧ (nI k - 3 = 2 ↔ k = 5)) := by decide +kernel
theorem xm_pGate {post : SX → Prop} {n : Nat} (hC : cr_OK C) (hn : n < xc_N C) (h0 : 0 < n) (hW : sa_W C aa) (K : ∀ a', sa_R C bb aa a' → (xa_ch a' = 0 → xa_cf a' = 0 → sa_GQ C a' n) → post (mk_X C vv dd sm a' bb ee oo ll pp ff hh kk)) : wpX_propagateGate post (mk_X C vv dd sm aa bb ee oo ll pp ff hh kk) (nI n) := by
  have hb := cr_b hC
  have hin : vp_in (nI n) 29 := vp_in_nI (by omega) (by omega)
  have hk5 := (cr_kp hC hn h0).2
  obtain ⟨k3, k4, k5⟩ := xm_k3 _ hk5
  have he : ∀ s u, cr_lit C s u (2 * n) = cr_gate C s u (cr_ev C s u) n := fun s u => by rw [cr_lit2, cr_ev_eq hC hn]
  refine ⟨hin, nm_r (e' := nI (xc_kind C n) - 3) (by rw [nI_clamp (by omega)]) (nm_r (e' := nI (2 * n)) (pk_mul 2 n) ⟨hin, nm_r (e' := nI (xc_opA C n)) (by rw [nI_clamp (by omega)]) ⟨hin, nm_r (e' := nI (xc_opB C n)) (by rw [nI_clamp (by omega)]) ?_⟩⟩)⟩
  refine br_c (fun h => ?_) (fun h3 => br_c (fun h => ?_) (fun h4 => br_c (fun h => ?_) (fun h5 => ?_)))
  · have hk := k3.mp h
    obtain ⟨oa, ob⟩ := cr_kg hC hn (by omega)
    refine xm_pAnd hC (by omega) (by omega) (by omega) hW (fun s u => ?_) (fun a' hR hQ => K a' hR (fun p q => ⟨fun _ => hQ p q, fun z => by omega, fun z => by omega⟩))
    rw [he]; unfold cr_gate
    rw [if_neg (by omega), if_neg (by omega), if_pos hk]; rfl
  · have hk := k4.mp h
    obtain ⟨oa, ob⟩ := cr_kg hC hn (by omega)
    rw [show nI (2 * n) ^^^ 1 = nI (2 * n ^^^ 1) from nx_xor _ 1, show nI (xc_opA C n) ^^^ 1 = nI (xc_opA C n ^^^ 1) from nx_xor _ 1, show nI (xc_opB C n) ^^^ 1 = nI (xc_opB C n ^^^ 1) from nx_xor _ 1]
    refine xm_pAnd hC (cr_x1lt (by omega)) (cr_x1lt (by omega)) (cr_x1lt (by omega)) hW (fun s u => ?_) (fun a' hR hQ => K a' hR (fun p q => ⟨fun z => by omega, fun _ => hQ p q, fun z => by omega⟩))
    rw [cr_lit_flip, cr_lit_flip, cr_lit_flip, he]; unfold cr_gate
    rw [if_neg (by omega), if_neg (by omega), if_neg (by omega), if_pos hk, Bool.not_or]; rfl
  · have hk := k5.mp h
    obtain ⟨oa, ob⟩ := cr_kg hC hn (by omega)
    refine xm_pXor hC (by omega) (by omega) (by omega) hW (fun s u => ?_) (fun a' hR hQ => K a' hR (fun p q => ⟨fun z => by omega, fun z => by omega, fun _ => hQ p q⟩))
    rw [he]; unfold cr_gate
    rw [if_neg (by omega), if_neg (by omega), if_neg (by omega), if_neg (by omega), if_pos hk]; rfl
  · refine K aa (sa_R_r hW) (fun _ _ => ⟨fun z => absurd (k3.mpr z) h3, fun z => absurd (k4.mpr z) h4, fun z => absurd (k5.mpr z) h5⟩)
end
end
section
/-! walks: requireState, requireStepInto, propagateCube, propagate -/
theorem xm_flip (b : Bool) : (1 : Int32) - (if b = true then 1 else 0) = nI (if b = true then 0 else 1) := by cases b <;> decide
theorem xm_lat (l : Nat) (b : Bool) : 2 * nI l + nI (if b = true then 0 else 1) = nI (2 * l + if b = true then 0 else 1) := by
  rw [show (2 : Int32) * nI l = nI (2 * l) from pk_mul 2 l, nI_add]
theorem cr_lit_b (C : gt_C) (s u l : Nat) (b : Bool) : cr_lit C s u (2 * l + if b = true then 0 else 1) = (cr_ev C s u l == b) := by
  unfold cr_lit cr_lv
  cases b
  · rw [if_neg (by decide), show (2 * l + 1) / 2 = l by omega, show (2 * l + 1) % 2 = 1 by omega]
    cases cr_ev C s u l <;> rfl
  · rw [if_pos rfl, show (2 * l + 0) / 2 = l by omega, show (2 * l + 0) % 2 = 0 by omega]
    cases cr_ev C s u l <;> rfl
theorem cr_lit_r (C : gt_C) (s u x : Nat) (b : Bool) : cr_lit C s u (x ^^^ if b = true then 0 else 1) = (cr_lit C s u x == b) := by
  cases b
  · rw [if_neg (by decide), cr_lit_flip]; cases cr_lit C s u x <;> rfl
  · rw [if_pos rfl, Nat.xor_zero]; cases cr_lit C s u x <;> rfl
def sa_CQ (C : gt_C) (a : gt_A) (m v : Nat) : Prop := ¬ ∀ j, j < xc_nl C → m.testBit j = true → xa_val a (xc_laN C j) = if v.testBit j = true then 1 else -1
def sa_Cl (C : gt_C) (b : gt_B) (a : gt_A) : Prop := (∀ n, 0 < n → n < xc_N C → sa_GQ C a n) ∧ ∀ i, i < xb_bc b → sa_CQ C a (xb_bm b i) (xb_bv b i)
def sa_F (a a' : gt_A) : Prop := xa_ts a ≤ xa_ts a' ∧ (∀ i, i < xa_ts a → xa_tr a' i = xa_tr a i) ∧ (∀ n, xa_val a n ≠ 0 → xa_val a' n = xa_val a n) ∧ (xa_cf a' = 0 → xa_cf a = 0)
def sa_Q (C : gt_C) (b : gt_B) (a a' : gt_A) : Prop := sa_W C a' ∧ sa_F a a' ∧ ∀ s u, s < 2 ^ xc_nl C → u < 2 ^ xc_ni C → sb_ok b s → (sa_S C a' s u ↔ sa_S C a s u)
theorem sa_R_Q {C : gt_C} {b : gt_B} {a a' : gt_A} (h : sa_R C b a a') : sa_Q C b a a' := ⟨h.1, ⟨h.2.1.1, h.2.1.2.1, h.2.1.2.2.1, h.2.1.2.2.2.1⟩, h.2.2⟩
theorem sa_Q_t {C : gt_C} {b : gt_B} {a1 a2 a3 : gt_A} (h : sa_Q C b a1 a2) (k : sa_Q C b a2 a3) : sa_Q C b a1 a3 := by
  obtain ⟨w1, ⟨h1, h2, h3, h4⟩, h5⟩ := h
  obtain ⟨w2, ⟨k1, k2, k3, k4⟩, k5⟩ := k
  refine ⟨w2, ⟨by omega, ?_, ?_, fun z => h4 (k4 z)⟩, fun s u hs hu ho => (k5 s u hs hu ho).trans (h5 s u hs hu ho)⟩
  · intro i hi; rw [k2 i (by omega), h2 i hi]
  · intro n hn; rw [k3 n (by rw [h3 n hn]; exact hn), h3 n hn]
theorem sa_l_v {a a' : gt_A} (h : xa_val a' = xa_val a) (x : Nat) : sa_l a' x = sa_l a x := by unfold sa_l; rw [h]
theorem sa_GQ_v {C : gt_C} {a a' : gt_A} {n : Nat} (h : xa_val a' = xa_val a) (k : sa_GQ C a n) : sa_GQ C a' n := by
  unfold sa_GQ sa_QA sa_QX at k ⊢
  simp only [sa_l_v h]
  exact k
theorem sa_CQ_v {C : gt_C} {a a' : gt_A} {m v : Nat} (h : xa_val a' = xa_val a) (k : sa_CQ C a m v) : sa_CQ C a' m v := by
  unfold sa_CQ at k ⊢
  rw [h]
  exact k
/-- the known latches of a solution -/
theorem sa_kn {C : gt_C} {a : gt_A} {s u j : Nat} (hC : cr_OK C) (h : sa_W C a) (hS : sa_S C a s u) (hj : j < xc_nl C) (hk : (xa_km a).testBit j = true) : s.testBit j = (xa_kv a).testBit j := by
  obtain ⟨k1, k2⟩ := h.2.2.2.2 j hj
  have hn := (cr_la hC hj).1
  have := sa_S_n h hS hn
  rw [cr_ev_la hC hj] at this
  rw [k2]
  rcases h.2.1 _ hn with z | ⟨z | z, _⟩
  · rw [k1, z] at hk; exact absurd hk (by decide)
  · rw [this.1 z, z]; decide
  · rw [this.2 z, z]; decide
section
variable {C : gt_C} {vv : gt_V} {dd : (Nat → Int64)} {sm : (Nat → Int32)} {aa : gt_A} {bb : gt_B} {ee : gt_E} {oo : gt_O} {ll : gt_L} {pp : gt_P} {ff : gt_F} {hh : gt_H} {kk : gt_K}
theorem xm_rS {post : SX → Prop} {m : Nat} {p1 : Int32} {vb : Nat → Bool} (hC : cr_OK C) (hv : ∀ j, j < xc_nl C → ((p1 >>> (nI j &&& 31)) &&& 1) = if vb j = true then 1 else 0) (I : Nat → gt_A → Prop) (hI : ∀ j a, I j a → sa_W C a) (h0 : ∀ j a, j < xc_nl C → I j a → m.testBit j = false → I (j + 1) a) (h1 : ∀ j a a', j < xc_nl C → I j a → m.testBit j = true → sa_MT C (2 * xc_laN C j + if vb j = true then 0 else 1) a a' → I (j + 1) a') (K : ∀ a', I (xc_nl C) a' → post (mk_X C vv dd sm a' bb ee oo ll pp ff hh kk)) : ∀ n j a, xc_nl C - j < n → j ≤ xc_nl C → I j a → wX_requireState_2 post (nI m) p1 n (nI j) (nI (xc_ci C)) (nI (xc_cl C)) (nI (xc_cg C)) (nI (xc_N C)) (nI (xc_ni C)) (nI (xc_nl C)) (nI (xc_ng C)) (nI (xc_fx C)) (nI (xc_on C)) (nI (xv_ph vv)) (nI (xv_fr vv)) (nI (xv_cc vv)) (nI (xa_ts a)) (xa_cf a) (xa_ch a) (nI (xa_km a)) (nI (xa_kv a)) (nI (xb_bc bb)) (nI (xe_dc ee)) (nI (xo_ss oo)) (nI (xo_si oo)) (nI (xl_lc ll)) (xp_gb pp) (nI (xp_gm pp)) (nI (xp_gv pp)) (nI (xf_m ff)) (nI (xf_v ff)) (nI (xh_m hh)) (nI (xh_v hh)) (fun zi => nI (xc_kind C zi)) (fun zi => nI (xc_idx C zi)) (fun zi => nI (xc_opA C zi)) (fun zi => nI (xc_opB C zi)) (fun zi => nI (xc_inN C zi)) (fun zi => nI (xc_laN C zi)) (fun zi => nI (xc_root C zi)) (fun zi => nI (xv_cm vv zi)) (fun zi => nI (xv_cv vv zi)) (fun zi => nI (xv_ts vv zi)) (fun zi => nI (xv_ti vv zi)) dd sm (xa_val a) (fun zi => nI (xa_tr a zi)) (fun zi => nI (xb_bm bb zi)) (fun zi => nI (xb_bv bb zi)) (fun zi => nI (xe_dn ee zi)) (fun zi => nI (xe_dm ee zi)) (xe_df ee) (fun zi => nI (xl_lm ll zi)) (fun zi => nI (xl_lv ll zi)) (fun zi => nI (xl_le ll zi)) (xl_st ll) (fun zi => nI (xk_m kk zi)) (fun zi => nI (xk_v kk zi)) := by
  have hb := cr_b hC
  intro n
  induction n with
  | zero => intro j a h; omega
  | succ n ih =>
    intro j a hn hj hi
    by_cases e : j < xc_nl C
    · refine br_f (nI_ge e (by omega)) (br_c (fun hz => ?_) (fun hz => ?_))
      · exact nm_r (nI_1 j) (ih (j + 1) a (by omega) (by omega) (h0 j a e hi ((bq_bit0 (by omega)).mp hz)))
      · refine nm_r (e' := nI (if vb j = true then 0 else 1)) (by rw [hv j e, xm_flip]) ⟨vp_in_nI (by omega) (by omega), ?_⟩
        rw [nI_clamp (by omega), xm_lat]
        refine xm_makeTrue hC ?_ (hI _ _ hi) (fun a' hM => ?_)
        · have := (cr_la hC e).1
          split <;> omega
        · exact nm_r (nI_1 j) (ih (j + 1) a' (by omega) (by omega) (h1 j a a' e hi (ts_nf (fun z => hz ((bq_bit0 (by omega)).mpr z))) hM))
    · have ej : j = xc_nl C := by omega
      subst ej
      exact br_t (nI_le (Nat.le_refl _) (by omega)) (K a hi)
theorem xm_rI {post : SX → Prop} {m : Nat} {p1 : Int32} {vb : Nat → Bool} (hC : cr_OK C) (hv : ∀ j, j < xc_nl C → ((p1 >>> (nI j &&& 31)) &&& 1) = if vb j = true then 1 else 0) (I : Nat → gt_A → Prop) (hI : ∀ j a, I j a → sa_W C a) (h0 : ∀ j a, j < xc_nl C → I j a → m.testBit j = false → I (j + 1) a) (h1 : ∀ j a a', j < xc_nl C → I j a → m.testBit j = true → sa_MT C (xc_root C (2 + j) ^^^ if vb j = true then 0 else 1) a a' → I (j + 1) a') (K : ∀ a', I (xc_nl C) a' → post (mk_X C vv dd sm a' bb ee oo ll pp ff hh kk)) : ∀ n j a, xc_nl C - j < n → j ≤ xc_nl C → I j a → wX_requireStepInto_12 post (nI m) p1 n (nI j) (nI (xc_ci C)) (nI (xc_cl C)) (nI (xc_cg C)) (nI (xc_N C)) (nI (xc_ni C)) (nI (xc_nl C)) (nI (xc_ng C)) (nI (xc_fx C)) (nI (xc_on C)) (nI (xv_ph vv)) (nI (xv_fr vv)) (nI (xv_cc vv)) (nI (xa_ts a)) (xa_cf a) (xa_ch a) (nI (xa_km a)) (nI (xa_kv a)) (nI (xb_bc bb)) (nI (xe_dc ee)) (nI (xo_ss oo)) (nI (xo_si oo)) (nI (xl_lc ll)) (xp_gb pp) (nI (xp_gm pp)) (nI (xp_gv pp)) (nI (xf_m ff)) (nI (xf_v ff)) (nI (xh_m hh)) (nI (xh_v hh)) (fun zi => nI (xc_kind C zi)) (fun zi => nI (xc_idx C zi)) (fun zi => nI (xc_opA C zi)) (fun zi => nI (xc_opB C zi)) (fun zi => nI (xc_inN C zi)) (fun zi => nI (xc_laN C zi)) (fun zi => nI (xc_root C zi)) (fun zi => nI (xv_cm vv zi)) (fun zi => nI (xv_cv vv zi)) (fun zi => nI (xv_ts vv zi)) (fun zi => nI (xv_ti vv zi)) dd sm (xa_val a) (fun zi => nI (xa_tr a zi)) (fun zi => nI (xb_bm bb zi)) (fun zi => nI (xb_bv bb zi)) (fun zi => nI (xe_dn ee zi)) (fun zi => nI (xe_dm ee zi)) (xe_df ee) (fun zi => nI (xl_lm ll zi)) (fun zi => nI (xl_lv ll zi)) (fun zi => nI (xl_le ll zi)) (xl_st ll) (fun zi => nI (xk_m kk zi)) (fun zi => nI (xk_v kk zi)) := by
  have hb := cr_b hC
  intro n
  induction n with
  | zero => intro j a h; omega
  | succ n ih =>
    intro j a hn hj hi
    by_cases e : j < xc_nl C
    · refine br_f (nI_ge e (by omega)) (br_c (fun hz => ?_) (fun hz => ?_))
      · exact nm_r (nI_1 j) (ih (j + 1) a (by omega) (by omega) (h0 j a e hi ((bq_bit0 (by omega)).mp hz)))
      · have e2 : (2 : Int32) + nI j = nI (2 + j) := nI_add 2 j
        refine nm_r (e' := nI (if vb j = true then 0 else 1)) (by rw [hv j e, xm_flip]) ⟨by rw [e2]; exact vp_in_nI (by omega) (by omega), ?_⟩
        rw [e2, nI_clamp (by omega), nx_xor]
        refine xm_makeTrue hC ?_ (hI _ _ hi) (fun a' hM => ?_)
        · have := cr_ro hC (j := 2 + j) (by omega)
          split
          · rw [Nat.xor_zero]; exact this
          · exact cr_x1lt this
        · exact nm_r (nI_1 j) (ih (j + 1) a' (by omega) (by omega) (h1 j a a' e hi (ts_nf (fun z => hz ((bq_bit0 (by omega)).mpr z))) hM))
    · have ej : j = xc_nl C := by omega
      subst ej
      exact br_t (nI_le (Nat.le_refl _) (by omega)) (K a hi)
theorem xm_pCube {post : SX → Prop} {m v : Nat} (hC : cr_OK C) (hm : cu_ok C m v) (hW : sa_W C aa) (hbk : ∀ s, sb_ok bb s → ¬ cu_in m v s) (K : ∀ a', sa_R C bb aa a' → (xa_ch a' = 0 → xa_cf a' = 0 → sa_CQ C a' m v) → post (mk_X C vv dd sm a' bb ee oo ll pp ff hh kk)) : wpX_propagateCube post (mk_X C vv dd sm aa bb ee oo ll pp ff hh kk) (nI m) (nI v) := by
  have hb := cr_b hC
  have p64 := cr_p64 hC
  have hv := cu_vlt hm
  obtain ⟨w1, w2, wk, wv, w3⟩ := hW
  have hW : sa_W C aa := ⟨w1, w2, wk, wv, w3⟩
  have e1 : ((nI (xa_kv aa) ^^^ nI v) &&& nI m) &&& nI (xa_km aa) = nI (((xa_kv aa ^^^ v) &&& m) &&& xa_km aa) := by rw [nx_xor, nx_and, nx_and]
  have l1 : ((xa_kv aa ^^^ v) &&& m) &&& xa_km aa < 2 ^ xc_nl C := bq_andlt (bq_andlt (bq_xorlt wv hv))
  have hag : ((xa_kv aa ^^^ v) &&& m) &&& xa_km aa = 0 → ∀ j, m.testBit j = true → (xa_km aa).testBit j = true → (xa_kv aa).testBit j = v.testBit j := by
    intro h j h1 h2
    have := (bq_z.mp h) j
    rw [Nat.testBit_and, Nat.testBit_and, Nat.testBit_xor, h1, h2] at this
    cases a : (xa_kv aa).testBit j <;> cases b : v.testBit j <;> rw [a, b] at this <;> first | rfl | exact absurd this (by decide)
  refine br_c (fun hz => nm_r (bq_anI _ _) (br_c (fun h0 => ?_) (fun h0 => br_c (fun h1 => ?_) (fun h1 => ?_)))) (fun hz => ?_)
  · rw [e1, bq_nI0 (by omega)] at hz
    rw [bq_nI0 (by have := bq_le m (xa_km aa); have := hm.1; omega)] at h0
    refine K (((xa_ts aa, 1, xa_ch aa, xa_km aa, xa_kv aa, xa_val aa, xa_tr aa) : gt_A)) ⟨hW, ⟨Nat.le_refl _, fun _ _ => rfl, fun _ _ => rfl, fun z => absurd z i1n0, fun z => ⟨z, rfl⟩, fun z => Or.inl z⟩, fun s u hs hu ho => ⟨fun z => absurd z.1 i1n0, fun hS => ?_⟩⟩ (fun _ z => absurd z i1n0)
    exfalso
    apply hbk s ho
    rw [cu_iff hm.2]
    intro j hj
    have hjl := bq_tlt hm.1 hj
    have hk : (xa_km aa).testBit j = true := by
      have := (bq_z.mp h0) j
      rw [bq_an_tb, hj, Bool.true_and] at this
      simpa using this
    rw [sa_kn hC hW hS hjl hk]
    exact hag hz j hj hk
  · rw [e1, bq_nI0 (by omega)] at hz
    have lo : bq_an m (xa_km aa) < 2 ^ xc_nl C := by have := bq_le m (xa_km aa); have := hm.1; omega
    have n0 : bq_an m (xa_km aa) ≠ 0 := fun z => h0 ((bq_nI0 (by omega)).mpr z)
    rw [show nI (bq_an m (xa_km aa)) - 1 = nI (bq_an m (xa_km aa) - 1) from pk_sub (b := 1) (by omega), nx_and, bq_nI0 (bq_andlt (by omega))] at h1
    obtain ⟨t, ht, et⟩ := bq_single _ (by omega) n0 h1
    have hbit : ∀ i, (bq_an m (xa_km aa)).testBit i = decide (t = i) := fun i => by rw [et, bq_one]
    have htm : m.testBit t = true ∧ (xa_km aa).testBit t = false := by
      have := hbit t
      rw [bq_an_tb, decide_eq_true rfl, Bool.and_eq_true] at this
      exact ⟨this.1, by simpa using this.2⟩
    have htl := bq_tlt hm.1 htm.1
    have hval : xa_val aa (xc_laN C t) = 0 := by
      have := (w3 t htl).1
      rw [htm.2] at this
      simpa using this.symm
    have himp : ∀ s u, s < 2 ^ xc_nl C → u < 2 ^ xc_ni C → sb_ok bb s → sa_S C aa s u → s.testBit t = !v.testBit t := by
      intro s u _ _ ho hS
      have hnc := hbk s ho
      rw [cu_iff hm.2] at hnc
      cases a : s.testBit t <;> cases b : v.testBit t <;> first | rfl | skip
      all_goals
        exfalso
        apply hnc
        intro j hj
        by_cases ej : j = t
        · subst ej; rw [a, b]
        · have hjl := bq_tlt hm.1 hj
          have hk : (xa_km aa).testBit j = true := by
            have := hbit j
            rw [bq_an_tb, hj, Bool.true_and, decide_eq_false (fun z => ej z.symm)] at this
            simpa using this
          rw [sa_kn hC hW hS hjl hk]
          exact hag hz j hj hk
    refine Exists.intro (xc_nl C + 1) (xm_rS (m := bq_an m (xa_km aa)) (p1 := nI v ^^^ (-1)) (vb := fun j => !v.testBit j) hC ?_ (fun _ a => sa_R C bb aa a) (fun _ _ h => h.1) (fun _ _ _ h _ => h) ?_ ?_ (xc_nl C + 1) 0 aa (by omega) (by omega) (sa_R_r hW))
    · intro j hj
      rw [bq_cbit (by omega)]
      cases v.testBit j <;> rfl
    · intro j a a' hj hR hm' hM
      rw [hbit] at hm'
      have ej : t = j := of_decide_eq_true hm'
      subst ej
      refine sa_R_M hC ?_ hR ?_ hM
      · have := (cr_la hC hj).1
        split <;> omega
      · intro s u hs hu ho hS
        rw [cr_lit_b, cr_ev_la hC hj, himp s u hs hu ho hS]
        simp
    · intro a' hR
      refine K a' hR (fun hch _ hall => ?_)
      have := hall t htl htm.1
      rw [(hR.2.1.2.2.2.2.1 hch).2, hval] at this
      split at this <;> exact absurd this (by decide)
  · rw [e1, bq_nI0 (by omega)] at hz
    have lo : bq_an m (xa_km aa) < 2 ^ xc_nl C := by have := bq_le m (xa_km aa); have := hm.1; omega
    refine K aa (sa_R_r hW) (fun _ _ hall => h0 ?_)
    rw [bq_nI0 (by omega), bq_z]
    intro j
    rw [bq_an_tb]
    cases a : m.testBit j
    · rfl
    · have hjl := bq_tlt hm.1 a
      have := hall j hjl a
      rw [(w3 j hjl).1, this]
      split <;> decide
  · rw [e1, bq_nI0 (by omega)] at hz
    refine K aa (sa_R_r hW) (fun _ _ hall => hz ?_)
    rw [bq_z]
    intro j
    rw [Nat.testBit_and, Nat.testBit_and, Nat.testBit_xor]
    cases a : m.testBit j
    · rw [Bool.and_false, Bool.false_and]
    · have hjl := bq_tlt hm.1 a
      have := hall j hjl a
      rw [(w3 j hjl).2, this]
      cases v.testBit j <;> simp
      all_goals decide
end
end
section
/-! walks: propagate, undoTo -/
section
variable {C : gt_C} {vv : gt_V} {dd : (Nat → Int64)} {sm : (Nat → Int32)} {aa : gt_A} {bb : gt_B} {ee : gt_E} {oo : gt_O} {ll : gt_L} {pp : gt_P} {ff : gt_F} {hh : gt_H} {kk : gt_K}
theorem xm_p49 {post : SX → Prop} {J4 : (Int32 → Int32 → Int32 → Int32 → Int32 → Int32 → Int32 → Int32 → Int32 → Int32 → Int32 → Int32 → Int32 → Int32 → Int32 → Int32 → Int32 → Int32 → Int32 → Int32 → Int32 → Int32 → Int32 → Int32 → Int32 → Int32 → Int32 → Int32 → Int32 → Int32 → Int32 → (Nat → Int32) → (Nat → Int32) → (Nat → Int32) → (Nat → Int32) → (Nat → Int32) → (Nat → Int32) → (Nat → Int32) → (Nat → Int32) → (Nat → Int32) → (Nat → Int32) → (Nat → Int32) → (Nat → Int64) → (Nat → Int32) → (Nat → Int32) → (Nat → Int32) → (Nat → Int32) → (Nat → Int32) → (Nat → Int32) → (Nat → Int32) → (Nat → Int32) → (Nat → Int32) → (Nat → Int32) → (Nat → Int32) → (Nat → Int32) → (Nat → Int32) → (Nat → Int32) → Prop)} {k : Nat} {a0 : gt_A} (hC : cr_OK C) (hB : ∀ i, i < xb_bc bb → cu_ok C (xb_bm bb i) (xb_bv bb i)) (hbc : xb_bc bb ≤ 768) (K : ∀ a', sa_R C bb a0 a' → (xa_ch a' = 0 → xa_cf a' = 0 → sa_Cl C bb a') → J4 (xa_ch a') (nI (k + 1)) (nI (xc_ci C)) (nI (xc_cl C)) (nI (xc_cg C)) (nI (xc_N C)) (nI (xc_ni C)) (nI (xc_nl C)) (nI (xc_ng C)) (nI (xc_fx C)) (nI (xc_on C)) (nI (xv_ph vv)) (nI (xv_fr vv)) (nI (xv_cc vv)) (nI (xa_ts a')) (xa_cf a') (xa_ch a') (nI (xa_km a')) (nI (xa_kv a')) (nI (xb_bc bb)) (nI (xe_dc ee)) (nI (xo_ss oo)) (nI (xo_si oo)) (nI (xl_lc ll)) (xp_gb pp) (nI (xp_gm pp)) (nI (xp_gv pp)) (nI (xf_m ff)) (nI (xf_v ff)) (nI (xh_m hh)) (nI (xh_v hh)) (fun zi => nI (xc_kind C zi)) (fun zi => nI (xc_idx C zi)) (fun zi => nI (xc_opA C zi)) (fun zi => nI (xc_opB C zi)) (fun zi => nI (xc_inN C zi)) (fun zi => nI (xc_laN C zi)) (fun zi => nI (xc_root C zi)) (fun zi => nI (xv_cm vv zi)) (fun zi => nI (xv_cv vv zi)) (fun zi => nI (xv_ts vv zi)) (fun zi => nI (xv_ti vv zi)) dd sm (xa_val a') (fun zi => nI (xa_tr a' zi)) (fun zi => nI (xb_bm bb zi)) (fun zi => nI (xb_bv bb zi)) (fun zi => nI (xe_dn ee zi)) (fun zi => nI (xe_dm ee zi)) (xe_df ee) (fun zi => nI (xl_lm ll zi)) (fun zi => nI (xl_lv ll zi)) (fun zi => nI (xl_le ll zi)) (xl_st ll) (fun zi => nI (xk_m kk zi)) (fun zi => nI (xk_v kk zi))) : ∀ n i a, xb_bc bb - i < n → i ≤ xb_bc bb → sa_R C bb a0 a → (xa_ch a = 0 → xa_cf a = 0 → (∀ q, 0 < q → q < xc_N C → sa_GQ C a q) ∧ ∀ q, q < i → sa_CQ C a (xb_bm bb q) (xb_bv bb q)) → wX_propagate_49 post J4 (nI k) n (nI i) (nI (xc_ci C)) (nI (xc_cl C)) (nI (xc_cg C)) (nI (xc_N C)) (nI (xc_ni C)) (nI (xc_nl C)) (nI (xc_ng C)) (nI (xc_fx C)) (nI (xc_on C)) (nI (xv_ph vv)) (nI (xv_fr vv)) (nI (xv_cc vv)) (nI (xa_ts a)) (xa_cf a) (xa_ch a) (nI (xa_km a)) (nI (xa_kv a)) (nI (xb_bc bb)) (nI (xe_dc ee)) (nI (xo_ss oo)) (nI (xo_si oo)) (nI (xl_lc ll)) (xp_gb pp) (nI (xp_gm pp)) (nI (xp_gv pp)) (nI (xf_m ff)) (nI (xf_v ff)) (nI (xh_m hh)) (nI (xh_v hh)) (fun zi => nI (xc_kind C zi)) (fun zi => nI (xc_idx C zi)) (fun zi => nI (xc_opA C zi)) (fun zi => nI (xc_opB C zi)) (fun zi => nI (xc_inN C zi)) (fun zi => nI (xc_laN C zi)) (fun zi => nI (xc_root C zi)) (fun zi => nI (xv_cm vv zi)) (fun zi => nI (xv_cv vv zi)) (fun zi => nI (xv_ts vv zi)) (fun zi => nI (xv_ti vv zi)) dd sm (xa_val a) (fun zi => nI (xa_tr a zi)) (fun zi => nI (xb_bm bb zi)) (fun zi => nI (xb_bv bb zi)) (fun zi => nI (xe_dn ee zi)) (fun zi => nI (xe_dm ee zi)) (xe_df ee) (fun zi => nI (xl_lm ll zi)) (fun zi => nI (xl_lv ll zi)) (fun zi => nI (xl_le ll zi)) (xl_st ll) (fun zi => nI (xk_m kk zi)) (fun zi => nI (xk_v kk zi)) := by
  intro n
  induction n with
  | zero => intro i a h; omega
  | succ n ih =>
    intro i a hn hi hR hq
    by_cases e : i < xb_bc bb
    · have hin : vp_in (nI i) 768 := vp_in_nI (by omega) (by omega)
      refine br_f (nI_ge e (by omega)) ⟨hin, hin, ?_⟩
      rw [nI_clamp (by omega)]
      refine xm_pCube hC (hB i e) hR.1 (fun s ho => ho i e) (fun a' hR' hQ => ?_)
      refine nm_r (nI_1 i) (ih (i + 1) a' (by omega) (by omega) (sa_R_t hR hR') (fun p q => ?_))
      obtain ⟨c1, c2⟩ := hR'.2.1.2.2.2.2.1 p
      have c3 := hR'.2.1.2.2.2.1 q
      obtain ⟨g1, g2⟩ := hq c1 c3
      refine ⟨fun z y1 y2 => sa_GQ_v c2 (g1 z y1 y2), fun z hz => ?_⟩
      by_cases ez : z = i
      · subst ez; exact hQ p q
      · exact sa_CQ_v c2 (g2 z (by omega))
    · have ei : i = xb_bc bb := by omega
      subst ei
      exact br_t (nI_le (Nat.le_refl _) (by omega)) (nm_r (nI_1 k) (K a hR (fun p q => hq p q)))
theorem xm_p28 {post : SX → Prop} {J4 : (Int32 → Int32 → Int32 → Int32 → Int32 → Int32 → Int32 → Int32 → Int32 → Int32 → Int32 → Int32 → Int32 → Int32 → Int32 → Int32 → Int32 → Int32 → Int32 → Int32 → Int32 → Int32 → Int32 → Int32 → Int32 → Int32 → Int32 → Int32 → Int32 → Int32 → Int32 → (Nat → Int32) → (Nat → Int32) → (Nat → Int32) → (Nat → Int32) → (Nat → Int32) → (Nat → Int32) → (Nat → Int32) → (Nat → Int32) → (Nat → Int32) → (Nat → Int32) → (Nat → Int32) → (Nat → Int64) → (Nat → Int32) → (Nat → Int32) → (Nat → Int32) → (Nat → Int32) → (Nat → Int32) → (Nat → Int32) → (Nat → Int32) → (Nat → Int32) → (Nat → Int32) → (Nat → Int32) → (Nat → Int32) → (Nat → Int32) → (Nat → Int32) → (Nat → Int32) → Prop)} {k : Nat} {a0 : gt_A} (hC : cr_OK C) (hB : ∀ i, i < xb_bc bb → cu_ok C (xb_bm bb i) (xb_bv bb i)) (hbc : xb_bc bb ≤ 768) (K : ∀ a', sa_R C bb a0 a' → (xa_ch a' = 0 → xa_cf a' = 0 → sa_Cl C bb a') → J4 (xa_ch a') (nI (k + 1)) (nI (xc_ci C)) (nI (xc_cl C)) (nI (xc_cg C)) (nI (xc_N C)) (nI (xc_ni C)) (nI (xc_nl C)) (nI (xc_ng C)) (nI (xc_fx C)) (nI (xc_on C)) (nI (xv_ph vv)) (nI (xv_fr vv)) (nI (xv_cc vv)) (nI (xa_ts a')) (xa_cf a') (xa_ch a') (nI (xa_km a')) (nI (xa_kv a')) (nI (xb_bc bb)) (nI (xe_dc ee)) (nI (xo_ss oo)) (nI (xo_si oo)) (nI (xl_lc ll)) (xp_gb pp) (nI (xp_gm pp)) (nI (xp_gv pp)) (nI (xf_m ff)) (nI (xf_v ff)) (nI (xh_m hh)) (nI (xh_v hh)) (fun zi => nI (xc_kind C zi)) (fun zi => nI (xc_idx C zi)) (fun zi => nI (xc_opA C zi)) (fun zi => nI (xc_opB C zi)) (fun zi => nI (xc_inN C zi)) (fun zi => nI (xc_laN C zi)) (fun zi => nI (xc_root C zi)) (fun zi => nI (xv_cm vv zi)) (fun zi => nI (xv_cv vv zi)) (fun zi => nI (xv_ts vv zi)) (fun zi => nI (xv_ti vv zi)) dd sm (xa_val a') (fun zi => nI (xa_tr a' zi)) (fun zi => nI (xb_bm bb zi)) (fun zi => nI (xb_bv bb zi)) (fun zi => nI (xe_dn ee zi)) (fun zi => nI (xe_dm ee zi)) (xe_df ee) (fun zi => nI (xl_lm ll zi)) (fun zi => nI (xl_lv ll zi)) (fun zi => nI (xl_le ll zi)) (xl_st ll) (fun zi => nI (xk_m kk zi)) (fun zi => nI (xk_v kk zi))) : ∀ n i a, xc_N C - i < n → 0 < i → i ≤ xc_N C → sa_R C bb a0 a → (xa_ch a = 0 → xa_cf a = 0 → (∀ q, 0 < q → q < i → sa_GQ C a q)) → wX_propagate_28 post J4 (nI k) n (nI i) (nI (xc_ci C)) (nI (xc_cl C)) (nI (xc_cg C)) (nI (xc_N C)) (nI (xc_ni C)) (nI (xc_nl C)) (nI (xc_ng C)) (nI (xc_fx C)) (nI (xc_on C)) (nI (xv_ph vv)) (nI (xv_fr vv)) (nI (xv_cc vv)) (nI (xa_ts a)) (xa_cf a) (xa_ch a) (nI (xa_km a)) (nI (xa_kv a)) (nI (xb_bc bb)) (nI (xe_dc ee)) (nI (xo_ss oo)) (nI (xo_si oo)) (nI (xl_lc ll)) (xp_gb pp) (nI (xp_gm pp)) (nI (xp_gv pp)) (nI (xf_m ff)) (nI (xf_v ff)) (nI (xh_m hh)) (nI (xh_v hh)) (fun zi => nI (xc_kind C zi)) (fun zi => nI (xc_idx C zi)) (fun zi => nI (xc_opA C zi)) (fun zi => nI (xc_opB C zi)) (fun zi => nI (xc_inN C zi)) (fun zi => nI (xc_laN C zi)) (fun zi => nI (xc_root C zi)) (fun zi => nI (xv_cm vv zi)) (fun zi => nI (xv_cv vv zi)) (fun zi => nI (xv_ts vv zi)) (fun zi => nI (xv_ti vv zi)) dd sm (xa_val a) (fun zi => nI (xa_tr a zi)) (fun zi => nI (xb_bm bb zi)) (fun zi => nI (xb_bv bb zi)) (fun zi => nI (xe_dn ee zi)) (fun zi => nI (xe_dm ee zi)) (xe_df ee) (fun zi => nI (xl_lm ll zi)) (fun zi => nI (xl_lv ll zi)) (fun zi => nI (xl_le ll zi)) (xl_st ll) (fun zi => nI (xk_m kk zi)) (fun zi => nI (xk_v kk zi)) := by
  have hb := cr_b hC
  intro n
  induction n with
  | zero => intro i a h; omega
  | succ n ih =>
    intro i a hn h0 hi hR hq
    by_cases e : i < xc_N C
    · refine br_f (nI_ge e (by omega)) (xm_pGate hC e h0 hR.1 (fun a' hR' hQ => ?_))
      refine nm_r (nI_1 i) (ih (i + 1) a' (by omega) (by omega) (by omega) (sa_R_t hR hR') (fun p q => ?_))
      obtain ⟨c1, c2⟩ := hR'.2.1.2.2.2.2.1 p
      have c3 := hR'.2.1.2.2.2.1 q
      have g1 := hq c1 c3
      intro z y1 y2
      by_cases ez : z = i
      · subst ez; exact hQ p q
      · exact sa_GQ_v c2 (g1 z y1 (by omega))
    · have ei : i = xc_N C := by omega
      subst ei
      refine br_t (nI_le (Nat.le_refl _) (by omega)) ⟨xb_bc bb + 1, ?_⟩
      exact xm_p49 hC hB hbc K (xb_bc bb + 1) 0 a (by omega) (by omega) hR (fun p q => ⟨hq p q, fun z hz => absurd hz (by omega)⟩)
theorem xm_p4 {post : SX → Prop} (hC : cr_OK C) (hB : ∀ i, i < xb_bc bb → cu_ok C (xb_bm bb i) (xb_bv bb i)) (hbc : xb_bc bb ≤ 768) (K : ∀ a', sa_Q C bb aa a' → (xa_cf a' = 0 → sa_Cl C bb a') → post (mk_X C vv dd sm a' bb ee oo ll pp ff hh kk)) : ∀ n k (x1 : Int32) a, 31 - k < n → k ≤ 30 → sa_Q C bb aa a → (x1 ≠ 0 → k ≤ xa_ts a) → (x1 = 0 → xa_cf a = 0 → sa_Cl C bb a) → wX_propagate_4 post n x1 (nI k) (nI (xc_ci C)) (nI (xc_cl C)) (nI (xc_cg C)) (nI (xc_N C)) (nI (xc_ni C)) (nI (xc_nl C)) (nI (xc_ng C)) (nI (xc_fx C)) (nI (xc_on C)) (nI (xv_ph vv)) (nI (xv_fr vv)) (nI (xv_cc vv)) (nI (xa_ts a)) (xa_cf a) (xa_ch a) (nI (xa_km a)) (nI (xa_kv a)) (nI (xb_bc bb)) (nI (xe_dc ee)) (nI (xo_ss oo)) (nI (xo_si oo)) (nI (xl_lc ll)) (xp_gb pp) (nI (xp_gm pp)) (nI (xp_gv pp)) (nI (xf_m ff)) (nI (xf_v ff)) (nI (xh_m hh)) (nI (xh_v hh)) (fun zi => nI (xc_kind C zi)) (fun zi => nI (xc_idx C zi)) (fun zi => nI (xc_opA C zi)) (fun zi => nI (xc_opB C zi)) (fun zi => nI (xc_inN C zi)) (fun zi => nI (xc_laN C zi)) (fun zi => nI (xc_root C zi)) (fun zi => nI (xv_cm vv zi)) (fun zi => nI (xv_cv vv zi)) (fun zi => nI (xv_ts vv zi)) (fun zi => nI (xv_ti vv zi)) dd sm (xa_val a) (fun zi => nI (xa_tr a zi)) (fun zi => nI (xb_bm bb zi)) (fun zi => nI (xb_bv bb zi)) (fun zi => nI (xe_dn ee zi)) (fun zi => nI (xe_dm ee zi)) (xe_df ee) (fun zi => nI (xl_lm ll zi)) (fun zi => nI (xl_lv ll zi)) (fun zi => nI (xl_le ll zi)) (xl_st ll) (fun zi => nI (xk_m kk zi)) (fun zi => nI (xk_v kk zi)) := by
  have hb := cr_b hC
  intro n
  induction n with
  | zero => intro k x1 a h; omega
  | succ n ih =>
    intro k x1 a hn hk hQ h1 h2
    refine br_f (nI_ge (b := 40) (by omega) (by omega)) (br_c (fun hx => K a hQ (h2 hx)) (fun hx => br_c (fun hc => ?_) (fun hc => K a hQ (fun z => absurd z hc))))
    have hts := hQ.1.1.1
    have hW1 : sa_W C (((xa_ts a, xa_cf a, 0, xa_km a, xa_kv a, xa_val a, xa_tr a) : gt_A)) := hQ.1
    have hQ1 : sa_Q C bb aa (((xa_ts a, xa_cf a, 0, xa_km a, xa_kv a, xa_val a, xa_tr a) : gt_A)) := hQ
    refine ⟨xc_N C + 1, xm_p28 (a0 := ((xa_ts a, xa_cf a, 0, xa_km a, xa_kv a, xa_val a, xa_tr a) : gt_A)) hC hB hbc (fun a' hR hq => ?_) (xc_N C + 1) 1 (((xa_ts a, xa_cf a, 0, xa_km a, xa_kv a, xa_val a, xa_tr a) : gt_A)) (by omega) (by omega) (by omega) (sa_R_r hW1) (fun _ _ z p q => absurd q (by omega))⟩
    have := h1 hx
    have ht' := hR.1.1.1
    refine ih (k + 1) (xa_ch a') a' (by omega) (by omega) (sa_Q_t hQ1 (sa_R_Q hR)) (fun hne => ?_) (fun z y => hq z y)
    rcases hR.2.1.2.2.2.2.2 hne with z | z
    · exact absurd rfl z
    · have z' : xa_ts a < xa_ts a' := z
      omega
theorem xm_prop {post : SX → Prop} (hC : cr_OK C) (hB : ∀ i, i < xb_bc bb → cu_ok C (xb_bm bb i) (xb_bv bb i)) (hbc : xb_bc bb ≤ 768) (hW : sa_W C aa) (K : ∀ a', sa_Q C bb aa a' → (xa_cf a' = 0 → sa_Cl C bb a') → post (mk_X C vv dd sm a' bb ee oo ll pp ff hh kk)) : wpX_propagate post (mk_X C vv dd sm aa bb ee oo ll pp ff hh kk) :=
  ⟨32, xm_p4 hC hB hbc K 32 0 1 aa (by omega) (by omega) (sa_R_Q (sa_R_r hW)) (fun _ => Nat.zero_le _) (fun z => absurd z (by decide))⟩
end
/-- undoing -/
theorem sa_U1 {C : gt_C} {a : gt_A} {i : Nat} (hC : cr_OK C) (h : sa_W C (((i + 1, xa_cf a, xa_ch a, xa_km a, xa_kv a, xa_val a, xa_tr a) : gt_A))) : sa_W C (((i, xa_cf a, xa_ch a, if xc_kind C (xa_tr a i) = 2 then bq_an (xa_km a) (2 ^ xc_idx C (xa_tr a i)) else xa_km a, if xc_kind C (xa_tr a i) = 2 then bq_an (xa_kv a) (2 ^ xc_idx C (xa_tr a i)) else xa_kv a, upd (xa_val a) (xa_tr a i) 0, xa_tr a) : gt_A)) := by
  obtain ⟨⟨h1, h2, h3⟩, h4, h5, h6, h7⟩ := h
  have h1' : i + 1 ≤ xc_N C := h1
  have h2' : ∀ j, j < i + 1 → xa_tr a j < xc_N C ∧ xa_val a (xa_tr a j) ≠ 0 := h2
  have h3' : ∀ p q, p < q → q < i + 1 → xa_tr a p ≠ xa_tr a q := h3
  have h4' : ∀ n, n < xc_N C → xa_val a n = 0 ∨ ((xa_val a n = 1 ∨ xa_val a n = -1) ∧ ∃ j, j < i + 1 ∧ xa_tr a j = n) := h4
  have h7' : ∀ j, j < xc_nl C → (xa_km a).testBit j = !decide (xa_val a (xc_laN C j) = 0) ∧ (xa_kv a).testBit j = decide (xa_val a (xc_laN C j) = 1) := h7
  have hn := (h2' i (by omega)).1
  refine ⟨⟨?_, ?_, ?_⟩, ?_, ?_, ?_, ?_⟩
  · show i ≤ xc_N C; omega
  · intro j hj
    have hj' : j < i := hj
    show xa_tr a j < xc_N C ∧ upd (xa_val a) (xa_tr a i) 0 (xa_tr a j) ≠ 0
    rw [pk_un (h3' j i hj' (by omega))]
    exact h2' j (by omega)
  · intro p q hpq hq
    have hq' : q < i := hq
    exact h3' p q hpq (by omega)
  · intro n hn'
    show upd (xa_val a) (xa_tr a i) 0 n = 0 ∨ ((upd (xa_val a) (xa_tr a i) 0 n = 1 ∨ upd (xa_val a) (xa_tr a i) 0 n = -1) ∧ ∃ j, j < i ∧ xa_tr a j = n)
    by_cases e : n = xa_tr a i
    · subst e; exact Or.inl pk_us
    · rw [pk_un e]
      rcases h4' n hn' with z | ⟨z, j, hj, ej⟩
      · exact Or.inl z
      · refine Or.inr ⟨z, j, ?_, ej⟩
        have : j ≠ i := fun y => e (by rw [← ej, y])
        omega
  · show (if xc_kind C (xa_tr a i) = 2 then bq_an (xa_km a) (2 ^ xc_idx C (xa_tr a i)) else xa_km a) < 2 ^ xc_nl C
    have h5' : xa_km a < 2 ^ xc_nl C := h5
    split
    · exact Nat.lt_of_le_of_lt (bq_le _ _) h5'
    · exact h5'
  · show (if xc_kind C (xa_tr a i) = 2 then bq_an (xa_kv a) (2 ^ xc_idx C (xa_tr a i)) else xa_kv a) < 2 ^ xc_nl C
    have h6' : xa_kv a < 2 ^ xc_nl C := h6
    split
    · exact Nat.lt_of_le_of_lt (bq_le _ _) h6'
    · exact h6'
  · intro j hj
    obtain ⟨l1, l2, l3⟩ := cr_la hC hj
    obtain ⟨k1, k2⟩ := h7' j hj
    show (if xc_kind C (xa_tr a i) = 2 then bq_an (xa_km a) (2 ^ xc_idx C (xa_tr a i)) else xa_km a).testBit j = !decide (upd (xa_val a) (xa_tr a i) 0 (xc_laN C j) = 0) ∧ (if xc_kind C (xa_tr a i) = 2 then bq_an (xa_kv a) (2 ^ xc_idx C (xa_tr a i)) else xa_kv a).testBit j = decide (upd (xa_val a) (xa_tr a i) 0 (xc_laN C j) = 1)
    by_cases e : xc_laN C j = xa_tr a i
    · rw [← e, pk_us, l2, l3, if_pos rfl, if_pos rfl, bq_an_tb, bq_an_tb, bq_one, decide_eq_true rfl, Bool.not_true, Bool.and_false, Bool.and_false]
      exact ⟨by decide, by decide⟩
    · rw [pk_un e]
      by_cases c : xc_kind C (xa_tr a i) = 2
      · have ne : xc_idx C (xa_tr a i) ≠ j := fun z => e (by rw [← z]; exact (cr_kl hC hn c).2)
        rw [if_pos c, if_pos c, bq_an_tb, bq_an_tb, bq_one, decide_eq_false ne, Bool.not_false, Bool.and_true, Bool.and_true]
        exact ⟨k1, k2⟩
      · rw [if_neg c, if_neg c]; exact ⟨k1, k2⟩
section
variable {C : gt_C} {vv : gt_V} {dd : (Nat → Int64)} {sm : (Nat → Int32)} {aa : gt_A} {bb : gt_B} {ee : gt_E} {oo : gt_O} {ll : gt_L} {pp : gt_P} {ff : gt_F} {hh : gt_H} {kk : gt_K}
theorem xm_undo7 {post : SX → Prop} {m : Nat} (hC : cr_OK C) (K : ∀ a', sa_W C a' → xa_ts a' = m → xa_tr a' = xa_tr aa → xa_cf a' = xa_cf aa → (∀ j, j < m → xa_val a' (xa_tr aa j) = xa_val aa (xa_tr aa j)) → post (mk_X C vv dd sm a' bb ee oo ll pp ff hh kk)) : ∀ n i a, i - m < n → m ≤ i → sa_W C (((i, xa_cf a, xa_ch a, xa_km a, xa_kv a, xa_val a, xa_tr a) : gt_A)) → xa_ts a = xa_ts aa → xa_tr a = xa_tr aa → xa_cf a = xa_cf aa → xa_ch a = xa_ch aa → (∀ j, j < i → xa_val a (xa_tr aa j) = xa_val aa (xa_tr aa j)) → wX_undoTo_7 post (nI m) (nI (xc_ci C)) (nI (xc_cl C)) (nI (xc_cg C)) (nI (xc_N C)) (nI (xc_ni C)) (nI (xc_nl C)) (nI (xc_ng C)) (nI (xc_fx C)) (nI (xc_on C)) (nI (xv_ph vv)) (nI (xv_fr vv)) (nI (xv_cc vv)) (nI (xa_ts aa)) (xa_cf aa) (xa_ch aa) (nI (xb_bc bb)) (nI (xe_dc ee)) (nI (xo_ss oo)) (nI (xo_si oo)) (nI (xl_lc ll)) (xp_gb pp) (nI (xp_gm pp)) (nI (xp_gv pp)) (nI (xf_m ff)) (nI (xf_v ff)) (nI (xh_m hh)) (nI (xh_v hh)) n (nI i - 1) (nI (xa_km a)) (nI (xa_kv a)) (fun zi => nI (xc_kind C zi)) (fun zi => nI (xc_idx C zi)) (fun zi => nI (xc_opA C zi)) (fun zi => nI (xc_opB C zi)) (fun zi => nI (xc_inN C zi)) (fun zi => nI (xc_laN C zi)) (fun zi => nI (xc_root C zi)) (fun zi => nI (xv_cm vv zi)) (fun zi => nI (xv_cv vv zi)) (fun zi => nI (xv_ts vv zi)) (fun zi => nI (xv_ti vv zi)) dd sm (xa_val a) (fun zi => nI (xa_tr a zi)) (fun zi => nI (xb_bm bb zi)) (fun zi => nI (xb_bv bb zi)) (fun zi => nI (xe_dn ee zi)) (fun zi => nI (xe_dm ee zi)) (xe_df ee) (fun zi => nI (xl_lm ll zi)) (fun zi => nI (xl_lv ll zi)) (fun zi => nI (xl_le ll zi)) (xl_st ll) (fun zi => nI (xk_m kk zi)) (fun zi => nI (xk_v kk zi)) := by
  have hb := cr_b hC
  intro n
  induction n with
  | zero => intro i a h; omega
  | succ n ih =>
    intro i a hn hm hW hts htr hcf hch hv
    have hW1 : i ≤ xc_N C := hW.1.1
    by_cases e : i = m
    · subst e
      refine br_t ?_ ?_
      · rcases Nat.eq_zero_or_pos i with z | z
        · subst z; decide
        · obtain ⟨q, rfl⟩ : ∃ q, i = q + 1 := ⟨i - 1, by omega⟩
          rw [nI_pred]; exact nI_lt (by omega) (by omega)
      · have := K (((i, xa_cf a, xa_ch a, xa_km a, xa_kv a, xa_val a, xa_tr a) : gt_A)) hW rfl htr hcf hv
        unfold mk_X at this
        rw [show xa_cf (((i, xa_cf a, xa_ch a, xa_km a, xa_kv a, xa_val a, xa_tr a) : gt_A)) = xa_cf aa from hcf, show xa_ch (((i, xa_cf a, xa_ch a, xa_km a, xa_kv a, xa_val a, xa_tr a) : gt_A)) = xa_ch aa from hch] at this
        exact this
    · obtain ⟨q, rfl⟩ : ∃ q, i = q + 1 := ⟨i - 1, by omega⟩
      have hq := hW.1.2.1 q (Nat.lt_succ_self q)
      have hq1 : xa_tr a q < xc_N C := hq.1
      have hin : vp_in (nI (xa_tr a q)) 29 := vp_in_nI (by omega) (by omega)
      have hcl : (nI (xa_tr a q)).toNatClampNeg = xa_tr a q := nI_clamp (by omega)
      have hU := sa_U1 hC hW
      have hk5 : xc_kind C (xa_tr a q) ≤ 5 := by
        rcases Nat.eq_zero_or_pos (xa_tr a q) with z | z
        · rw [z, cr_k0 hC]; omega
        · exact (cr_kp hC hq1 z).2
      have hv' : ∀ j, j < q → upd (xa_val a) (xa_tr a q) 0 (xa_tr aa j) = xa_val aa (xa_tr aa j) := by
        intro j hj
        have := hW.1.2.2 j q hj (Nat.lt_succ_self q)
        have this : xa_tr a j ≠ xa_tr a q := this
        rw [← htr, pk_un this, htr]
        exact hv j (by omega)
      rw [nI_pred]
      refine br_f (nI_nlt (by omega) (by omega)) ⟨vp_in_nI (by omega) (by omega), nm_r (e' := nI (xa_tr a q)) (by rw [nI_clamp (by omega)]) ⟨hin, nm_r (up_R (by omega)) ⟨hin, br_c (fun hk => ?_) (fun hk => ?_)⟩⟩⟩
      · rw [hcl] at hk
        have hk' : xc_kind C (xa_tr a q) = 2 := (nI_eq (b := 2) (by omega) (by omega)).mp hk
        have hidx := (cr_kl hC hq1 hk').1
        rw [if_pos hk', if_pos hk'] at hU
        refine ⟨hin, nm_r (e' := nI (2 ^ xc_idx C (xa_tr a q))) (by rw [hcl]; exact bq_pow (by omega)) (nm_r (bq_anI _ _) (nm_r (bq_anI _ _) (nm_r (bq_sub1 _) ?_)))⟩
        exact ih q (((xa_ts a, xa_cf a, xa_ch a, bq_an (xa_km a) (2 ^ xc_idx C (xa_tr a q)), bq_an (xa_kv a) (2 ^ xc_idx C (xa_tr a q)), upd (xa_val a) (xa_tr a q) 0, xa_tr a) : gt_A)) (by omega) (by omega) hU hts htr hcf hch hv'
      · rw [hcl] at hk
        have hk' : ¬ xc_kind C (xa_tr a q) = 2 := fun z => hk (by show nI (xc_kind C (xa_tr a q)) = 2; rw [z]; rfl)
        rw [if_neg hk', if_neg hk'] at hU
        exact nm_r (bq_sub1 _) (ih q (((xa_ts a, xa_cf a, xa_ch a, xa_km a, xa_kv a, upd (xa_val a) (xa_tr a q) 0, xa_tr a) : gt_A)) (by omega) (by omega) hU hts htr hcf hch hv')
theorem xm_undo {post : SX → Prop} {m : Nat} (hC : cr_OK C) (hm : m ≤ xa_ts aa) (hW : sa_W C aa) (K : ∀ a', sa_W C a' → xa_ts a' = m → xa_tr a' = xa_tr aa → xa_cf a' = xa_cf aa → (∀ j, j < m → xa_val a' (xa_tr aa j) = xa_val aa (xa_tr aa j)) → post (mk_X C vv dd sm a' bb ee oo ll pp ff hh kk)) : wpX_undoTo post (mk_X C vv dd sm aa bb ee oo ll pp ff hh kk) (nI m) :=
  nm_e ⟨xa_ts aa + 1, xm_undo7 hC K (xa_ts aa + 1) (xa_ts aa) aa (by omega) hm hW rfl rfl rfl rfl (fun _ _ => rfl)⟩
end
end
section
/-! walks: nextDecision, readSolution, decideFalse, backtrack -/
def sd_v (C : gt_C) (r : Nat) : Nat := if r < xc_nl C then xc_laN C (xc_nl C - 1 - r) else xc_inN C (xc_ni C - 1 - (r - xc_nl C))
theorem sd_vl (C : gt_C) {j : Nat} (hj : j < xc_nl C) : sd_v C (xc_nl C - 1 - j) = xc_laN C j := by
  unfold sd_v
  rw [if_pos (by omega), show xc_nl C - 1 - (xc_nl C - 1 - j) = j by omega]
theorem sd_vi (C : gt_C) {j : Nat} (hj : j < xc_ni C) : sd_v C (xc_nl C + (xc_ni C - 1 - j)) = xc_inN C j := by
  unfold sd_v
  rw [if_neg (by omega), show xc_ni C - 1 - (xc_nl C + (xc_ni C - 1 - j) - xc_nl C) = j by omega]
theorem sd_vN {C : gt_C} (hC : cr_OK C) {r : Nat} (hr : r < xc_nl C + xc_ni C) : sd_v C r < xc_N C := by
  unfold sd_v
  split
  · exact (cr_la hC (by omega)).1
  · exact (cr_in hC (by omega)).1
theorem xm_neg1 : (0 : Int32) - 1 < 0 := by decide
section
variable {C : gt_C} {vv : gt_V} {dd : (Nat → Int64)} {sm : (Nat → Int32)} {aa : gt_A} {bb : gt_B} {ee : gt_E} {oo : gt_O} {ll : gt_L} {pp : gt_P} {ff : gt_F} {hh : gt_H} {kk : gt_K}
theorem xm_nd45 {post : Int32 → Prop} (hC : cr_OK C) (K1 : ∀ r, r < xc_nl C + xc_ni C → xa_val aa (sd_v C r) = 0 → (∀ q, q < r → xa_val aa (sd_v C q) ≠ 0) → post (nI (sd_v C r))) (K2 : (∀ r, r < xc_nl C + xc_ni C → xa_val aa (sd_v C r) ≠ 0) → post (-1)) : ∀ n j, j < n → j ≤ xc_ni C → (∀ r, r < xc_nl C + (xc_ni C - j) → xa_val aa (sd_v C r) ≠ 0) → wX_nextDecision_45 post (nI (xc_ci C)) (nI (xc_cl C)) (nI (xc_cg C)) (nI (xc_N C)) (nI (xc_ni C)) (nI (xc_nl C)) (nI (xc_ng C)) (nI (xc_fx C)) (nI (xc_on C)) (nI (xv_ph vv)) (nI (xv_fr vv)) (nI (xv_cc vv)) (nI (xa_ts aa)) (xa_cf aa) (xa_ch aa) (nI (xa_km aa)) (nI (xa_kv aa)) (nI (xb_bc bb)) (nI (xe_dc ee)) (nI (xo_ss oo)) (nI (xo_si oo)) (nI (xl_lc ll)) (xp_gb pp) (nI (xp_gm pp)) (nI (xp_gv pp)) (nI (xf_m ff)) (nI (xf_v ff)) (nI (xh_m hh)) (nI (xh_v hh)) (fun zi => nI (xc_kind C zi)) (fun zi => nI (xc_idx C zi)) (fun zi => nI (xc_opA C zi)) (fun zi => nI (xc_opB C zi)) (fun zi => nI (xc_inN C zi)) (fun zi => nI (xc_laN C zi)) (fun zi => nI (xc_root C zi)) (fun zi => nI (xv_cm vv zi)) (fun zi => nI (xv_cv vv zi)) (fun zi => nI (xv_ts vv zi)) (fun zi => nI (xv_ti vv zi)) dd sm (xa_val aa) (fun zi => nI (xa_tr aa zi)) (fun zi => nI (xb_bm bb zi)) (fun zi => nI (xb_bv bb zi)) (fun zi => nI (xe_dn ee zi)) (fun zi => nI (xe_dm ee zi)) (xe_df ee) (fun zi => nI (xl_lm ll zi)) (fun zi => nI (xl_lv ll zi)) (fun zi => nI (xl_le ll zi)) (xl_st ll) (fun zi => nI (xk_m kk zi)) (fun zi => nI (xk_v kk zi)) n (nI j - 1) := by
  have hb := cr_b hC
  intro n
  induction n with
  | zero => intro j h; omega
  | succ n ih =>
    intro j hn hj h
    cases j with
    | zero => exact br_t xm_neg1 (K2 (fun r hr => h r (by omega)))
    | succ j =>
      have hN := (cr_in hC (j := j) (by omega)).1
      have hv := sd_vi C (j := j) (by omega)
      have hcl : (nI j).toNatClampNeg = j := nI_clamp (by omega)
      have hcl2 : (nI (xc_inN C j)).toNatClampNeg = xc_inN C j := nI_clamp (by omega)
      rw [nI_pred]
      refine br_f (nI_pos (by omega)) ⟨vp_in_nI (by omega) (by omega), ?_⟩
      rw [hcl]
      refine ⟨vp_in_nI (by omega) (by omega), ?_⟩
      rw [hcl2]
      refine br_c (fun hz => ⟨vp_in_nI (by omega) (by omega), ?_⟩) (fun hz => nm_r (bq_sub1 _) ?_)
      · have := K1 (xc_nl C + (xc_ni C - 1 - j)) (by omega) (by rw [hv]; exact hz) (fun q hq => h q (by omega))
        rw [hv] at this
        exact this
      · refine ih j (by omega) (by omega) (fun r hr => ?_)
        by_cases e : r = xc_nl C + (xc_ni C - 1 - j)
        · rw [e, hv]; exact hz
        · exact h r (by omega)
theorem xm_nd7 {post : Int32 → Prop} (hC : cr_OK C) (K1 : ∀ r, r < xc_nl C + xc_ni C → xa_val aa (sd_v C r) = 0 → (∀ q, q < r → xa_val aa (sd_v C q) ≠ 0) → post (nI (sd_v C r))) (K2 : (∀ r, r < xc_nl C + xc_ni C → xa_val aa (sd_v C r) ≠ 0) → post (-1)) : ∀ n j, j < n → j ≤ xc_nl C → (∀ r, r < xc_nl C - j → xa_val aa (sd_v C r) ≠ 0) → wX_nextDecision_7 post (nI (xc_ci C)) (nI (xc_cl C)) (nI (xc_cg C)) (nI (xc_N C)) (nI (xc_ni C)) (nI (xc_nl C)) (nI (xc_ng C)) (nI (xc_fx C)) (nI (xc_on C)) (nI (xv_ph vv)) (nI (xv_fr vv)) (nI (xv_cc vv)) (nI (xa_ts aa)) (xa_cf aa) (xa_ch aa) (nI (xa_km aa)) (nI (xa_kv aa)) (nI (xb_bc bb)) (nI (xe_dc ee)) (nI (xo_ss oo)) (nI (xo_si oo)) (nI (xl_lc ll)) (xp_gb pp) (nI (xp_gm pp)) (nI (xp_gv pp)) (nI (xf_m ff)) (nI (xf_v ff)) (nI (xh_m hh)) (nI (xh_v hh)) (fun zi => nI (xc_kind C zi)) (fun zi => nI (xc_idx C zi)) (fun zi => nI (xc_opA C zi)) (fun zi => nI (xc_opB C zi)) (fun zi => nI (xc_inN C zi)) (fun zi => nI (xc_laN C zi)) (fun zi => nI (xc_root C zi)) (fun zi => nI (xv_cm vv zi)) (fun zi => nI (xv_cv vv zi)) (fun zi => nI (xv_ts vv zi)) (fun zi => nI (xv_ti vv zi)) dd sm (xa_val aa) (fun zi => nI (xa_tr aa zi)) (fun zi => nI (xb_bm bb zi)) (fun zi => nI (xb_bv bb zi)) (fun zi => nI (xe_dn ee zi)) (fun zi => nI (xe_dm ee zi)) (xe_df ee) (fun zi => nI (xl_lm ll zi)) (fun zi => nI (xl_lv ll zi)) (fun zi => nI (xl_le ll zi)) (xl_st ll) (fun zi => nI (xk_m kk zi)) (fun zi => nI (xk_v kk zi)) n (nI j - 1) := by
  have hb := cr_b hC
  intro n
  induction n with
  | zero => intro j h; omega
  | succ n ih =>
    intro j hn hj h
    cases j with
    | zero => exact br_t xm_neg1 (nm_e ⟨xc_ni C + 1, xm_nd45 hC K1 K2 (xc_ni C + 1) (xc_ni C) (by omega) (by omega) (fun r hr => h r (by omega))⟩)
    | succ j =>
      have hN := (cr_la hC (j := j) (by omega)).1
      have hv := sd_vl C (j := j) (by omega)
      have hcl : (nI j).toNatClampNeg = j := nI_clamp (by omega)
      have hcl2 : (nI (xc_laN C j)).toNatClampNeg = xc_laN C j := nI_clamp (by omega)
      rw [nI_pred]
      refine br_f (nI_pos (by omega)) ⟨vp_in_nI (by omega) (by omega), ?_⟩
      rw [hcl]
      refine ⟨vp_in_nI (by omega) (by omega), ?_⟩
      rw [hcl2]
      refine br_c (fun hz => ⟨vp_in_nI (by omega) (by omega), ?_⟩) (fun hz => nm_r (bq_sub1 _) ?_)
      · have := K1 (xc_nl C - 1 - j) (by omega) (by rw [hv]; exact hz) (fun q hq => h q (by omega))
        rw [hv] at this
        exact this
      · refine ih j (by omega) (by omega) (fun r hr => ?_)
        by_cases e : r = xc_nl C - 1 - j
        · rw [e, hv]; exact hz
        · exact h r (by omega)
theorem xm_nd {post : Int32 → Prop} (hC : cr_OK C) (K1 : ∀ r, r < xc_nl C + xc_ni C → xa_val aa (sd_v C r) = 0 → (∀ q, q < r → xa_val aa (sd_v C q) ≠ 0) → post (nI (sd_v C r))) (K2 : (∀ r, r < xc_nl C + xc_ni C → xa_val aa (sd_v C r) ≠ 0) → post (-1)) : wpX_nextDecision post (mk_X C vv dd sm aa bb ee oo ll pp ff hh kk) :=
  nm_e ⟨xc_nl C + 1, xm_nd7 hC K1 K2 (xc_nl C + 1) (xc_nl C) (by omega) (by omega) (fun r hr => absurd hr (by omega))⟩
theorem xm_rs15 {post : SX → Prop} (hC : cr_OK C) (hW : sa_W C aa) (K : ∀ z, z < 2 ^ xc_ni C → (∀ j, j < xc_ni C → z.testBit j = decide (xa_val aa (xc_inN C j) = 1)) → post (mk_X C vv dd sm aa bb ee ((xa_kv aa, z)) ll pp ff hh kk)) : ∀ n j z, xc_ni C - j < n → j ≤ xc_ni C → z < 2 ^ j → (∀ i, i < j → z.testBit i = decide (xa_val aa (xc_inN C i) = 1)) → wX_readSolution_15 post (nI (xc_ci C)) (nI (xc_cl C)) (nI (xc_cg C)) (nI (xc_N C)) (nI (xc_ni C)) (nI (xc_nl C)) (nI (xc_ng C)) (nI (xc_fx C)) (nI (xc_on C)) (nI (xv_ph vv)) (nI (xv_fr vv)) (nI (xv_cc vv)) (nI (xa_ts aa)) (xa_cf aa) (xa_ch aa) (nI (xa_km aa)) (nI (xa_kv aa)) (nI (xb_bc bb)) (nI (xe_dc ee)) (nI (xa_kv aa)) (nI (xl_lc ll)) (xp_gb pp) (nI (xp_gm pp)) (nI (xp_gv pp)) (nI (xf_m ff)) (nI (xf_v ff)) (nI (xh_m hh)) (nI (xh_v hh)) (fun zi => nI (xc_kind C zi)) (fun zi => nI (xc_idx C zi)) (fun zi => nI (xc_opA C zi)) (fun zi => nI (xc_opB C zi)) (fun zi => nI (xc_inN C zi)) (fun zi => nI (xc_laN C zi)) (fun zi => nI (xc_root C zi)) (fun zi => nI (xv_cm vv zi)) (fun zi => nI (xv_cv vv zi)) (fun zi => nI (xv_ts vv zi)) (fun zi => nI (xv_ti vv zi)) dd sm (xa_val aa) (fun zi => nI (xa_tr aa zi)) (fun zi => nI (xb_bm bb zi)) (fun zi => nI (xb_bv bb zi)) (fun zi => nI (xe_dn ee zi)) (fun zi => nI (xe_dm ee zi)) (xe_df ee) (fun zi => nI (xl_lm ll zi)) (fun zi => nI (xl_lv ll zi)) (fun zi => nI (xl_le ll zi)) (xl_st ll) (fun zi => nI (xk_m kk zi)) (fun zi => nI (xk_v kk zi)) n (nI j) (nI z) := by
  have hb := cr_b hC
  intro n
  induction n with
  | zero => intro j z h; omega
  | succ n ih =>
    intro j z hn hj hz h
    by_cases e : j < xc_ni C
    · have hN := (cr_in hC e).1
      have hcl : (nI j).toNatClampNeg = j := nI_clamp (by omega)
      have hcl2 : (nI (xc_inN C j)).toNatClampNeg = xc_inN C j := nI_clamp (by omega)
      have p2 : 2 ^ (j + 1) = 2 ^ j + 2 ^ j := by rw [Nat.pow_succ]; omega
      have v3 : xa_val aa (xc_inN C j) = 0 ∨ xa_val aa (xc_inN C j) = 1 ∨ xa_val aa (xc_inN C j) = -1 := by
        rcases hW.2.1 _ hN with y | ⟨y | y, _⟩
        · exact Or.inl y
        · exact Or.inr (Or.inl y)
        · exact Or.inr (Or.inr y)
      refine br_f (nI_ge e (by omega)) ⟨vp_in_nI (by omega) (by omega), ?_⟩
      rw [hcl]
      refine ⟨vp_in_nI (by omega) (by omega), ?_⟩
      rw [hcl2]
      refine br_c (fun hv => nm_r (nI_1 j) ?_) (fun hv => nm_r (e' := nI (z ||| 2 ^ j)) (by rw [bq_pow (by omega), bq_or]) (nm_r (nI_1 j) ?_))
      · refine ih (j + 1) z (by omega) (by omega) (by omega) (fun i hi => ?_)
        by_cases ei : i = j
        · subst ei
          rw [Nat.testBit_lt_two_pow hz, decide_eq_false]
          intro y
          exact absurd ((i3_p v3).mpr y) (Int32.not_lt.mpr hv)
        · exact h i (by omega)
      · refine ih (j + 1) (z ||| 2 ^ j) (by omega) (by omega) (Nat.or_lt_two_pow (by omega) (by omega)) (fun i hi => ?_)
        rw [Nat.testBit_or, bq_one]
        by_cases ei : i = j
        · subst ei
          rw [decide_eq_true rfl, Bool.or_true, decide_eq_true ((i3_p v3).mp (Int32.not_le.mp hv))]
        · rw [decide_eq_false (fun y => ei y.symm), Bool.or_false]
          exact h i (by omega)
    · have ej : j = xc_ni C := by omega
      subst ej
      exact br_t (nI_le (Nat.le_refl _) (by omega)) (K z hz h)
theorem xm_rs {post : SX → Prop} (hC : cr_OK C) (hW : sa_W C aa) (K : ∀ z, z < 2 ^ xc_ni C → (∀ j, j < xc_ni C → z.testBit j = decide (xa_val aa (xc_inN C j) = 1)) → post (mk_X C vv dd sm aa bb ee ((xa_kv aa, z)) ll pp ff hh kk)) : wpX_readSolution post (mk_X C vv dd sm aa bb ee oo ll pp ff hh kk) :=
  ⟨xc_ni C + 1, xm_rs15 hC hW K (xc_ni C + 1) 0 0 (by omega) (by omega) (by omega) (fun i hi => absurd hi (by omega))⟩
theorem xm_dec {post : SX → Prop} {n : Nat} (hC : cr_OK C) (hn : n < xc_N C) (hW : sa_W C aa) (hd : xe_dc ee < 8) (K : ∀ a', sa_MT C (2 * n + 1) aa a' → post (mk_X C vv dd sm a' bb (((xe_dc ee + 1, up_n (xe_dn ee) (xe_dc ee) n, up_n (xe_dm ee) (xe_dc ee) (xa_ts aa), upd (xe_df ee) (xe_dc ee) 0) : gt_E)) oo ll pp ff hh kk)) : wpX_decideFalse post (mk_X C vv dd sm aa bb ee oo ll pp ff hh kk) (nI n) := by
  have hin : vp_in (nI (xe_dc ee)) 8 := vp_in_nI (by omega) (by omega)
  refine br_t (nI_lt (b := 8) hd (by omega)) ⟨hin, nm_r (up_I (by omega)) ⟨hin, nm_r (up_I (by omega)) ⟨hin, nm_r (e' := upd (xe_df ee) (xe_dc ee) 0) (up_R (by omega)) (nm_r (nI_1 _) ?_)⟩⟩⟩
  rw [show 2 * nI n + 1 = nI (2 * n + 1) by rw [show (2 : Int32) * nI n = nI (2 * n) from pk_mul 2 n, nI_1]]
  exact xm_makeTrue (ee := ((xe_dc ee + 1, up_n (xe_dn ee) (xe_dc ee) n, up_n (xe_dm ee) (xe_dc ee) (xa_ts aa), upd (xe_df ee) (xe_dc ee) 0) : gt_E)) hC (by omega) hW K
theorem xm_bt7 {post : Int32 → SX → Prop} (hC : cr_OK C) (hd8 : xe_dc ee ≤ 8) (hdn : ∀ d, d < xe_dc ee → xe_dn ee d < xc_N C) (hmo : ∀ d q, d < q → q < xe_dc ee → xe_dm ee d ≤ xe_dm ee q)
    (K0 : (∀ d, d < xe_dc ee → xe_df ee d ≠ 0) → ∀ a', post 0 (mk_X C vv dd sm a' bb (((0, xe_dn ee, xe_dm ee, xe_df ee) : gt_E)) oo ll pp ff hh kk))
    (K1 : ∀ d a1 a', d < xe_dc ee → xe_df ee d = 0 → (∀ q, d < q → q < xe_dc ee → xe_df ee q ≠ 0) → sa_W C a1 → xa_ts a1 = xe_dm ee d → xa_tr a1 = xa_tr aa → xa_cf a1 = 0 → (∀ j, j < xe_dm ee d → xa_val a1 (xa_tr aa j) = xa_val aa (xa_tr aa j)) → sa_MT C (2 * xe_dn ee d) a1 a' → post 1 (mk_X C vv dd sm a' bb (((d + 1, xe_dn ee, xe_dm ee, upd (xe_df ee) d 1) : gt_E)) oo ll pp ff hh kk)) :
    ∀ n j a, j < n → j ≤ xe_dc ee → (∀ q, j ≤ q → q < xe_dc ee → xe_df ee q ≠ 0) → sa_W C a → xa_tr a = xa_tr aa → (∀ d, d < j → xe_dm ee d ≤ xa_ts a) → (∀ i, i < xa_ts a → xa_val a (xa_tr aa i) = xa_val aa (xa_tr aa i)) → wX_backtrack_7 post n (nI j - 1) (nI (xc_ci C)) (nI (xc_cl C)) (nI (xc_cg C)) (nI (xc_N C)) (nI (xc_ni C)) (nI (xc_nl C)) (nI (xc_ng C)) (nI (xc_fx C)) (nI (xc_on C)) (nI (xv_ph vv)) (nI (xv_fr vv)) (nI (xv_cc vv)) (nI (xa_ts a)) (xa_cf a) (xa_ch a) (nI (xa_km a)) (nI (xa_kv a)) (nI (xb_bc bb)) (nI (xe_dc ee)) (nI (xo_ss oo)) (nI (xo_si oo)) (nI (xl_lc ll)) (xp_gb pp) (nI (xp_gm pp)) (nI (xp_gv pp)) (nI (xf_m ff)) (nI (xf_v ff)) (nI (xh_m hh)) (nI (xh_v hh)) (fun zi => nI (xc_kind C zi)) (fun zi => nI (xc_idx C zi)) (fun zi => nI (xc_opA C zi)) (fun zi => nI (xc_opB C zi)) (fun zi => nI (xc_inN C zi)) (fun zi => nI (xc_laN C zi)) (fun zi => nI (xc_root C zi)) (fun zi => nI (xv_cm vv zi)) (fun zi => nI (xv_cv vv zi)) (fun zi => nI (xv_ts vv zi)) (fun zi => nI (xv_ti vv zi)) dd sm (xa_val a) (fun zi => nI (xa_tr a zi)) (fun zi => nI (xb_bm bb zi)) (fun zi => nI (xb_bv bb zi)) (fun zi => nI (xe_dn ee zi)) (fun zi => nI (xe_dm ee zi)) (xe_df ee) (fun zi => nI (xl_lm ll zi)) (fun zi => nI (xl_lv ll zi)) (fun zi => nI (xl_le ll zi)) (xl_st ll) (fun zi => nI (xk_m kk zi)) (fun zi => nI (xk_v kk zi)) := by
  intro n
  induction n with
  | zero => intro j a h; omega
  | succ n ih =>
    intro j a hn hj hf hW htr hdm hv
    cases j with
    | zero => exact br_t xm_neg1 (K0 (fun d hd => hf d (by omega) hd) a)
    | succ j =>
      have hcl : (nI j).toNatClampNeg = j := nI_clamp (by omega)
      have hin : vp_in (nI j) 8 := vp_in_nI (by omega) (by omega)
      rw [nI_pred]
      refine br_f (nI_pos (by omega)) ⟨hin, ?_⟩
      rw [hcl]
      refine xm_undo (aa := a) (m := xe_dm ee j) hC (hdm j (by omega)) hW (fun a1 hW1 ht1 hr1 hc1 hv1 => ⟨hin, ?_⟩)
      have hv2 : ∀ i, i < xe_dm ee j → xa_val a1 (xa_tr aa i) = xa_val aa (xa_tr aa i) := by
        intro i hi
        rw [← htr, hv1 i hi, htr]
        exact hv i (by have := hdm j (by omega); omega)
      refine br_c (fun h0 => ⟨hin, nm_r (e' := upd (xe_df ee) j 1) rfl (nm_r (nI_1 j) ⟨hin, ?_⟩)⟩) (fun h0 => nm_r (bq_sub1 _) ?_)
      · rw [show 2 * (fun i => nI (xe_dn ee i)) j = nI (2 * xe_dn ee j) from pk_mul 2 _]
        refine xm_makeTrue (aa := ((xa_ts a1, 0, xa_ch a1, xa_km a1, xa_kv a1, xa_val a1, xa_tr a1) : gt_A)) (ee := ((j + 1, xe_dn ee, xe_dm ee, upd (xe_df ee) j 1) : gt_E)) hC (by have := hdn j (by omega); omega) hW1 (fun a' hM => ?_)
        exact K1 j (((xa_ts a1, 0, xa_ch a1, xa_km a1, xa_kv a1, xa_val a1, xa_tr a1) : gt_A)) a' (by omega) h0 (fun q h1 h2 => hf q (by omega) h2) hW1 ht1 (hr1.trans htr) rfl hv2 hM
      · refine ih j a1 (by omega) (by omega) (fun q h1 h2 => ?_) hW1 (hr1.trans htr) (fun d hd => ?_) (fun i hi => hv2 i (by omega))
        · by_cases e : q = j
          · subst e; exact h0
          · exact hf q (by omega) h2
        · rw [ht1]; exact hmo d j hd (by omega)
theorem xm_bt {post : Int32 → SX → Prop} (hC : cr_OK C) (hd8 : xe_dc ee ≤ 8) (hdn : ∀ d, d < xe_dc ee → xe_dn ee d < xc_N C) (hmo : ∀ d q, d < q → q < xe_dc ee → xe_dm ee d ≤ xe_dm ee q) (hW : sa_W C aa) (hdm : ∀ d, d < xe_dc ee → xe_dm ee d ≤ xa_ts aa)
    (K0 : (∀ d, d < xe_dc ee → xe_df ee d ≠ 0) → ∀ a', post 0 (mk_X C vv dd sm a' bb (((0, xe_dn ee, xe_dm ee, xe_df ee) : gt_E)) oo ll pp ff hh kk))
    (K1 : ∀ d a1 a', d < xe_dc ee → xe_df ee d = 0 → (∀ q, d < q → q < xe_dc ee → xe_df ee q ≠ 0) → sa_W C a1 → xa_ts a1 = xe_dm ee d → xa_tr a1 = xa_tr aa → xa_cf a1 = 0 → (∀ j, j < xe_dm ee d → xa_val a1 (xa_tr aa j) = xa_val aa (xa_tr aa j)) → sa_MT C (2 * xe_dn ee d) a1 a' → post 1 (mk_X C vv dd sm a' bb (((d + 1, xe_dn ee, xe_dm ee, upd (xe_df ee) d 1) : gt_E)) oo ll pp ff hh kk)) : wpX_backtrack post (mk_X C vv dd sm aa bb ee oo ll pp ff hh kk) :=
  nm_e ⟨xe_dc ee + 1, xm_bt7 hC hd8 hdn hmo K0 K1 (xe_dc ee + 1) (xe_dc ee) aa (by omega) (by omega) (fun q h1 h2 => absurd h2 (by omega)) hW rfl hdm (fun _ _ => rfl)⟩
end
end
section
/-! the search: decisions, flips, the least solution -/
theorem bq_lt {a b j : Nat} (ha : a.testBit j = false) (hb : b.testBit j = true) (h : ∀ i, j < i → a.testBit i = b.testBit i) : a < b := by
  have e : a / 2 ^ j / 2 = b / 2 ^ j / 2 := by
    apply Nat.eq_of_testBit_eq
    intro i
    rw [Nat.testBit_div_two, Nat.testBit_div_two, Nat.testBit_div_two_pow, Nat.testBit_div_two_pow]
    exact h _ (by omega)
  rw [Nat.testBit_eq_decide_div_mod_eq, decide_eq_false_iff_not] at ha
  rw [Nat.testBit_eq_decide_div_mod_eq, decide_eq_true_eq] at hb
  have l1 : a / 2 ^ j < b / 2 ^ j := by omega
  rcases Nat.lt_or_ge a b with l | l
  · exact l
  · have := Nat.div_le_div_right (c := 2 ^ j) l
    omega
def sd_dec (C : gt_C) (e : gt_E) (s u d : Nat) : Prop := xe_df e d = 0 → cr_ev C s u (xe_dn e d) = false
def sd_D (C : gt_C) (t0 : Nat) (P : Nat → Nat → Prop) (a : gt_A) (e : gt_E) (d : Nat) : Prop :=
  (t0 ≤ xe_dm e d ∧ xe_dm e d < xa_ts a ∧ xa_tr a (xe_dm e d) = xe_dn e d ∧ (xe_df e d = 0 → xa_val a (xe_dn e d) = -1)) ∧
  (∃ r, r < xc_nl C + xc_ni C ∧ xe_dn e d = sd_v C r ∧ d ≤ r ∧ ∀ q, q < r → ∃ i, i < xe_dm e d ∧ xa_tr a i = sd_v C q) ∧
  (∀ s u, P s u → (∀ q, q < d → sd_dec C e s u q) → sa_P C a (xe_dm e d) s u)
def sd_X (a0 a : gt_A) : Prop := xa_ts a0 ≤ xa_ts a ∧ ∀ i, i < xa_ts a0 → xa_tr a i = xa_tr a0 i ∧ xa_val a (xa_tr a0 i) = xa_val a0 (xa_tr a0 i)
def sd_J (C : gt_C) (a0 : gt_A) (P : Nat → Nat → Prop) (a : gt_A) (e : gt_E) : Prop :=
  sa_W C a ∧ sd_X a0 a ∧ xe_dc e ≤ 8 ∧ (∀ d, d < xe_dc e → sd_D C (xa_ts a0) P a e d) ∧ (∀ d q, d < q → q < xe_dc e → xe_dm e d < xe_dm e q) ∧ (∀ s u, P s u → (∀ d, d < xe_dc e → sd_dec C e s u d) → sa_S C a s u) ∧ (xa_cf a0 ≠ 0 → xe_dc e = 0 ∧ xa_cf a ≠ 0)
theorem sd_Pe {C : gt_C} {a a' : gt_A} {m s u : Nat} (hW : sa_W C a) (hF : sa_F a a') (hm : m ≤ xa_ts a) (h : sa_P C a m s u) : sa_P C a' m s u := by
  intro i hi
  rw [hF.2.1 i (by omega), hF.2.2.1 _ (hW.1.2.1 i (by omega)).2]
  exact h i hi
theorem sd_De {C : gt_C} {t0 : Nat} {P : Nat → Nat → Prop} {a a' : gt_A} {e e' : gt_E} {d : Nat} (hW : sa_W C a) (hF : sa_F a a') (hn : ∀ q, q ≤ d → xe_dn e' q = xe_dn e q) (hm : xe_dm e' d = xe_dm e d) (hf : ∀ q, q ≤ d → xe_df e' q = xe_df e q) (h : sd_D C t0 P a e d) : sd_D C t0 P a' e' d := by
  obtain ⟨⟨h1, h2, h3, h4⟩, ⟨r, r1, r2, r3, r4⟩, h5⟩ := h
  unfold sd_D
  rw [hm, hn d (Nat.le_refl _), hf d (Nat.le_refl _)]
  refine ⟨⟨h1, Nat.lt_of_lt_of_le h2 hF.1, by rw [hF.2.1 _ h2]; exact h3, fun z => ?_⟩, ⟨r, r1, r2, r3, fun q hq => ?_⟩, fun s u hP hq => ?_⟩
  · have := h4 z
    rw [hF.2.2.1 _ (by rw [this]; decide)]; exact this
  · obtain ⟨i, hi, ei⟩ := r4 q hq
    exact ⟨i, hi, by rw [hF.2.1 i (by omega)]; exact ei⟩
  · refine sd_Pe hW hF (by omega) (h5 s u hP (fun q hq' => ?_))
    have := hq q hq'
    unfold sd_dec at this ⊢
    rw [hn q (by omega), hf q (by omega)] at this
    exact this
theorem sa_E_F {a a' : gt_A} (h : sa_E a a') : sa_F a a' := ⟨h.1, h.2.1, h.2.2.1, h.2.2.2.1⟩
theorem sd_Xe {C : gt_C} {a0 a a' : gt_A} (hW0 : sa_W C a0) (h : sd_X a0 a) (hF : sa_F a a') : sd_X a0 a' := by
  refine ⟨Nat.le_trans h.1 hF.1, fun i hi => ?_⟩
  obtain ⟨h1, h2⟩ := h.2 i hi
  refine ⟨by rw [hF.2.1 i (Nat.lt_of_lt_of_le hi h.1)]; exact h1, ?_⟩
  rw [hF.2.2.1 _ (by rw [h2]; exact (hW0.1.2.1 i hi).2), h2]
/-- propagation keeps it -/
theorem sd_Jp {C : gt_C} {b : gt_B} {a0 a a' : gt_A} {P : Nat → Nat → Prop} {e : gt_E} (hW0 : sa_W C a0) (hP : ∀ s u, P s u → s < 2 ^ xc_nl C ∧ u < 2 ^ xc_ni C ∧ sb_ok b s) (h : sd_J C a0 P a e) (hQ : sa_Q C b a a') : sd_J C a0 P a' e := by
  obtain ⟨h1, h2, h3, h4, h5, h6, h7⟩ := h
  refine ⟨hQ.1, sd_Xe hW0 h2 hQ.2.1, h3, fun d hd => sd_De h1 hQ.2.1 (fun _ _ => rfl) rfl (fun _ _ => rfl) (h4 d hd), h5, fun s u hp hd => ?_, fun z => ⟨(h7 z).1, fun y => (h7 z).2 (hQ.2.1.2.2.2 y)⟩⟩
  obtain ⟨p1, p2, p3⟩ := hP s u hp
  exact (hQ.2.2 s u p1 p2 p3).mpr (h6 s u hp hd)
theorem sd_rank {C : gt_C} {a0 a : gt_A} {P : Nat → Nat → Prop} {e : gt_E} {r : Nat} (h : sd_J C a0 P a e) (h0 : xa_val a (sd_v C r) = 0) : xe_dc e ≤ r := by
  obtain ⟨h1, h2, h3, h4, h5, h6, h7⟩ := h
  rcases Nat.eq_zero_or_pos (xe_dc e) with z | z
  · omega
  · obtain ⟨⟨g1, g2, g3, g4⟩, ⟨q, q1, q2, q3, q4⟩, _⟩ := h4 (xe_dc e - 1) (by omega)
    rcases Nat.lt_trichotomy r q with l | l | l
    · obtain ⟨i, hi, ei⟩ := q4 r l
      exact absurd (by rw [ei]; exact h0) (h1.1.2.1 i (by omega)).2
    · have := (h1.1.2.1 _ g2).2
      rw [g3, q2, ← l] at this
      exact absurd h0 this
    · omega
/-- a decision -/
theorem sd_Jd {C : gt_C} {a0 a a' : gt_A} {P : Nat → Nat → Prop} {e : gt_E} {r : Nat} (hC : cr_OK C) (hW0 : sa_W C a0) (h : sd_J C a0 P a e) (hc : xa_cf a = 0) (hr : r < xc_nl C + xc_ni C) (h0 : xa_val a (sd_v C r) = 0) (hq : ∀ q, q < r → xa_val a (sd_v C q) ≠ 0) (hM : sa_MT C (2 * sd_v C r + 1) a a') : sd_J C a0 P a' (((xe_dc e + 1, up_n (xe_dn e) (xe_dc e) (sd_v C r), up_n (xe_dm e) (xe_dc e) (xa_ts a), upd (xe_df e) (xe_dc e) 0) : gt_E)) := by
  have hrk := sd_rank h h0
  have hb := cr_b hC
  have hvN := sd_vN hC hr
  have hE := sa_M_E h.1 hM
  have hF := sa_E_F hE
  have hn2 : (2 * sd_v C r + 1) / 2 = sd_v C r := by omega
  have hw : sa_w (2 * sd_v C r + 1) = -1 := if_neg (by omega)
  obtain ⟨h1, h2, h3, h4, h5, h6, h7⟩ := h
  have hS : ∀ s u, sa_S C a' s u ↔ (sa_S C a s u ∧ cr_lit C s u (2 * sd_v C r + 1) = true) := fun s u => sa_M_S (by omega) h1 hM
  have h3c : xa_ts a' = xa_ts a + 1 ∧ xa_tr a' (xa_ts a) = sd_v C r ∧ xa_val a' (sd_v C r) = -1 := by
    rcases hM with ⟨hv, _⟩ | ⟨_, hv, _⟩ | ⟨hv, rfl⟩
    · rw [hn2, h0, hw] at hv; exact absurd hv (by decide)
    · rw [hn2] at hv; exact absurd h0 hv
    · refine ⟨rfl, ?_, ?_⟩
      · show up_n (xa_tr a) (xa_ts a) ((2 * sd_v C r + 1) / 2) (xa_ts a) = _
        rw [up_s, hn2]
      · show upd (xa_val a) ((2 * sd_v C r + 1) / 2) (sa_w (2 * sd_v C r + 1)) (sd_v C r) = _
        rw [hn2, pk_us, hw]
  have hlow : ∀ d, d < xe_dc e → up_n (xe_dn e) (xe_dc e) (sd_v C r) d = xe_dn e d ∧ up_n (xe_dm e) (xe_dc e) (xa_ts a) d = xe_dm e d ∧ upd (xe_df e) (xe_dc e) 0 d = xe_df e d := fun d hd => ⟨up_o (by omega), up_o (by omega), pk_un (by omega)⟩
  have hdec : ∀ s u d, d < xe_dc e → (sd_dec C (((xe_dc e + 1, up_n (xe_dn e) (xe_dc e) (sd_v C r), up_n (xe_dm e) (xe_dc e) (xa_ts a), upd (xe_df e) (xe_dc e) 0) : gt_E)) s u d ↔ sd_dec C e s u d) := by
    intro s u d hd
    unfold sd_dec
    show (upd (xe_df e) (xe_dc e) 0 d = 0 → cr_ev C s u (up_n (xe_dn e) (xe_dc e) (sd_v C r) d) = false) ↔ _
    rw [(hlow d hd).1, (hlow d hd).2.2]
  refine ⟨sa_M_W hC (by omega) h1 hM, sd_Xe hW0 h2 hF, ?_, ?_, ?_, ?_, ?_⟩
  · show xe_dc e + 1 ≤ 8; omega
  · intro d hd
    have hd' : d < xe_dc e + 1 := hd
    by_cases ed : d = xe_dc e
    · subst ed
      unfold sd_D
      show (xa_ts a0 ≤ up_n (xe_dm e) (xe_dc e) (xa_ts a) (xe_dc e) ∧ up_n (xe_dm e) (xe_dc e) (xa_ts a) (xe_dc e) < xa_ts a' ∧ xa_tr a' (up_n (xe_dm e) (xe_dc e) (xa_ts a) (xe_dc e)) = up_n (xe_dn e) (xe_dc e) (sd_v C r) (xe_dc e) ∧ (upd (xe_df e) (xe_dc e) 0 (xe_dc e) = 0 → xa_val a' (up_n (xe_dn e) (xe_dc e) (sd_v C r) (xe_dc e)) = -1)) ∧ (∃ q, q < xc_nl C + xc_ni C ∧ up_n (xe_dn e) (xe_dc e) (sd_v C r) (xe_dc e) = sd_v C q ∧ xe_dc e ≤ q ∧ ∀ p, p < q → ∃ i, i < up_n (xe_dm e) (xe_dc e) (xa_ts a) (xe_dc e) ∧ xa_tr a' i = sd_v C p) ∧ (∀ s u, P s u → _ → sa_P C a' (up_n (xe_dm e) (xe_dc e) (xa_ts a) (xe_dc e)) s u)
      rw [up_s, up_s]
      refine ⟨⟨h2.1, by omega, h3c.2.1, fun _ => h3c.2.2⟩, ⟨r, hr, rfl, hrk, fun q hq' => ?_⟩, fun s u hp hd => ?_⟩
      · rcases h1.2.1 _ (sd_vN hC (r := q) (by omega)) with z | ⟨_, i, hi, ei⟩
        · exact absurd z (hq q hq')
        · exact ⟨i, hi, by rw [hF.2.1 i hi]; exact ei⟩
      · exact sd_Pe h1 hF (Nat.le_refl _) (h6 s u hp (fun q hq' => (hdec s u q hq').mp (hd q hq'))).2
    · refine sd_De h1 hF ?_ ?_ ?_ (h4 d (by omega))
      · intro q hq'; exact (hlow q (by omega)).1
      · exact (hlow d (by omega)).2.1
      · intro q hq'; exact (hlow q (by omega)).2.2
  · intro d q hdq hq'
    have hq2 : q < xe_dc e + 1 := hq'
    show up_n (xe_dm e) (xe_dc e) (xa_ts a) d < up_n (xe_dm e) (xe_dc e) (xa_ts a) q
    rw [up_o (by omega)]
    by_cases eq : q = xe_dc e
    · subst eq
      rw [up_s]
      exact (h4 d hdq).1.2.1
    · rw [up_o eq]
      exact h5 d q hdq (by omega)
  · intro s u hp hd
    rw [hS]
    refine ⟨h6 s u hp (fun q hq' => (hdec s u q hq').mp (hd q (Nat.lt_succ_of_lt hq'))), ?_⟩
    have := hd (xe_dc e) (Nat.lt_succ_self _)
    have h8 : upd (xe_df e) (xe_dc e) 0 (xe_dc e) = 0 → cr_ev C s u (up_n (xe_dn e) (xe_dc e) (sd_v C r) (xe_dc e)) = false := this
    rw [up_s] at h8
    unfold cr_lit cr_lv
    rw [hn2, h8 pk_us, show (2 * sd_v C r + 1) % 2 = 1 by omega]
    rfl
  · intro z
    exact absurd hc (h7 z).2
/-- a flip -/
theorem sd_Jf {C : gt_C} {a0 a a1 a' : gt_A} {P : Nat → Nat → Prop} {e : gt_E} {d : Nat} (hC : cr_OK C) (h : sd_J C a0 P a e) (hc : xa_cf a ≠ 0) (hd : d < xe_dc e) (h0 : xe_df e d = 0) (hq : ∀ q, d < q → q < xe_dc e → xe_df e q ≠ 0) (hW1 : sa_W C a1) (ht : xa_ts a1 = xe_dm e d) (htr : xa_tr a1 = xa_tr a) (hc1 : xa_cf a1 = 0) (hv : ∀ j, j < xe_dm e d → xa_val a1 (xa_tr a j) = xa_val a (xa_tr a j)) (hM : sa_MT C (2 * xe_dn e d) a1 a') : sd_J C a0 P a' (((d + 1, xe_dn e, xe_dm e, upd (xe_df e) d 1) : gt_E)) := by
  obtain ⟨h1, h2, h3, h4, h5, h6, h7⟩ := h
  obtain ⟨⟨g1, g2, g3, g4⟩, ⟨r, r1, r2, r3, r4⟩, g5⟩ := h4 d hd
  have hvN : xe_dn e d < xc_N C := by rw [r2]; exact sd_vN hC r1
  have hn2 : (2 * xe_dn e d) / 2 = xe_dn e d := by omega
  have hF := sa_E_F (sa_M_E hW1 hM)
  have hS : ∀ s u, sa_S C a' s u ↔ (sa_S C a1 s u ∧ cr_lit C s u (2 * xe_dn e d) = true) := fun s u => sa_M_S (by omega) hW1 hM
  have hv0 : xa_val a1 (xe_dn e d) = 0 := by
    rcases hW1.2.1 _ hvN with z | ⟨_, i, hi, ei⟩
    · exact z
    · exfalso
      rw [htr, ← g3] at ei
      exact h1.1.2.2 i _ (by omega) g2 ei
  have h3c : xa_ts a' = xe_dm e d + 1 ∧ xa_tr a' (xe_dm e d) = xe_dn e d := by
    rcases hM with ⟨hv, _⟩ | ⟨_, hv, _⟩ | ⟨hv, rfl⟩
    · rw [hn2, hv0] at hv; exact absurd hv.symm (sa_w0 _)
    · rw [hn2] at hv; exact absurd hv0 hv
    · refine ⟨by show xa_ts a1 + 1 = _; rw [ht], ?_⟩
      show up_n (xa_tr a1) (xa_ts a1) ((2 * xe_dn e d) / 2) (xe_dm e d) = _
      rw [ht, up_s, hn2]
  have hlow : ∀ q, q < d → upd (xe_df e) d 1 q = xe_df e q := fun q hq' => pk_un (by omega)
  have hP1 : ∀ m s u, m ≤ xe_dm e d → sa_P C a m s u → sa_P C a1 m s u := by
    intro m s u hm hp i hi
    rw [htr, hv i (by omega)]
    exact hp i hi
  have hdec : ∀ s u q, q < d → (sd_dec C (((d + 1, xe_dn e, xe_dm e, upd (xe_df e) d 1) : gt_E)) s u q ↔ sd_dec C e s u q) := by
    intro s u q hq'
    unfold sd_dec
    show (upd (xe_df e) d 1 q = 0 → _) ↔ _
    rw [hlow q hq']
  have hD1 : ∀ q, q < d → sd_D C (xa_ts a0) P a1 e q := by
    intro q hq'
    obtain ⟨⟨k1, k2, k3, k4⟩, ⟨p, p1, p2, p3, p4⟩, k5⟩ := h4 q (by omega)
    have hlt := h5 q d hq' hd
    refine ⟨⟨k1, by omega, by rw [htr]; exact k3, fun z => ?_⟩, ⟨p, p1, p2, p3, fun y hy => ?_⟩, fun s u hp hdd => hP1 _ s u (by omega) (k5 s u hp hdd)⟩
    · rw [← k3, hv _ hlt, k3]; exact k4 z
    · rw [htr]; exact p4 y hy
  refine ⟨sa_M_W hC (by omega) hW1 hM, ?_, ?_, ?_, ?_, ?_, ?_⟩
  · refine ⟨by omega, fun i hi => ?_⟩
    obtain ⟨x1, x2⟩ := h2.2 i hi
    have e1 : xa_tr a1 i = xa_tr a0 i := by rw [htr]; exact x1
    have hi2 : i < xa_ts a1 := by omega
    refine ⟨by rw [hF.2.1 i hi2]; exact e1, ?_⟩
    have e2 : xa_val a1 (xa_tr a0 i) = xa_val a0 (xa_tr a0 i) := by
      rw [← x1, hv i (by omega), x1]; exact x2
    rw [hF.2.2.1 _ (by rw [← e1]; exact (hW1.1.2.1 i hi2).2), e2]
  · show d + 1 ≤ 8; omega
  · intro q hq'
    have hq2 : q < d + 1 := hq'
    by_cases eq : q = d
    · subst eq
      refine ⟨⟨g1, by show xe_dm e q < xa_ts a'; omega, h3c.2, fun z => ?_⟩, ⟨r, r1, r2, r3, fun y hy => ?_⟩, fun s u hp hdd => ?_⟩
      · have : upd (xe_df e) q 1 q = 0 := z
        rw [pk_us] at this
        exact absurd this (by decide)
      · obtain ⟨i, hi, ei⟩ := r4 y hy
        exact ⟨i, hi, by rw [hF.2.1 i (by omega), htr]; exact ei⟩
      · refine sd_Pe hW1 hF (by show xe_dm e q ≤ xa_ts a1; omega) (hP1 _ s u (Nat.le_refl _) (g5 s u hp (fun y hy => (hdec s u y hy).mp (hdd y hy))))
    · refine sd_De (e := e) hW1 hF (fun _ _ => rfl) rfl (fun y hy => ?_) (hD1 q (by omega))
      exact hlow y (by omega)
  · intro p q hpq hq'
    have hq2 : q < d + 1 := hq'
    exact h5 p q hpq (by omega)
  · intro s u hp hdd
    have hdl : ∀ q, q < d → sd_dec C e s u q := fun q hq' => (hdec s u q hq').mp (hdd q (Nat.lt_succ_of_lt hq'))
    rw [hS]
    refine ⟨⟨hc1, ?_⟩, ?_⟩
    · rw [ht]; exact hP1 _ s u (Nat.le_refl _) (g5 s u hp hdl)
    · rw [cr_lit2]
      cases ev : cr_ev C s u (xe_dn e d)
      · exfalso
        apply hc
        refine (h6 s u hp (fun q hq' => ?_)).1
        rcases Nat.lt_trichotomy q d with l | l | l
        · exact hdl q l
        · subst l; exact fun _ => ev
        · exact fun z => absurd z (hq q l hq')
      · rfl
  · intro z
    have := (h7 z).1
    omega
theorem sd_qa {a : gt_A} {o x y : Nat} {p q : Bool} (hx : sa_l a x = if p = true then 1 else -1) (hy : sa_l a y = if q = true then 1 else -1) (h : sa_QA a o x y) : sa_l a o = if (p && q) = true then 1 else -1 := by
  cases p
  · exact h.2 (Or.inl hx)
  · cases q
    · exact h.2 (Or.inr hy)
    · exact h.1 hx hy
theorem sd_qx {a : gt_A} {o x y : Nat} {p q : Bool} (hx : sa_l a x = if p = true then 1 else -1) (hy : sa_l a y = if q = true then 1 else -1) (h : sa_QX a o x y) : sa_l a o = if (p ^^ q) = true then 1 else -1 := by
  have h2 := h (by rw [hx]; cases p <;> decide) (by rw [hy]; cases q <;> decide)
  rw [hx, hy] at h2
  rw [h2]
  cases p <;> cases q <;> decide
theorem sd_ng (p : Bool) : -(if p = true then (1 : Int32) else -1) = if (!p) = true then 1 else -1 := by cases p <;> decide
/-- the end: all variables have values -/
theorem sd_full {C : gt_C} {b : gt_B} {a : gt_A} {z : Nat} (hC : cr_OK C) (hW : sa_W C a) (hCl : sa_Cl C b a) (hv0 : xa_val a 0 = -1) (hall : ∀ r, r < xc_nl C + xc_ni C → xa_val a (sd_v C r) ≠ 0) (hz : ∀ j, j < xc_ni C → z.testBit j = decide (xa_val a (xc_inN C j) = 1)) : ∀ n, n < xc_N C → xa_val a n = if cr_ev C (xa_kv a) z n = true then 1 else -1 := by
  intro n
  induction n using Nat.strongRecOn with
  | ind n ih =>
    intro hn
    have three := hW.2.1 n hn
    rcases Nat.eq_zero_or_pos n with e0 | e0
    · subst e0; rw [cr_ev0 hC, hv0]; rfl
    · obtain ⟨k1, k5⟩ := cr_kp hC hn e0
      have lit : ∀ x, x < 2 * n → sa_l a x = if cr_lit C (xa_kv a) z x = true then 1 else -1 := by
        intro x hx
        have hi := ih (x / 2) (by omega) (by omega)
        unfold sa_l cr_lit cr_lv
        rw [hi]
        rcases Nat.mod_two_eq_zero_or_one x with m | m
        · rw [if_pos m, m]; cases cr_ev C (xa_kv a) z (x / 2) <;> decide
        · rw [if_neg (by omega), m]; cases cr_ev C (xa_kv a) z (x / 2) <;> decide
      have l2 : sa_l a (2 * n) = xa_val a n := by
        unfold sa_l
        rw [if_pos (by omega), show 2 * n / 2 = n by omega]
      have key : xc_kind C n = 1 ∨ xc_kind C n = 2 ∨ xc_kind C n = 3 ∨ xc_kind C n = 4 ∨ xc_kind C n = 5 := by omega
      rcases key with k | k | k | k | k
      · obtain ⟨i1, i2⟩ := cr_ki hC hn k
        have hne : xa_val a n ≠ 0 := by
          have := hall _ (show xc_nl C + (xc_ni C - 1 - xc_idx C n) < xc_nl C + xc_ni C by omega)
          rw [sd_vi C i1, i2] at this
          exact this
        have ev := cr_ev_in hC (s := xa_kv a) (u := z) i1
        rw [i2, hz _ i1, i2] at ev
        rw [ev]
        rcases three with t | ⟨t | t, _⟩
        · exact absurd t hne
        · rw [t]; rfl
        · rw [t]; rfl
      · obtain ⟨i1, i2⟩ := cr_kl hC hn k
        have hne : xa_val a n ≠ 0 := by
          have := hall _ (show xc_nl C - 1 - xc_idx C n < xc_nl C + xc_ni C by omega)
          rw [sd_vl C i1, i2] at this
          exact this
        have ev := cr_ev_la hC (s := xa_kv a) (u := z) i1
        rw [i2, (hW.2.2.2.2 _ i1).2, i2] at ev
        rw [ev]
        rcases three with t | ⟨t | t, _⟩
        · exact absurd t hne
        · rw [t]; rfl
        · rw [t]; rfl
      · obtain ⟨oa, ob⟩ := cr_kg hC hn (by omega)
        have ev := cr_ev_eq hC (s := xa_kv a) (u := z) hn
        unfold cr_gate at ev
        rw [if_neg (by omega), if_neg (by omega), if_pos k] at ev
        rw [ev, ← l2]
        exact sd_qa (lit _ oa) (lit _ ob) ((hCl.1 n e0 hn).1 k)
      · obtain ⟨oa, ob⟩ := cr_kg hC hn (by omega)
        have ev := cr_ev_eq hC (s := xa_kv a) (u := z) hn
        unfold cr_gate at ev
        rw [if_neg (by omega), if_neg (by omega), if_neg (by omega), if_pos k] at ev
        have h1 := sd_qa (p := !cr_lit C (xa_kv a) z (xc_opA C n)) (q := !cr_lit C (xa_kv a) z (xc_opB C n)) (by rw [sa_l_x, lit _ oa, sd_ng]) (by rw [sa_l_x, lit _ ob, sd_ng]) ((hCl.1 n e0 hn).2.1 k)
        rw [sa_l_x, l2] at h1
        have h2 := congrArg (fun v : Int32 => -v) h1
        rw [Int32.neg_neg, sd_ng] at h2
        rw [ev, h2, Bool.not_and, Bool.not_not, Bool.not_not]
        rfl
      · obtain ⟨oa, ob⟩ := cr_kg hC hn (by omega)
        have ev := cr_ev_eq hC (s := xa_kv a) (u := z) hn
        unfold cr_gate at ev
        rw [if_neg (by omega), if_neg (by omega), if_neg (by omega), if_neg (by omega), if_pos k] at ev
        rw [ev, ← l2]
        exact sd_qx (lit _ oa) (lit _ ob) ((hCl.1 n e0 hn).2.2 k)
/-- it is a solution, and its state is the least -/
theorem sd_sol {C : gt_C} {b : gt_B} {a0 a : gt_A} {P : Nat → Nat → Prop} {e : gt_E} {z : Nat} (hC : cr_OK C) (hB : ∀ i, i < xb_bc b → cu_ok C (xb_bm b i) (xb_bv b i)) (hW0 : sa_W C a0) (h : sd_J C a0 P a e) (hc : xa_cf a = 0) (hCl : sa_Cl C b a) (hv0 : xa_val a0 0 = -1) (hall : ∀ r, r < xc_nl C + xc_ni C → xa_val a (sd_v C r) ≠ 0) (hz : ∀ j, j < xc_ni C → z.testBit j = decide (xa_val a (xc_inN C j) = 1)) : sb_ok b (xa_kv a) ∧ sa_S C a0 (xa_kv a) z ∧ ∀ s u, s < 2 ^ xc_nl C → P s u → xa_kv a ≤ s := by
  have hb := cr_b hC
  have hv0' : xa_val a 0 = -1 := by
    rcases hW0.2.1 0 (by omega) with y | ⟨_, i, hi, ei⟩
    · rw [hv0] at y; exact absurd y (by decide)
    · have := (h.2.1.2 i hi).2
      rw [ei] at this
      rw [this, hv0]
  have hF := sd_full hC h.1 hCl hv0' hall hz
  have hag : ∀ n, n < xc_N C → sa_ag (xa_val a n) (cr_ev C (xa_kv a) z n) := by
    intro n hn
    rw [hF n hn]
    cases cr_ev C (xa_kv a) z n
    · exact ⟨fun y => absurd y (by decide), fun _ => rfl⟩
    · exact ⟨fun _ => rfl, fun y => absurd y (by decide)⟩
  obtain ⟨h1, h2, h3, h4, h5, h6, h7⟩ := h
  have hla : ∀ j, j < xc_nl C → xa_val a (xc_laN C j) = if (xa_kv a).testBit j = true then 1 else -1 := by
    intro j hj
    rw [hF _ (cr_la hC hj).1, cr_ev_la hC hj]
  refine ⟨?_, ⟨?_, ?_⟩, ?_⟩
  · intro i hi hin
    apply hCl.2 i hi
    intro j hj hm
    rw [hla j hj, (cu_iff (hB i hi).2).mp hin j hm]
  · by_cases c : xa_cf a0 = 0
    · exact c
    · exact absurd hc (h7 c).2
  · intro i hi
    obtain ⟨x1, x2⟩ := h2.2 i hi
    rw [← x2]
    exact hag _ (hW0.1.2.1 i hi).1
  · intro s u hs hp
    by_cases hd : ∃ d, d < xe_dc e ∧ ¬ sd_dec C e s u d
    · obtain ⟨d, ⟨hd1, hd2⟩, hd3⟩ := pk_least _ hd
      obtain ⟨⟨g1, g2, g3, g4⟩, ⟨r, r1, r2, r3, r4⟩, g5⟩ := h4 d hd1
      have hf : xe_df e d = 0 := by
        by_cases y : xe_df e d = 0
        · exact y
        · exact absurd (fun w => absurd w y) hd2
      have hev : cr_ev C s u (xe_dn e d) = true := ts_nf (fun y => hd2 (fun _ => y))
      have hpre := g5 s u hp (fun q hq => by
        by_cases y : sd_dec C e s u q
        · exact y
        · exact absurd ⟨by omega, y⟩ (hd3 q hq))
      have hsame : ∀ q, q < r → ∀ j, j < xc_nl C → sd_v C q = xc_laN C j → (xa_kv a).testBit j = s.testBit j := by
        intro q hq j hj ej
        obtain ⟨i, hi, ei⟩ := r4 q hq
        have := hpre i hi
        rw [ei, ej, cr_ev_la hC hj, hla j hj] at this
        cases y : (xa_kv a).testBit j
        · rw [y] at this; exact (this.2 rfl).symm
        · rw [y] at this; exact (this.1 rfl).symm
      by_cases hr : r < xc_nl C
      · have hvr : sd_v C r = xc_laN C (xc_nl C - 1 - r) := if_pos hr
        apply Nat.le_of_lt
        apply bq_lt (j := xc_nl C - 1 - r)
        · have := g4 hf
          rw [r2, hvr, hla _ (by omega)] at this
          cases y : (xa_kv a).testBit (xc_nl C - 1 - r)
          · rfl
          · rw [y] at this; exact absurd this (by decide)
        · rw [r2, hvr, cr_ev_la hC (by omega)] at hev
          exact hev
        · intro j hj
          by_cases l : j < xc_nl C
          · exact hsame (xc_nl C - 1 - j) (by omega) j l (sd_vl C l)
          · have p : (2 : Nat) ^ xc_nl C ≤ 2 ^ j := Nat.pow_le_pow_right (by decide) (by omega)
            rw [Nat.testBit_lt_two_pow (Nat.lt_of_lt_of_le h1.2.2.2.1 p), Nat.testBit_lt_two_pow (Nat.lt_of_lt_of_le hs p)]
      · apply Nat.le_of_eq
        apply bq_ext h1.2.2.2.1 hs
        intro j hj
        exact hsame (xc_nl C - 1 - j) (by omega) j hj (sd_vl C hj)
    · have hS := h6 s u hp (fun d hd1 => by
        by_cases y : sd_dec C e s u d
        · exact y
        · exact absurd ⟨d, hd1, y⟩ hd)
      apply Nat.le_of_eq
      apply bq_ext h1.2.2.2.1 hs
      intro j hj
      have := sa_S_n h1 hS (cr_la hC hj).1
      rw [cr_ev_la hC hj, hla j hj] at this
      cases y : (xa_kv a).testBit j
      · rw [y] at this; exact (this.2 rfl).symm
      · rw [y] at this; exact (this.1 rfl).symm
/-- the measure -/
def sd_m (e : gt_E) : Nat → Nat
  | 0 => 0
  | d + 1 => sd_m e d + if xe_df e d = 0 then 2 ^ (8 - d) - 1 else 0
theorem sd_m_c {e e' : gt_E} : ∀ d, (∀ q, q < d → xe_df e' q = xe_df e q) → sd_m e' d = sd_m e d := by
  intro d
  induction d with
  | zero => intro _; rfl
  | succ d ih =>
    intro h
    unfold sd_m
    rw [ih (fun q hq => h q (by omega)), h d (by omega)]
theorem sd_m_mono (e : gt_E) : ∀ d q, d ≤ q → sd_m e d ≤ sd_m e q := by
  intro d q h
  induction q with
  | zero => rw [show d = 0 by omega]; exact Nat.le_refl _
  | succ q ih =>
    by_cases c : d = q + 1
    · rw [c]; exact Nat.le_refl _
    · have := ih (by omega)
      show _ ≤ sd_m e q + _
      omega
def sd_M (a : gt_A) (e : gt_E) : Nat := sd_m e (xe_dc e) + if xa_cf a = 0 then 2 ^ (9 - xe_dc e) - 2 else 0
theorem sd_Md {a a' : gt_A} {e : gt_E} {x y : Nat → Nat} (hc : xa_cf a = 0) (hd : xe_dc e < 8) : sd_M a' (((xe_dc e + 1, x, y, upd (xe_df e) (xe_dc e) 0) : gt_E)) < sd_M a e := by
  unfold sd_M
  rw [if_pos hc]
  show sd_m (((xe_dc e + 1, x, y, upd (xe_df e) (xe_dc e) 0) : gt_E)) (xe_dc e + 1) + (if xa_cf a' = 0 then 2 ^ (9 - (xe_dc e + 1)) - 2 else 0) < _
  have e1 : sd_m (((xe_dc e + 1, x, y, upd (xe_df e) (xe_dc e) 0) : gt_E)) (xe_dc e + 1) = sd_m e (xe_dc e) + (2 ^ (8 - xe_dc e) - 1) := by
    show sd_m (((xe_dc e + 1, x, y, upd (xe_df e) (xe_dc e) 0) : gt_E)) (xe_dc e) + (if upd (xe_df e) (xe_dc e) 0 (xe_dc e) = 0 then 2 ^ (8 - xe_dc e) - 1 else 0) = _
    rw [if_pos pk_us, sd_m_c (e := e) (xe_dc e) (fun q hq => pk_un (by omega))]
  rw [e1]
  have p1 : 2 ^ (9 - xe_dc e) = 2 * 2 ^ (8 - xe_dc e) := by
    rw [show 9 - xe_dc e = (8 - xe_dc e) + 1 by omega, Nat.pow_succ]; omega
  have p2 : 2 ≤ 2 ^ (8 - xe_dc e) := by
    have : (2 : Nat) ^ 1 ≤ 2 ^ (8 - xe_dc e) := Nat.pow_le_pow_right (by decide) (by omega)
    omega
  rw [show 9 - (xe_dc e + 1) = 8 - xe_dc e by omega]
  split <;> omega
theorem sd_Mf {a a' : gt_A} {e : gt_E} {d : Nat} (hc : xa_cf a ≠ 0) (hd : d < xe_dc e) (hd8 : xe_dc e ≤ 8) (h0 : xe_df e d = 0) : sd_M a' (((d + 1, xe_dn e, xe_dm e, upd (xe_df e) d 1) : gt_E)) < sd_M a e := by
  unfold sd_M
  rw [if_neg hc]
  show sd_m (((d + 1, xe_dn e, xe_dm e, upd (xe_df e) d 1) : gt_E)) (d + 1) + (if xa_cf a' = 0 then 2 ^ (9 - (d + 1)) - 2 else 0) < _
  have e1 : sd_m (((d + 1, xe_dn e, xe_dm e, upd (xe_df e) d 1) : gt_E)) (d + 1) = sd_m e d := by
    show sd_m (((d + 1, xe_dn e, xe_dm e, upd (xe_df e) d 1) : gt_E)) d + (if upd (xe_df e) d 1 d = 0 then 2 ^ (8 - d) - 1 else 0) = _
    rw [if_neg (by rw [pk_us]; decide), sd_m_c (e := e) d (fun q hq => pk_un (by omega))]
    omega
  have e2 : sd_m e (d + 1) = sd_m e d + (2 ^ (8 - d) - 1) := by
    show sd_m e d + (if xe_df e d = 0 then 2 ^ (8 - d) - 1 else 0) = _
    rw [if_pos h0]
  have e3 := sd_m_mono e (d + 1) (xe_dc e) (by omega)
  rw [e1, show 9 - (d + 1) = 8 - d by omega]
  have p2 : 2 ≤ 2 ^ (8 - d) := by
    have : (2 : Nat) ^ 1 ≤ 2 ^ (8 - d) := Nat.pow_le_pow_right (by decide) (by omega)
    omega
  split <;> omega
section
variable {C : gt_C} {vv : gt_V} {dd : (Nat → Int64)} {sm : (Nat → Int32)} {aa : gt_A} {bb : gt_B} {ee : gt_E} {oo : gt_O} {ll : gt_L} {pp : gt_P} {ff : gt_F} {hh : gt_H} {kk : gt_K}
theorem xm_solve6 {post : Int32 → SX → Prop} (hC : cr_OK C) (hB : ∀ i, i < xb_bc bb → cu_ok C (xb_bm bb i) (xb_bv bb i)) (hbc : xb_bc bb ≤ 768) (hW : sa_W C aa) (hv0 : xa_val aa 0 = -1)
    (K1 : ∀ a' e' o', xo_ss o' < 2 ^ xc_nl C → xo_si o' < 2 ^ xc_ni C → sb_ok bb (xo_ss o') → sa_S C aa (xo_ss o') (xo_si o') → (∀ s u, s < 2 ^ xc_nl C → u < 2 ^ xc_ni C → sb_ok bb s → sa_S C aa s u → xo_ss o' ≤ s) → post 1 (mk_X C vv dd sm a' bb e' o' ll pp ff hh kk))
    (K0 : ∀ a' e' o', (∀ s u, s < 2 ^ xc_nl C → u < 2 ^ xc_ni C → sb_ok bb s → ¬ sa_S C aa s u) → post 0 (mk_X C vv dd sm a' bb e' o' ll pp ff hh kk)) :
    ∀ n k a e, sd_M a e < n → k + sd_M a e ≤ 510 → sd_J C aa (fun s u => s < 2 ^ xc_nl C ∧ u < 2 ^ xc_ni C ∧ sb_ok bb s ∧ sa_S C aa s u) a e → (xa_cf a = 0 → sa_Cl C bb a) → wX_solve_6 post n (nI k) (nI (xc_ci C)) (nI (xc_cl C)) (nI (xc_cg C)) (nI (xc_N C)) (nI (xc_ni C)) (nI (xc_nl C)) (nI (xc_ng C)) (nI (xc_fx C)) (nI (xc_on C)) (nI (xv_ph vv)) (nI (xv_fr vv)) (nI (xv_cc vv)) (nI (xa_ts a)) (xa_cf a) (xa_ch a) (nI (xa_km a)) (nI (xa_kv a)) (nI (xb_bc bb)) (nI (xe_dc e)) (nI (xo_ss oo)) (nI (xo_si oo)) (nI (xl_lc ll)) (xp_gb pp) (nI (xp_gm pp)) (nI (xp_gv pp)) (nI (xf_m ff)) (nI (xf_v ff)) (nI (xh_m hh)) (nI (xh_v hh)) (fun zi => nI (xc_kind C zi)) (fun zi => nI (xc_idx C zi)) (fun zi => nI (xc_opA C zi)) (fun zi => nI (xc_opB C zi)) (fun zi => nI (xc_inN C zi)) (fun zi => nI (xc_laN C zi)) (fun zi => nI (xc_root C zi)) (fun zi => nI (xv_cm vv zi)) (fun zi => nI (xv_cv vv zi)) (fun zi => nI (xv_ts vv zi)) (fun zi => nI (xv_ti vv zi)) dd sm (xa_val a) (fun zi => nI (xa_tr a zi)) (fun zi => nI (xb_bm bb zi)) (fun zi => nI (xb_bv bb zi)) (fun zi => nI (xe_dn e zi)) (fun zi => nI (xe_dm e zi)) (xe_df e) (fun zi => nI (xl_lm ll zi)) (fun zi => nI (xl_lv ll zi)) (fun zi => nI (xl_le ll zi)) (xl_st ll) (fun zi => nI (xk_m kk zi)) (fun zi => nI (xk_v kk zi)) := by
  have hb := cr_b hC
  intro n
  induction n with
  | zero => intro k a e h; omega
  | succ n ih =>
    intro k a e hn hk hJ hCl
    have hP : ∀ s u, (s < 2 ^ xc_nl C ∧ u < 2 ^ xc_ni C ∧ sb_ok bb s ∧ sa_S C aa s u) → s < 2 ^ xc_nl C ∧ u < 2 ^ xc_ni C ∧ sb_ok bb s := fun s u h => ⟨h.1, h.2.1, h.2.2.1⟩
    refine br_f (nI_ge (b := 2048) (by omega) (by omega)) (br_c (fun hc => ?_) (fun hc => ?_))
    · refine xm_nd hC (fun r hr h0 hq => ?_) (fun hall => ?_)
      · have hN := sd_vN hC hr
        have hrk := sd_rank hJ h0
        refine br_t (nI_pos' (by omega)) ?_
        refine xm_dec hC hN hJ.1 (by omega) (fun a' hM => ?_)
        have hJ' := sd_Jd hC hW hJ hc hr h0 hq hM
        refine xm_prop hC hB hbc hJ'.1 (fun a2 hQ hCl2 => nm_r (nI_1 k) ?_)
        have hlt := sd_Md (a' := a2) (x := up_n (xe_dn e) (xe_dc e) (sd_v C r)) (y := up_n (xe_dm e) (xe_dc e) (xa_ts a)) hc (show xe_dc e < 8 by omega)
        exact ih (k + 1) a2 _ (by omega) (by omega) (sd_Jp hW hP hJ' hQ) hCl2
      · refine br_f (by decide) (xm_rs hC hJ.1 (fun z hz hzb => ?_))
        obtain ⟨s1, s2, s3⟩ := sd_sol hC hB hW hJ hc (hCl hc) hv0 hall hzb
        exact K1 a e (xa_kv a, z) hJ.1.2.2.2.1 hz s1 s2 (fun s u hs hu ho hS => s3 s u hs ⟨hs, hu, ho, hS⟩)
    · refine xm_bt hC hJ.2.2.1 (fun d hd => ?_) (fun d q h1 h2 => Nat.le_of_lt (hJ.2.2.2.2.1 d q h1 h2)) hJ.1 (fun d hd => Nat.le_of_lt (hJ.2.2.2.1 d hd).1.2.1) (fun hall a' => ?_) (fun d a1 a' hd h0 hq hW1 ht htr hc1 hv hM => ?_)
      · obtain ⟨_, ⟨r, r1, r2, _⟩, _⟩ := hJ.2.2.2.1 d hd
        rw [r2]; exact sd_vN hC r1
      · refine br_t rfl (K0 a' _ oo (fun s u hs hu ho hS => ?_))
        exact hc (hJ.2.2.2.2.2.1 s u ⟨hs, hu, ho, hS⟩ (fun d hd z => absurd z (hall d hd))).1
      · refine br_f (by decide) ?_
        have hJ' := sd_Jf hC hJ hc hd h0 hq hW1 ht htr hc1 hv hM
        refine xm_prop hC hB hbc hJ'.1 (fun a2 hQ hCl2 => nm_r (nI_1 k) ?_)
        have hlt := sd_Mf (a' := a2) hc hd hJ.2.2.1 h0
        exact ih (k + 1) a2 _ (by omega) (by omega) (sd_Jp hW hP hJ' hQ) hCl2
theorem xm_solve {post : Int32 → SX → Prop} (hC : cr_OK C) (hB : ∀ i, i < xb_bc bb → cu_ok C (xb_bm bb i) (xb_bv bb i)) (hbc : xb_bc bb ≤ 768) (hW : sa_W C aa) (hv0 : xa_val aa 0 = -1) (hdc : xe_dc ee = 0)
    (K1 : ∀ a' e' o', xo_ss o' < 2 ^ xc_nl C → xo_si o' < 2 ^ xc_ni C → sb_ok bb (xo_ss o') → sa_S C aa (xo_ss o') (xo_si o') → (∀ s u, s < 2 ^ xc_nl C → u < 2 ^ xc_ni C → sb_ok bb s → sa_S C aa s u → xo_ss o' ≤ s) → post 1 (mk_X C vv dd sm a' bb e' o' ll pp ff hh kk))
    (K0 : ∀ a' e' o', (∀ s u, s < 2 ^ xc_nl C → u < 2 ^ xc_ni C → sb_ok bb s → ¬ sa_S C aa s u) → post 0 (mk_X C vv dd sm a' bb e' o' ll pp ff hh kk)) : wpX_solve post (mk_X C vv dd sm aa bb ee oo ll pp ff hh kk) := by
  refine xm_prop hC hB hbc hW (fun a hQ hCl => ?_)
  have hM : sd_M a ee ≤ 510 := by
    unfold sd_M
    rw [hdc]
    show 0 + (if xa_cf a = 0 then 2 ^ (9 - 0) - 2 else 0) ≤ 510
    split <;> omega
  refine ⟨sd_M a ee + 1, xm_solve6 hC hB hbc hW hv0 K1 K0 (sd_M a ee + 1) 0 a ee (by omega) (by omega) ?_ hCl⟩
  refine sd_Jp hW (fun s u h => ⟨h.1, h.2.1, h.2.2.1⟩) (a := aa) ⟨hW, ⟨Nat.le_refl _, fun _ _ => ⟨rfl, rfl⟩⟩, by omega, fun d hd => absurd hd (by omega), fun d q _ hq => absurd hq (by omega), fun s u h _ => h.2.2.2, fun z => ⟨hdc, z⟩⟩ hQ
end
end
section
/-! walks: simulate, simValue, successor, isBadPair, simulationServes, lift -/
def sl_v (f : Nat → Int32) (x : Nat) : Int32 := if x % 2 = 0 then f (x / 2) else -(f (x / 2))
def sl_3 (v : Int32) : Prop := v = 0 ∨ v = 1 ∨ v = -1
def sl_kn (C : gt_C) (kn st s : Nat) : Prop := ∀ j, j < xc_nl C → kn.testBit j = true → s.testBit j = st.testBit j
def sl_at (C : gt_C) (kn st inp : Nat) (f : Nat → Int32) (n : Nat) : Prop := sl_3 (f n) ∧ (∀ s, sl_kn C kn st s → sa_ag (f n) (cr_ev C s inp n)) ∧ ((∀ j, j < xc_nl C → kn.testBit j = true) → f n ≠ 0)
def sl_lit (C : gt_C) (kn st inp : Nat) (f : Nat → Int32) (x : Nat) : Prop := sl_3 (sl_v f x) ∧ (∀ s, sl_kn C kn st s → sa_ag (sl_v f x) (cr_lit C s inp x)) ∧ ((∀ j, j < xc_nl C → kn.testBit j = true) → sl_v f x ≠ 0)
theorem sl_l {C : gt_C} {kn st inp : Nat} {f : Nat → Int32} {x : Nat} (h : sl_at C kn st inp f (x / 2)) : sl_lit C kn st inp f x := by
  obtain ⟨h1, h2, h3⟩ := h
  unfold sl_lit sl_v cr_lit cr_lv
  rcases Nat.mod_two_eq_zero_or_one x with e | e
  · rw [if_pos e, e, decide_eq_false (by decide)]
    refine ⟨h1, fun s hs => ?_, h3⟩
    rw [Bool.xor_false]; exact h2 s hs
  · rw [if_neg (by omega), e, decide_eq_true rfl]
    refine ⟨?_, fun s hs => ?_, fun hk z => ?_⟩
    · rcases h1 with z | z | z <;> rw [z] <;> unfold sl_3 <;> decide
    · have := h2 s hs
      rw [Bool.xor_true]
      unfold sa_ag at this ⊢
      rcases h1 with z | z | z <;> rw [z] at this ⊢
      · exact ⟨fun y => absurd y (by decide), fun y => absurd y (by decide)⟩
      · exact ⟨fun y => absurd y (by decide), fun _ => by rw [this.1 rfl]; rfl⟩
      · exact ⟨fun _ => by rw [this.2 rfl]; rfl, fun y => absurd y (by decide)⟩
    · have := h3 hk
      rcases h1 with y | y | y
      · exact this y
      · rw [y] at z; exact absurd z (by decide)
      · rw [y] at z; exact absurd z (by decide)
theorem sl_and {a b : Int32} (ha : sl_3 a) (hb : sl_3 b) : sl_3 (if b ≤ a then b else a) ∧ (∀ x y, sa_ag a x → sa_ag b y → sa_ag (if b ≤ a then b else a) (x && y)) ∧ (a ≠ 0 → b ≠ 0 → (if b ≤ a then b else a) ≠ 0) := by
  unfold sl_3 sa_ag
  rcases ha with h | h | h <;> rcases hb with k | k | k <;> rw [h, k] <;> refine ⟨by decide, fun x y => ?_, by decide⟩ <;> cases x <;> cases y <;> decide
theorem sl_or {a b : Int32} (ha : sl_3 a) (hb : sl_3 b) : sl_3 (if a ≤ b then b else a) ∧ (∀ x y, sa_ag a x → sa_ag b y → sa_ag (if a ≤ b then b else a) (x || y)) ∧ (a ≠ 0 → b ≠ 0 → (if a ≤ b then b else a) ≠ 0) := by
  unfold sl_3 sa_ag
  rcases ha with h | h | h <;> rcases hb with k | k | k <;> rw [h, k] <;> refine ⟨by decide, fun x y => ?_, by decide⟩ <;> cases x <;> cases y <;> decide
theorem sl_xor {a b : Int32} (ha : sl_3 a) (hb : sl_3 b) : sl_3 (-(a * b)) ∧ (∀ x y, sa_ag a x → sa_ag b y → sa_ag (-(a * b)) (x ^^ y)) ∧ (a ≠ 0 → b ≠ 0 → -(a * b) ≠ 0) := by
  unfold sl_3 sa_ag
  rcases ha with h | h | h <;> rcases hb with k | k | k <;> rw [h, k] <;> refine ⟨by decide, fun x y => ?_, by decide⟩ <;> cases x <;> cases y <;> decide
theorem sl_full {C : gt_C} {st inp : Nat} {f : Nat → Int32} {x : Nat} (h : sl_lit C (2 ^ xc_nl C - 1) st inp f x) : sl_v f x = if cr_lit C st inp x = true then 1 else -1 := by
  obtain ⟨h1, h2, h3⟩ := h
  have h4 := h2 st (fun _ _ _ => rfl)
  have h5 := h3 (fun j hj => by rw [bq_ones, decide_eq_true hj])
  rcases h1 with z | z | z
  · exact absurd z h5
  · rw [h4.1 z, z]; rfl
  · rw [h4.2 z, z]; rfl
theorem sl_pos (b : Bool) : ((if b = true then (1 : Int32) else -1) ≤ 0 ↔ b = false) ∧ (0 < (if b = true then (1 : Int32) else -1) ↔ b = true) := by cases b <;> decide
theorem sl_u {C : gt_C} {kn st inp n : Nat} {f : Nat → Int32} {v : Int32} (h : ∀ i, i < n → sl_at C kn st inp f i) (hv : sl_3 v ∧ (∀ s, sl_kn C kn st s → sa_ag v (cr_ev C s inp n)) ∧ ((∀ j, j < xc_nl C → kn.testBit j = true) → v ≠ 0)) : ∀ i, i < n + 1 → sl_at C kn st inp (upd f n v) i := by
  intro i hi
  unfold sl_at
  by_cases e : i = n
  · subst e; rw [pk_us]; exact hv
  · rw [pk_un e]; exact h i (by omega)
section
variable {C : gt_C} {vv : gt_V} {dd : (Nat → Int64)} {sm : (Nat → Int32)} {aa : gt_A} {bb : gt_B} {ee : gt_E} {oo : gt_O} {ll : gt_L} {pp : gt_P} {ff : gt_F} {hh : gt_H} {kk : gt_K}
theorem xm_sv {post : Int32 → Prop} {x : Nat} (hC : cr_OK C) (hx : x < 2 * xc_N C) (K : post (sl_v sm x)) : wpX_simValue post (mk_X C vv dd sm aa bb ee oo ll pp ff hh kk) (nI x) := by
  have hb := cr_b hC
  have hh : nI x >>> ((1 : Int32) &&& 31) = nI (x / 2) := bq_half (by omega)
  refine ⟨by rw [hh]; exact vp_in_nI (by omega) (by omega), nm_r (e' := sm (x / 2)) (by rw [hh, nI_clamp (by omega)]) (br_c (fun h => ?_) (fun h => ?_))⟩
  · have : sl_v sm x = sm (x / 2) := if_pos ((bq_low0 (by omega)).mp h)
    rw [← this]; exact K
  · have : sl_v sm x = -(sm (x / 2)) := if_neg (fun z => h ((bq_low0 (by omega)).mpr z))
    rw [← this]; exact K
theorem xm_sim10 {post : SX → Prop} {kn st inp : Nat} (hC : cr_OK C) (K : ∀ f, (∀ n, n < xc_N C → sl_at C kn st inp f n) → post (mk_X C vv dd f aa bb ee oo ll pp ff hh kk)) : ∀ n i f, xc_N C - i < n → 0 < i → i ≤ xc_N C → (∀ j, j < i → sl_at C kn st inp f j) → wX_simulate_10 post (nI kn) (nI st) (nI inp) (nI (xc_ci C)) (nI (xc_cl C)) (nI (xc_cg C)) (nI (xc_N C)) (nI (xc_ni C)) (nI (xc_nl C)) (nI (xc_ng C)) (nI (xc_fx C)) (nI (xc_on C)) (nI (xv_ph vv)) (nI (xv_fr vv)) (nI (xv_cc vv)) (nI (xa_ts aa)) (xa_cf aa) (xa_ch aa) (nI (xa_km aa)) (nI (xa_kv aa)) (nI (xb_bc bb)) (nI (xe_dc ee)) (nI (xo_ss oo)) (nI (xo_si oo)) (nI (xl_lc ll)) (xp_gb pp) (nI (xp_gm pp)) (nI (xp_gv pp)) (nI (xf_m ff)) (nI (xf_v ff)) (nI (xh_m hh)) (nI (xh_v hh)) n (nI i) (fun zi => nI (xc_kind C zi)) (fun zi => nI (xc_idx C zi)) (fun zi => nI (xc_opA C zi)) (fun zi => nI (xc_opB C zi)) (fun zi => nI (xc_inN C zi)) (fun zi => nI (xc_laN C zi)) (fun zi => nI (xc_root C zi)) (fun zi => nI (xv_cm vv zi)) (fun zi => nI (xv_cv vv zi)) (fun zi => nI (xv_ts vv zi)) (fun zi => nI (xv_ti vv zi)) dd f (xa_val aa) (fun zi => nI (xa_tr aa zi)) (fun zi => nI (xb_bm bb zi)) (fun zi => nI (xb_bv bb zi)) (fun zi => nI (xe_dn ee zi)) (fun zi => nI (xe_dm ee zi)) (xe_df ee) (fun zi => nI (xl_lm ll zi)) (fun zi => nI (xl_lv ll zi)) (fun zi => nI (xl_le ll zi)) (xl_st ll) (fun zi => nI (xk_m kk zi)) (fun zi => nI (xk_v kk zi)) := by
  have hb := cr_b hC
  intro n
  induction n with
  | zero => intro i f h; omega
  | succ n ih =>
    intro i f hn h0 hi h
    by_cases e : i < xc_N C
    · have hin : vp_in (nI i) 29 := vp_in_nI (by omega) (by omega)
      have hcl : (nI i).toNatClampNeg = i := nI_clamp (by omega)
      obtain ⟨k1, k5⟩ := cr_kp hC e h0
      obtain ⟨k3, k4, k5'⟩ := xm_k3 _ k5
      have nx : ∀ v : Int32, (sl_3 v ∧ (∀ s, sl_kn C kn st s → sa_ag v (cr_ev C s inp i)) ∧ ((∀ j, j < xc_nl C → kn.testBit j = true) → v ≠ 0)) → wX_simulate_10 post (nI kn) (nI st) (nI inp) (nI (xc_ci C)) (nI (xc_cl C)) (nI (xc_cg C)) (nI (xc_N C)) (nI (xc_ni C)) (nI (xc_nl C)) (nI (xc_ng C)) (nI (xc_fx C)) (nI (xc_on C)) (nI (xv_ph vv)) (nI (xv_fr vv)) (nI (xv_cc vv)) (nI (xa_ts aa)) (xa_cf aa) (xa_ch aa) (nI (xa_km aa)) (nI (xa_kv aa)) (nI (xb_bc bb)) (nI (xe_dc ee)) (nI (xo_ss oo)) (nI (xo_si oo)) (nI (xl_lc ll)) (xp_gb pp) (nI (xp_gm pp)) (nI (xp_gv pp)) (nI (xf_m ff)) (nI (xf_v ff)) (nI (xh_m hh)) (nI (xh_v hh)) n (nI (i + 1)) (fun zi => nI (xc_kind C zi)) (fun zi => nI (xc_idx C zi)) (fun zi => nI (xc_opA C zi)) (fun zi => nI (xc_opB C zi)) (fun zi => nI (xc_inN C zi)) (fun zi => nI (xc_laN C zi)) (fun zi => nI (xc_root C zi)) (fun zi => nI (xv_cm vv zi)) (fun zi => nI (xv_cv vv zi)) (fun zi => nI (xv_ts vv zi)) (fun zi => nI (xv_ti vv zi)) dd (upd f i v) (xa_val aa) (fun zi => nI (xa_tr aa zi)) (fun zi => nI (xb_bm bb zi)) (fun zi => nI (xb_bv bb zi)) (fun zi => nI (xe_dn ee zi)) (fun zi => nI (xe_dm ee zi)) (xe_df ee) (fun zi => nI (xl_lm ll zi)) (fun zi => nI (xl_lv ll zi)) (fun zi => nI (xl_le ll zi)) (xl_st ll) (fun zi => nI (xk_m kk zi)) (fun zi => nI (xk_v kk zi)) := fun v hv => ih (i + 1) (upd f i v) (by omega) (by omega) (by omega) (sl_u h hv)
      have ev : ∀ s, cr_ev C s inp i = cr_gate C s inp (cr_ev C s inp) i := fun s => cr_ev_eq hC e
      refine br_f (nI_ge e (by omega)) ⟨hin, nm_r (e' := nI (xc_kind C i)) (by rw [hcl]) ⟨hin, nm_r (e' := nI (xc_idx C i)) (by rw [hcl]) ?_⟩⟩
      refine pk_eq (xc_kind C i) 1 (fun ek => ?_) (fun nk1 => pk_eq (xc_kind C i) 2 (fun ek => ?_) (fun nk2 => ?_))
      · have hx := (cr_ki hC e ek).1
        have ge : ∀ s, cr_ev C s inp i = inp.testBit (xc_idx C i) := fun s => by rw [ev]; unfold cr_gate; rw [if_pos ek]
        refine br_c (fun hz => ⟨hin, nm_r (up_R (by omega)) (nm_r (nI_1 i) (nx _ ?_))⟩) (fun hz => ⟨hin, nm_r (up_R (by omega)) (nm_r (nI_1 i) (nx _ ?_))⟩)
        · rw [bq_bit0 (by omega)] at hz
          exact ⟨Or.inr (Or.inr rfl), fun s _ => by rw [ge, hz]; exact ⟨fun y => absurd y (by decide), fun _ => rfl⟩, fun _ => by decide⟩
        · have hz' := ts_nf (fun y => hz ((bq_bit0 (by omega)).mpr y))
          exact ⟨Or.inr (Or.inl rfl), fun s _ => by rw [ge, hz']; exact ⟨fun _ => rfl, fun y => absurd y (by decide)⟩, fun _ => by decide⟩
      · have hx := (cr_kl hC e ek).1
        have ge : ∀ s, cr_ev C s inp i = s.testBit (xc_idx C i) := fun s => by rw [ev]; unfold cr_gate; rw [if_neg nk1, if_pos ek]
        refine br_c (fun hz => ⟨hin, nm_r (up_R (by omega)) (nm_r (nI_1 i) (nx _ ?_))⟩) (fun hz => br_c (fun hz2 => ⟨hin, nm_r (up_R (by omega)) (nm_r (nI_1 i) (nx _ ?_))⟩) (fun hz2 => ⟨hin, nm_r (up_R (by omega)) (nm_r (nI_1 i) (nx _ ?_))⟩))
        · rw [bq_bit0 (by omega)] at hz
          exact ⟨Or.inl rfl, fun s _ => ⟨fun y => absurd y (by decide), fun y => absurd y (by decide)⟩, fun hk => by rw [hk _ hx] at hz; exact absurd hz (by decide)⟩
        · have hz' := ts_nf (fun y => hz ((bq_bit0 (by omega)).mpr y))
          rw [bq_bit0 (by omega)] at hz2
          exact ⟨Or.inr (Or.inr rfl), fun s hs => by rw [ge, hs _ hx hz', hz2]; exact ⟨fun y => absurd y (by decide), fun _ => rfl⟩, fun _ => by decide⟩
        · have hz' := ts_nf (fun y => hz ((bq_bit0 (by omega)).mpr y))
          have hz2' := ts_nf (fun y => hz2 ((bq_bit0 (by omega)).mpr y))
          exact ⟨Or.inr (Or.inl rfl), fun s hs => by rw [ge, hs _ hx hz', hz2']; exact ⟨fun _ => rfl, fun y => absurd y (by decide)⟩, fun _ => by decide⟩
      · obtain ⟨oa, ob⟩ := cr_kg hC e (by omega)
        have la := sl_l (x := xc_opA C i) (h _ (by omega))
        have lb := sl_l (x := xc_opB C i) (h _ (by omega))
        refine ⟨hin, ?_⟩
        rw [hcl]
        refine xm_sv (C := C) (vv := vv) (dd := dd) (sm := f) (aa := aa) (bb := bb) (ee := ee) (oo := oo) (ll := ll) (pp := pp) (ff := ff) (hh := hh) (kk := kk) hC (by omega) ⟨hin, xm_sv (C := C) (vv := vv) (dd := dd) (sm := f) (aa := aa) (bb := bb) (ee := ee) (oo := oo) (ll := ll) (pp := pp) (ff := ff) (hh := hh) (kk := kk) hC (by omega) ?_⟩
        refine br_c (fun hk => ?_) (fun hk3 => br_c (fun hk => ?_) (fun hk4 => ?_))
        · have ek := k3.mp hk
          have ge : ∀ s, cr_ev C s inp i = (cr_lit C s inp (xc_opA C i) && cr_lit C s inp (xc_opB C i)) := fun s => by rw [ev]; unfold cr_gate; rw [if_neg nk1, if_neg nk2, if_pos ek]; rfl
          obtain ⟨g1, g2, g3⟩ := sl_and la.1 lb.1
          have G := nx _ ⟨g1, fun s hs => by rw [ge]; exact g2 _ _ (la.2.1 s hs) (lb.2.1 s hs), fun hk => g3 (la.2.2 hk) (lb.2.2 hk)⟩
          refine br_c (fun hle => ⟨hin, nm_e (nm_r (nI_1 i) ?_)⟩) (fun hle => ⟨hin, nm_e (nm_r (nI_1 i) ?_)⟩)
          · rw [if_pos hle] at G; exact G
          · rw [if_neg hle] at G; exact G
        · have ek := k4.mp hk
          have ge : ∀ s, cr_ev C s inp i = (cr_lit C s inp (xc_opA C i) || cr_lit C s inp (xc_opB C i)) := fun s => by rw [ev]; unfold cr_gate; rw [if_neg nk1, if_neg nk2, if_neg (by omega), if_pos ek]; rfl
          obtain ⟨g1, g2, g3⟩ := sl_or la.1 lb.1
          have G := nx _ ⟨g1, fun s hs => by rw [ge]; exact g2 _ _ (la.2.1 s hs) (lb.2.1 s hs), fun hk => g3 (la.2.2 hk) (lb.2.2 hk)⟩
          refine br_c (fun hle => ⟨hin, nm_e (nm_r (nI_1 i) ?_)⟩) (fun hle => ⟨hin, nm_e (nm_r (nI_1 i) ?_)⟩)
          · rw [if_pos hle] at G; exact G
          · rw [if_neg hle] at G; exact G
        · have ek : xc_kind C i = 5 := by
            have a3 : xc_kind C i ≠ 3 := fun y => hk3 (k3.mpr y)
            have a4 : xc_kind C i ≠ 4 := fun y => hk4 (k4.mpr y)
            omega
          have ge : ∀ s, cr_ev C s inp i = (cr_lit C s inp (xc_opA C i) ^^ cr_lit C s inp (xc_opB C i)) := fun s => by rw [ev]; unfold cr_gate; rw [if_neg nk1, if_neg nk2, if_neg (by omega), if_neg (by omega), if_pos ek]; rfl
          obtain ⟨g1, g2, g3⟩ := sl_xor la.1 lb.1
          have G := nx _ ⟨g1, fun s hs => by rw [ge]; exact g2 _ _ (la.2.1 s hs) (lb.2.1 s hs), fun hk => g3 (la.2.2 hk) (lb.2.2 hk)⟩
          exact ⟨hin, nm_e (nm_r (nI_1 i) G)⟩
    · have ei : i = xc_N C := by omega
      subst ei
      exact br_t (nI_le (Nat.le_refl _) (by omega)) (K f h)
theorem xm_sim {post : SX → Prop} {kn st inp : Nat} (hC : cr_OK C) (K : ∀ f, (∀ n, n < xc_N C → sl_at C kn st inp f n) → post (mk_X C vv dd f aa bb ee oo ll pp ff hh kk)) : wpX_simulate post (mk_X C vv dd sm aa bb ee oo ll pp ff hh kk) (nI kn) (nI st) (nI inp) := by
  have hb := cr_b hC
  refine nm_e ⟨xc_N C + 1, xm_sim10 hC K (xc_N C + 1) 1 (upd sm 0 (-1)) (by omega) (by omega) (by omega) (fun j hj => ?_)⟩
  have : j = 0 := by omega
  subst this
  refine ⟨by rw [pk_us]; exact Or.inr (Or.inr rfl), fun s _ => ?_, fun _ => by rw [pk_us]; decide⟩
  rw [pk_us, cr_ev0 hC]
  exact ⟨fun y => absurd y (by decide), fun _ => rfl⟩
theorem xm_last {post : Int32 → Prop} (hC : cr_OK C) (K : post (nI (2 ^ xc_nl C - 1))) : wpX_lastState post (mk_X C vv dd sm aa bb ee oo ll pp ff hh kk) := by
  have hb := cr_b hC
  have := Nat.two_pow_pos (xc_nl C)
  show post (((1 : Int32) <<< (nI (xc_nl C) &&& 31)) - 1)
  rw [bq_pow (by omega), show nI (2 ^ xc_nl C) - 1 = nI (2 ^ xc_nl C - 1) from pk_sub (b := 1) (by omega)]
  exact K
theorem xm_su34 {post : Int32 → SX → Prop} {st inp : Nat} (hC : cr_OK C) (hf : ∀ n, n < xc_N C → sl_at C (2 ^ xc_nl C - 1) st inp sm n) (K : post (nI (cr_nxt C st inp)) (mk_X C vv dd sm aa bb ee oo ll pp ff hh kk)) : ∀ n j, xc_nl C - j < n → j ≤ xc_nl C → wX_successor_34 post (nI (xc_ci C)) (nI (xc_cl C)) (nI (xc_cg C)) (nI (xc_N C)) (nI (xc_ni C)) (nI (xc_nl C)) (nI (xc_ng C)) (nI (xc_fx C)) (nI (xc_on C)) (nI (xv_ph vv)) (nI (xv_fr vv)) (nI (xv_cc vv)) (nI (xa_ts aa)) (xa_cf aa) (xa_ch aa) (nI (xa_km aa)) (nI (xa_kv aa)) (nI (xb_bc bb)) (nI (xe_dc ee)) (nI (xo_ss oo)) (nI (xo_si oo)) (nI (xl_lc ll)) (xp_gb pp) (nI (xp_gm pp)) (nI (xp_gv pp)) (nI (xf_m ff)) (nI (xf_v ff)) (nI (xh_m hh)) (nI (xh_v hh)) (fun zi => nI (xc_kind C zi)) (fun zi => nI (xc_idx C zi)) (fun zi => nI (xc_opA C zi)) (fun zi => nI (xc_opB C zi)) (fun zi => nI (xc_inN C zi)) (fun zi => nI (xc_laN C zi)) (fun zi => nI (xc_root C zi)) (fun zi => nI (xv_cm vv zi)) (fun zi => nI (xv_cv vv zi)) (fun zi => nI (xv_ts vv zi)) (fun zi => nI (xv_ti vv zi)) dd sm (xa_val aa) (fun zi => nI (xa_tr aa zi)) (fun zi => nI (xb_bm bb zi)) (fun zi => nI (xb_bv bb zi)) (fun zi => nI (xe_dn ee zi)) (fun zi => nI (xe_dm ee zi)) (xe_df ee) (fun zi => nI (xl_lm ll zi)) (fun zi => nI (xl_lv ll zi)) (fun zi => nI (xl_le ll zi)) (xl_st ll) (fun zi => nI (xk_m kk zi)) (fun zi => nI (xk_v kk zi)) n (nI (cr_nxj C st inp j)) (nI j) := by
  have hb := cr_b hC
  intro n
  induction n with
  | zero => intro j h; omega
  | succ n ih =>
    intro j hn hj
    by_cases e : j < xc_nl C
    · have e2 : (2 : Int32) + nI j = nI (2 + j) := nI_add 2 j
      have hr := cr_ro hC (j := 2 + j) (by omega)
      have ef := sl_full (sl_l (x := xc_root C (2 + j)) (hf _ (by omega)))
      refine br_f (nI_ge e (by omega)) ⟨by rw [e2]; exact vp_in_nI (by omega) (by omega), ?_⟩
      rw [e2, nI_clamp (by omega)]
      refine xm_sv (C := C) (vv := vv) (dd := dd) (sm := sm) (aa := aa) (bb := bb) (ee := ee) (oo := oo) (ll := ll) (pp := pp) (ff := ff) (hh := hh) (kk := kk) hC hr ?_
      rw [ef]
      refine br_c (fun hz => nm_r (nI_1 j) ?_) (fun hz => nm_r (e' := nI (cr_nxj C st inp j ||| 2 ^ j)) (by rw [bq_pow (by omega), bq_or]) (nm_r (nI_1 j) ?_))
      · have hl := (sl_pos _).1.mp hz
        have := ih (j + 1) (by omega) (by omega)
        unfold cr_nxj at this
        rw [hl, if_neg (by decide)] at this
        exact this
      · have hl : cr_lit C st inp (xc_root C (2 + j)) = true := ts_nf (fun y => hz ((sl_pos _).1.mpr y))
        have := ih (j + 1) (by omega) (by omega)
        unfold cr_nxj at this
        rw [hl, if_pos rfl] at this
        exact this
    · have ej : j = xc_nl C := by omega
      subst ej
      exact br_t (nI_le (Nat.le_refl _) (by omega)) K
theorem xm_succ {post : Int32 → SX → Prop} {st inp : Nat} (hC : cr_OK C) (K1 : ∀ f, cr_leg C st inp = true → post (nI (cr_nxt C st inp)) (mk_X C vv dd f aa bb ee oo ll pp ff hh kk)) (K0 : ∀ f, cr_leg C st inp = false → post (-2) (mk_X C vv dd f aa bb ee oo ll pp ff hh kk)) : wpX_successor post (mk_X C vv dd sm aa bb ee oo ll pp ff hh kk) (nI st) (nI inp) := by
  have hb := cr_b hC
  unfold wpX_successor
  refine xm_last (C := C) (vv := vv) (dd := dd) (sm := sm) (aa := aa) (bb := bb) (ee := ee) (oo := oo) (ll := ll) (pp := pp) (ff := ff) (hh := hh) (kk := kk) hC ?_
  refine xm_sim (C := C) (vv := vv) (dd := dd) (sm := sm) (aa := aa) (bb := bb) (ee := ee) (oo := oo) (ll := ll) (pp := pp) (ff := ff) (hh := hh) (kk := kk) hC (fun f hf => ?_)
  have hr := cr_ro hC (j := 1) (by omega)
  have ef := sl_full (sl_l (x := xc_root C 1) (hf _ (by omega)))
  refine xm_sv (C := C) (vv := vv) (dd := dd) (sm := f) (aa := aa) (bb := bb) (ee := ee) (oo := oo) (ll := ll) (pp := pp) (ff := ff) (hh := hh) (kk := kk) (x := xc_root C 1) hC hr ?_
  rw [ef]
  refine br_c (fun hz => ?_) (fun hz => ?_)
  · have hl := (sl_pos _).2.mp hz
    exact ⟨xc_nl C + 1, xm_su34 hC hf (K1 f hl) (xc_nl C + 1) 0 (by omega) (by omega)⟩
  · exact K0 f (ts_nt (fun y => hz ((sl_pos _).2.mpr y)))
theorem xm_badP {post : Int32 → SX → Prop} {st inp : Nat} (hC : cr_OK C) (K1 : ∀ f, cr_bad C st inp = true → post 1 (mk_X C vv dd f aa bb ee oo ll pp ff hh kk)) (K0 : ∀ f, cr_bad C st inp = false → post 0 (mk_X C vv dd f aa bb ee oo ll pp ff hh kk)) : wpX_isBadPair post (mk_X C vv dd sm aa bb ee oo ll pp ff hh kk) (nI st) (nI inp) := by
  have hb := cr_b hC
  unfold wpX_isBadPair
  refine xm_last (C := C) (vv := vv) (dd := dd) (sm := sm) (aa := aa) (bb := bb) (ee := ee) (oo := oo) (ll := ll) (pp := pp) (ff := ff) (hh := hh) (kk := kk) hC ?_
  refine xm_sim (C := C) (vv := vv) (dd := dd) (sm := sm) (aa := aa) (bb := bb) (ee := ee) (oo := oo) (ll := ll) (pp := pp) (ff := ff) (hh := hh) (kk := kk) hC (fun f hf => ?_)
  have hr := cr_ro hC (j := 1) (by omega)
  have hr0 := cr_ro hC (j := 0) (by omega)
  have ef := sl_full (sl_l (x := xc_root C 1) (hf _ (by omega)))
  have ef0 := sl_full (sl_l (x := xc_root C 0) (hf _ (by omega)))
  refine xm_sv (C := C) (vv := vv) (dd := dd) (sm := f) (aa := aa) (bb := bb) (ee := ee) (oo := oo) (ll := ll) (pp := pp) (ff := ff) (hh := hh) (kk := kk) (x := xc_root C 1) hC hr ?_
  rw [ef]
  refine br_c (fun hz => K0 f ?_) (fun hz => xm_sv (C := C) (vv := vv) (dd := dd) (sm := f) (aa := aa) (bb := bb) (ee := ee) (oo := oo) (ll := ll) (pp := pp) (ff := ff) (hh := hh) (kk := kk) (x := xc_root C 0) hC hr0 ?_)
  · unfold cr_bad cr_leg; rw [(sl_pos _).1.mp hz]; rfl
  · have h1 : cr_leg C st inp = true := ts_nf (fun y => hz ((sl_pos _).1.mpr y))
    rw [ef0]
    refine br_c (fun hz => K0 f ?_) (fun hz => K1 f ?_)
    · unfold cr_bad; rw [h1, (sl_pos _).1.mp hz]; rfl
    · unfold cr_bad; rw [h1, ts_nf (fun y => hz ((sl_pos _).1.mpr y))]; rfl
/-- what a lifted cube serves for -/
def sv_P (C : gt_C) (bad : Bool) (m v s u : Nat) : Prop := cr_leg C s u = true ∧ (bad = true → cr_lit C s u (xc_root C 0) = true) ∧ (bad = false → ∀ j, j < xc_nl C → m.testBit j = true → (cr_nxt C s u).testBit j = v.testBit j)
theorem xm_ss41 {post : Int32 → Prop} {kn st inp m v : Nat} (hC : cr_OK C) (hf : ∀ n, n < xc_N C → sl_at C kn st inp sm n) (K0 : post 0) (K1 : (∀ s, sl_kn C kn st s → ∀ j, j < xc_nl C → m.testBit j = true → (cr_nxt C s inp).testBit j = v.testBit j) → post 1) : ∀ n j, xc_nl C - j < n → j ≤ xc_nl C → (∀ s, sl_kn C kn st s → ∀ i, i < j → m.testBit i = true → (cr_nxt C s inp).testBit i = v.testBit i) → wX_simulationServes_41 post (nI m) (nI v) (nI (xc_ci C)) (nI (xc_cl C)) (nI (xc_cg C)) (nI (xc_N C)) (nI (xc_ni C)) (nI (xc_nl C)) (nI (xc_ng C)) (nI (xc_fx C)) (nI (xc_on C)) (nI (xv_ph vv)) (nI (xv_fr vv)) (nI (xv_cc vv)) (nI (xa_ts aa)) (xa_cf aa) (xa_ch aa) (nI (xa_km aa)) (nI (xa_kv aa)) (nI (xb_bc bb)) (nI (xe_dc ee)) (nI (xo_ss oo)) (nI (xo_si oo)) (nI (xl_lc ll)) (xp_gb pp) (nI (xp_gm pp)) (nI (xp_gv pp)) (nI (xf_m ff)) (nI (xf_v ff)) (nI (xh_m hh)) (nI (xh_v hh)) (fun zi => nI (xc_kind C zi)) (fun zi => nI (xc_idx C zi)) (fun zi => nI (xc_opA C zi)) (fun zi => nI (xc_opB C zi)) (fun zi => nI (xc_inN C zi)) (fun zi => nI (xc_laN C zi)) (fun zi => nI (xc_root C zi)) (fun zi => nI (xv_cm vv zi)) (fun zi => nI (xv_cv vv zi)) (fun zi => nI (xv_ts vv zi)) (fun zi => nI (xv_ti vv zi)) dd sm (xa_val aa) (fun zi => nI (xa_tr aa zi)) (fun zi => nI (xb_bm bb zi)) (fun zi => nI (xb_bv bb zi)) (fun zi => nI (xe_dn ee zi)) (fun zi => nI (xe_dm ee zi)) (xe_df ee) (fun zi => nI (xl_lm ll zi)) (fun zi => nI (xl_lv ll zi)) (fun zi => nI (xl_le ll zi)) (xl_st ll) (fun zi => nI (xk_m kk zi)) (fun zi => nI (xk_v kk zi)) n (nI j) := by
  have hb := cr_b hC
  intro n
  induction n with
  | zero => intro j h; omega
  | succ n ih =>
    intro j hn hj h
    by_cases e : j < xc_nl C
    · refine br_f (nI_ge e (by omega)) (br_c (fun hz => nm_r (nI_1 j) ?_) (fun hz => ?_))
      · rw [bq_bit0 (by omega)] at hz
        refine ih (j + 1) (by omega) (by omega) (fun s hs i hi hm => ?_)
        by_cases ei : i = j
        · subst ei; rw [hz] at hm; exact absurd hm (by decide)
        · exact h s hs i (by omega) hm
      · have e2 : (2 : Int32) + nI j = nI (2 + j) := nI_add 2 j
        have hr := cr_ro hC (j := 2 + j) (by omega)
        have hx : xc_root C (2 + j) ^^^ (if v.testBit j = true then 0 else 1) < 2 * xc_N C := by
          split
          · rw [Nat.xor_zero]; exact hr
          · exact cr_x1lt hr
        have hl := sl_l (x := xc_root C (2 + j) ^^^ (if v.testBit j = true then 0 else 1)) (hf _ (by omega))
        refine nm_r (e' := nI (if v.testBit j = true then 0 else 1)) (by rw [bq_bit (by omega), xm_flip]) ⟨by rw [e2]; exact vp_in_nI (by omega) (by omega), ?_⟩
        rw [e2, nI_clamp (by omega), nx_xor]
        refine xm_sv (C := C) (vv := vv) (dd := dd) (sm := sm) (aa := aa) (bb := bb) (ee := ee) (oo := oo) (ll := ll) (pp := pp) (ff := ff) (hh := hh) (kk := kk) hC hx (br_c (fun hp => nm_r (nI_1 j) ?_) (fun _ => K0))
        refine ih (j + 1) (by omega) (by omega) (fun s hs i hi hm => ?_)
        by_cases ei : i = j
        · subst ei
          have := (hl.2.1 s hs).1 ((i3_p hl.1).mp hp)
          rw [cr_lit_r] at this
          rw [cr_nxt_tb C s inp e]
          exact eq_of_beq this
        · exact h s hs i (by omega) hm
    · have ej : j = xc_nl C := by omega
      subst ej
      exact br_t (nI_le (Nat.le_refl _) (by omega)) (K1 h)
theorem xm_ss {post : Int32 → Prop} {kn st inp m v : Nat} {bad : Bool} {bi : Int32} (hC : cr_OK C) (hbi : bi = 0 ↔ bad = false) (hf : ∀ n, n < xc_N C → sl_at C kn st inp sm n) (K0 : post 0) (K1 : (∀ s, sl_kn C kn st s → sv_P C bad m v s inp) → post 1) : wpX_simulationServes post (mk_X C vv dd sm aa bb ee oo ll pp ff hh kk) bi (nI m) (nI v) := by
  have hb := cr_b hC
  have hr := cr_ro hC (j := 1) (by omega)
  have hr0 := cr_ro hC (j := 0) (by omega)
  have l1 := sl_l (x := xc_root C 1) (hf _ (by omega))
  have l0 := sl_l (x := xc_root C 0) (hf _ (by omega))
  refine xm_sv (C := C) (vv := vv) (dd := dd) (sm := sm) (aa := aa) (bb := bb) (ee := ee) (oo := oo) (ll := ll) (pp := pp) (ff := ff) (hh := hh) (kk := kk) (x := xc_root C 1) hC hr (br_c (fun hp => ?_) (fun _ => K0))
  have h1 : ∀ s, sl_kn C kn st s → cr_leg C s inp = true := fun s hs => (l1.2.1 s hs).1 ((i3_p l1.1).mp hp)
  refine br_c (fun hz => ?_) (fun hz => ?_)
  · have hbf := hbi.mp hz
    refine ⟨xc_nl C + 1, xm_ss41 hC hf K0 (fun hall => K1 (fun s hs => ⟨h1 s hs, fun y => absurd (y.symm.trans hbf) (by decide), fun _ => hall s hs⟩)) (xc_nl C + 1) 0 (by omega) (by omega) (fun _ _ i hi => absurd hi (by omega))⟩
  · have hbt : bad = true := ts_nf (fun y => hz (hbi.mpr y))
    refine xm_sv (C := C) (vv := vv) (dd := dd) (sm := sm) (aa := aa) (bb := bb) (ee := ee) (oo := oo) (ll := ll) (pp := pp) (ff := ff) (hh := hh) (kk := kk) (x := xc_root C 0) hC hr0 (br_c (fun _ => K0) (fun hp0 => K1 (fun s hs => ⟨h1 s hs, fun _ => ?_, fun y => absurd (y.symm.trans hbt) (by decide)⟩)))
    exact (l0.2.1 s hs).1 ((i3_p l0.1).mp (Int32.not_le.mp hp0))
theorem xm_lift9 {post : SX → Prop} {m v : Nat} {bad : Bool} {bi : Int32} (hC : cr_OK C) (hbi : bi = 0 ↔ bad = false) (hss : xo_ss oo < 2 ^ xc_nl C) (K : ∀ f g, cu_ok C (xf_m g) (xf_v g) → cu_in (xf_m g) (xf_v g) (xo_ss oo) → (∀ s, cu_in (xf_m g) (xf_v g) s → s < 2 ^ xc_nl C → sv_P C bad m v s (xo_si oo)) → post (mk_X C vv dd f aa bb ee oo ll pp g hh kk)) : ∀ n j k f, xc_nl C - j < n → j ≤ xc_nl C → k < 2 ^ xc_nl C → (∀ s, sl_kn C k (xo_ss oo) s → s < 2 ^ xc_nl C → sv_P C bad m v s (xo_si oo)) → wX_lift_9 post bi (nI m) (nI v) n (nI k) (nI j) (nI (xc_ci C)) (nI (xc_cl C)) (nI (xc_cg C)) (nI (xc_N C)) (nI (xc_ni C)) (nI (xc_nl C)) (nI (xc_ng C)) (nI (xc_fx C)) (nI (xc_on C)) (nI (xv_ph vv)) (nI (xv_fr vv)) (nI (xv_cc vv)) (nI (xa_ts aa)) (xa_cf aa) (xa_ch aa) (nI (xa_km aa)) (nI (xa_kv aa)) (nI (xb_bc bb)) (nI (xe_dc ee)) (nI (xo_ss oo)) (nI (xo_si oo)) (nI (xl_lc ll)) (xp_gb pp) (nI (xp_gm pp)) (nI (xp_gv pp)) (nI (xf_m ff)) (nI (xf_v ff)) (nI (xh_m hh)) (nI (xh_v hh)) (fun zi => nI (xc_kind C zi)) (fun zi => nI (xc_idx C zi)) (fun zi => nI (xc_opA C zi)) (fun zi => nI (xc_opB C zi)) (fun zi => nI (xc_inN C zi)) (fun zi => nI (xc_laN C zi)) (fun zi => nI (xc_root C zi)) (fun zi => nI (xv_cm vv zi)) (fun zi => nI (xv_cv vv zi)) (fun zi => nI (xv_ts vv zi)) (fun zi => nI (xv_ti vv zi)) dd f (xa_val aa) (fun zi => nI (xa_tr aa zi)) (fun zi => nI (xb_bm bb zi)) (fun zi => nI (xb_bv bb zi)) (fun zi => nI (xe_dn ee zi)) (fun zi => nI (xe_dm ee zi)) (xe_df ee) (fun zi => nI (xl_lm ll zi)) (fun zi => nI (xl_lv ll zi)) (fun zi => nI (xl_le ll zi)) (xl_st ll) (fun zi => nI (xk_m kk zi)) (fun zi => nI (xk_v kk zi)) := by
  have hb := cr_b hC
  intro n
  induction n with
  | zero => intro j k f h; omega
  | succ n ih =>
    intro j k f hn hj hk h
    by_cases e : j < xc_nl C
    · refine br_f (nI_ge e (by omega)) (nm_r (e' := nI (bq_an k (2 ^ j))) (by rw [bq_pow (by omega), bq_anI]) ?_)
      refine xm_sim (C := C) (vv := vv) (dd := dd) (sm := f) (aa := aa) (bb := bb) (ee := ee) (oo := oo) (ll := ll) (pp := pp) (ff := ff) (hh := hh) (kk := kk) hC (fun f' hf => ?_)
      refine xm_ss (C := C) (vv := vv) (dd := dd) (sm := f') (aa := aa) (bb := bb) (ee := ee) (oo := oo) (ll := ll) (pp := pp) (ff := ff) (hh := hh) (kk := kk) hC hbi hf ?_ (fun hall => ?_)
      · exact br_t rfl (nm_r (nI_1 j) (ih (j + 1) k f' (by omega) (by omega) hk h))
      · exact br_f (by decide) (nm_r (nI_1 j) (ih (j + 1) _ f' (by omega) (by omega) (Nat.lt_of_le_of_lt (bq_le _ _) hk) (fun s hs _ => hall s hs)))
    · have ej : j = xc_nl C := by omega
      subst ej
      refine br_t (nI_le (Nat.le_refl _) (by omega)) (nm_r (nx_and _ _) ?_)
      have hvv : (xo_ss oo &&& k) &&& k = xo_ss oo &&& k := by rw [Nat.and_assoc, Nat.and_self]
      refine K f (k, xo_ss oo &&& k) ⟨hk, hvv⟩ rfl (fun s hs hlt => h s (fun i hi hki => ?_) hlt)
      have := (cu_iff (s := s) hvv).mp hs i hki
      rw [this, Nat.testBit_and, hki, Bool.and_true]
theorem xm_lift {post : SX → Prop} {m v : Nat} {bad : Bool} {bi : Int32} (hC : cr_OK C) (hbi : bi = 0 ↔ bad = false) (hss : xo_ss oo < 2 ^ xc_nl C) (h0 : sv_P C bad m v (xo_ss oo) (xo_si oo)) (K : ∀ f g, cu_ok C (xf_m g) (xf_v g) → cu_in (xf_m g) (xf_v g) (xo_ss oo) → (∀ s, cu_in (xf_m g) (xf_v g) s → s < 2 ^ xc_nl C → sv_P C bad m v s (xo_si oo)) → post (mk_X C vv dd f aa bb ee oo ll pp g hh kk)) : wpX_lift post (mk_X C vv dd sm aa bb ee oo ll pp ff hh kk) bi (nI m) (nI v) := by
  have := Nat.two_pow_pos (xc_nl C)
  unfold wpX_lift
  refine xm_last (C := C) (vv := vv) (dd := dd) (sm := sm) (aa := aa) (bb := bb) (ee := ee) (oo := oo) (ll := ll) (pp := pp) (ff := ff) (hh := hh) (kk := kk) hC ?_
  refine ⟨xc_nl C + 1, xm_lift9 hC hbi hss K (xc_nl C + 1) 0 (2 ^ xc_nl C - 1) sm (by omega) (by omega) (by omega) (fun s hs hlt => ?_)⟩
  have : s = xo_ss oo := bq_ext hlt hss (fun i hi => hs i hi (by rw [bq_ones, decide_eq_true hi]))
  rw [this]; exact h0
end
end
section
/-! walks: beginQuery, requireState, requireStepInto, requireBadPair, blockCube, requireFrame, hasPredecessor, findGoal -/
def qs_I (C : gt_C) (a : gt_A) (P : Nat → Nat → Prop) : Prop := sa_W C a ∧ xa_val a 0 = -1 ∧ ∀ s u, s < 2 ^ xc_nl C → u < 2 ^ xc_ni C → (sa_S C a s u ↔ P s u)
def qb_I (C : gt_C) (b : gt_B) (n : Nat) (Q : Nat → Prop) : Prop := (∀ i, i < xb_bc b → cu_ok C (xb_bm b i) (xb_bv b i)) ∧ xb_bc b ≤ n ∧ ∀ s, s < 2 ^ xc_nl C → (sb_ok b s ↔ Q s)
def fr_F (l : gt_L) (k s : Nat) : Prop := ∀ q, q < xl_lc l → k ≤ xl_le l q → ¬ cu_in (xl_lm l q) (xl_lv l q) s
def fr_A (C : gt_C) (l : gt_L) (k s : Nat) : Prop := (k = 0 → cr_ini C s) ∧ (0 < k → fr_F l k s)
def fr_T (C : gt_C) (l : gt_L) : Prop := xl_lc l ≤ 767 ∧ ∀ q, q < xl_lc l → cu_ok C (xl_lm l q) (xl_lv l q) ∧ 1 ≤ xl_le l q ∧ xl_le l q ≤ 1000
theorem qs_M {C : gt_C} {a a' : gt_A} {P : Nat → Nat → Prop} {x : Nat} (hC : cr_OK C) (hx : x < 2 * xc_N C) (h : qs_I C a P) (hM : sa_MT C x a a') : qs_I C a' (fun s u => P s u ∧ cr_lit C s u x = true) := by
  obtain ⟨h1, h2, h3⟩ := h
  refine ⟨sa_M_W hC hx h1 hM, ?_, fun s u hs hu => ?_⟩
  · rw [(sa_M_E h1 hM).2.2.1 0 (by rw [h2]; decide)]; exact h2
  · rw [sa_M_S hx h1 hM, h3 s u hs hu]
theorem qs_c {C : gt_C} {a : gt_A} {P Q : Nat → Nat → Prop} (h : qs_I C a P) (k : ∀ s u, s < 2 ^ xc_nl C → u < 2 ^ xc_ni C → (P s u ↔ Q s u)) : qs_I C a Q :=
  ⟨h.1, h.2.1, fun s u hs hu => (h.2.2 s u hs hu).trans (k s u hs hu)⟩
theorem bt_lt {p : Nat → Prop} {j : Nat} : (∀ i, i < j + 1 → p i) ↔ ((∀ i, i < j → p i) ∧ p j) := by
  constructor
  · intro h; exact ⟨fun i hi => h i (by omega), h j (by omega)⟩
  · intro ⟨h, k⟩ i hi
    by_cases e : i = j
    · rw [e]; exact k
    · exact h i (by omega)
theorem cu_ini {C : gt_C} (hC : cr_OK C) {s : Nat} (hs : s < 2 ^ xc_nl C) : cr_ini C s ↔ ∀ j, j < xc_nl C → (xc_fx C).testBit j = true → s.testBit j = (xc_on C).testBit j := by
  unfold cr_ini
  constructor
  · intro ⟨_, h⟩ j hj hf
    have := (bq_z.mp h) j
    rw [Nat.testBit_and, Nat.testBit_xor, hf, Bool.and_true] at this
    cases a : s.testBit j <;> cases b : (xc_on C).testBit j <;> rw [a, b] at this <;> first | rfl | exact absurd this (by decide)
  · intro h
    refine ⟨hs, bq_z.mpr (fun j => ?_)⟩
    rw [Nat.testBit_and, Nat.testBit_xor]
    cases hf : (xc_fx C).testBit j
    · rw [Bool.and_false]
    · rw [h j (bq_tlt (cr_fo hC).1 hf) hf, Bool.xor_self, Bool.false_and]
theorem cu_inn {C : gt_C} {m v s : Nat} (h : cu_ok C m v) : cu_in m v s ↔ ∀ j, j < xc_nl C → m.testBit j = true → s.testBit j = v.testBit j := by
  rw [cu_iff h.2]
  exact ⟨fun k j _ hm => k j hm, fun k j hm => k j (bq_tlt h.1 hm) hm⟩
section
variable {C : gt_C} {vv : gt_V} {dd : (Nat → Int64)} {sm : (Nat → Int32)} {aa : gt_A} {bb : gt_B} {ee : gt_E} {oo : gt_O} {ll : gt_L} {pp : gt_P} {ff : gt_F} {hh : gt_H} {kk : gt_K}
theorem xm_bq2 {post : SX → Prop} (hC : cr_OK C) (K : ∀ a', qs_I C a' (fun _ _ => True) → post (mk_X C vv dd sm a' (((0, xb_bm bb, xb_bv bb) : gt_B)) (((0, xe_dn ee, xe_dm ee, xe_df ee) : gt_E)) oo ll pp ff hh kk)) : ∀ n j f, xc_N C - j < n → j ≤ xc_N C → (∀ i, i < j → f i = 0) → wX_beginQuery_2 post (nI (xc_ci C)) (nI (xc_cl C)) (nI (xc_cg C)) (nI (xc_N C)) (nI (xc_ni C)) (nI (xc_nl C)) (nI (xc_ng C)) (nI (xc_fx C)) (nI (xc_on C)) (nI (xv_ph vv)) (nI (xv_fr vv)) (nI (xv_cc vv)) (nI (xa_ts aa)) (xa_cf aa) (xa_ch aa) (nI (xa_km aa)) (nI (xa_kv aa)) (nI (xb_bc bb)) (nI (xe_dc ee)) (nI (xo_ss oo)) (nI (xo_si oo)) (nI (xl_lc ll)) (xp_gb pp) (nI (xp_gm pp)) (nI (xp_gv pp)) (nI (xf_m ff)) (nI (xf_v ff)) (nI (xh_m hh)) (nI (xh_v hh)) n (nI j) (fun zi => nI (xc_kind C zi)) (fun zi => nI (xc_idx C zi)) (fun zi => nI (xc_opA C zi)) (fun zi => nI (xc_opB C zi)) (fun zi => nI (xc_inN C zi)) (fun zi => nI (xc_laN C zi)) (fun zi => nI (xc_root C zi)) (fun zi => nI (xv_cm vv zi)) (fun zi => nI (xv_cv vv zi)) (fun zi => nI (xv_ts vv zi)) (fun zi => nI (xv_ti vv zi)) dd sm (xa_val (((xa_ts aa, xa_cf aa, xa_ch aa, xa_km aa, xa_kv aa, f, xa_tr aa) : gt_A))) (fun zi => nI (xa_tr (((xa_ts aa, xa_cf aa, xa_ch aa, xa_km aa, xa_kv aa, f, xa_tr aa) : gt_A)) zi)) (fun zi => nI (xb_bm bb zi)) (fun zi => nI (xb_bv bb zi)) (fun zi => nI (xe_dn ee zi)) (fun zi => nI (xe_dm ee zi)) (xe_df ee) (fun zi => nI (xl_lm ll zi)) (fun zi => nI (xl_lv ll zi)) (fun zi => nI (xl_le ll zi)) (xl_st ll) (fun zi => nI (xk_m kk zi)) (fun zi => nI (xk_v kk zi)) := by
  have hb := cr_b hC
  intro n
  induction n with
  | zero => intro j f h; omega
  | succ n ih =>
    intro j f hn hj hf
    by_cases e : j < xc_N C
    · refine br_f (nI_ge e (by omega)) ⟨vp_in_nI (by omega) (by omega), nm_r (up_R (by omega)) (nm_r (nI_1 j) (ih (j + 1) (upd f j 0) (by omega) (by omega) (fun i hi => ?_)))⟩
      by_cases ei : i = j
      · subst ei; exact pk_us
      · rw [pk_un ei]; exact hf i (by omega)
    · have ej : j = xc_N C := by omega
      subst ej
      have hW : sa_W C ((0, 0, xa_ch aa, 0, 0, f, xa_tr aa) : gt_A) := by
        refine ⟨⟨Nat.zero_le _, fun i hi => absurd hi (Nat.not_lt_zero _), fun i j _ hj => absurd hj (Nat.not_lt_zero _)⟩, fun q hq => Or.inl (hf q hq), Nat.two_pow_pos _, Nat.two_pow_pos _, fun q hq => ?_⟩
        have hN := (cr_la hC hq).1
        show Nat.testBit 0 q = !decide (f (xc_laN C q) = 0) ∧ Nat.testBit 0 q = decide (f (xc_laN C q) = 1)
        rw [hf _ hN, Nat.zero_testBit]
        exact ⟨by decide, by decide⟩
      refine br_t (nI_le (Nat.le_refl _) (by omega)) ?_
      refine xm_makeTrue (x := 1) (aa := ((0, 0, xa_ch aa, 0, 0, f, xa_tr aa) : gt_A)) (bb := ((0, xb_bm bb, xb_bv bb) : gt_B)) (ee := ((0, xe_dn ee, xe_dm ee, xe_df ee) : gt_E)) hC (by omega) hW (fun a' hM => ?_)
      refine K a' ⟨sa_M_W hC (by omega) hW hM, ?_, fun s u _ _ => ?_⟩
      · rcases hM with ⟨hv, _⟩ | ⟨_, hv, _⟩ | ⟨hv, rfl⟩
        · exact absurd ((hf 0 (by omega)).symm.trans hv) (by decide)
        · exact absurd (hf 0 (by omega)) hv
        · show upd f 0 (sa_w 1) 0 = -1
          rw [pk_us]; rfl
      · rw [sa_M_S (by omega) hW hM]
        refine ⟨fun _ => trivial, fun _ => ⟨⟨rfl, fun i hi => absurd hi (Nat.not_lt_zero _)⟩, ?_⟩⟩
        show (cr_ev C s u 0 ^^ true) = true
        rw [cr_ev0 hC]; rfl
theorem xm_bq {post : SX → Prop} (hC : cr_OK C) (K : ∀ a', qs_I C a' (fun _ _ => True) → post (mk_X C vv dd sm a' (((0, xb_bm bb, xb_bv bb) : gt_B)) (((0, xe_dn ee, xe_dm ee, xe_df ee) : gt_E)) oo ll pp ff hh kk)) : wpX_beginQuery post (mk_X C vv dd sm aa bb ee oo ll pp ff hh kk) :=
  ⟨xc_N C + 1, xm_bq2 hC K (xc_N C + 1) 0 (xa_val aa) (by omega) (by omega) (fun i hi => absurd hi (by omega))⟩
theorem xm_reqS {post : SX → Prop} {m v : Nat} {P : Nat → Nat → Prop} (hC : cr_OK C) (hI : qs_I C aa P) (K : ∀ a', qs_I C a' (fun s u => P s u ∧ ∀ j, j < xc_nl C → m.testBit j = true → s.testBit j = v.testBit j) → post (mk_X C vv dd sm a' bb ee oo ll pp ff hh kk)) : wpX_requireState post (mk_X C vv dd sm aa bb ee oo ll pp ff hh kk) (nI m) (nI v) := by
  have hb := cr_b hC
  refine ⟨xc_nl C + 1, xm_rS (vb := fun j => v.testBit j) hC (fun j hj => bq_bit (by omega)) (fun j a => qs_I C a (fun s u => P s u ∧ ∀ i, i < j → m.testBit i = true → s.testBit i = v.testBit i)) (fun _ _ h => h.1) (fun j a hj h hm => ?_) (fun j a a' hj h hm hM => ?_) K (xc_nl C + 1) 0 aa (by omega) (by omega) (qs_c hI (fun s u _ _ => ⟨fun z => ⟨z, fun i hi => absurd hi (by omega)⟩, fun z => z.1⟩))⟩
  · refine qs_c h (fun s u _ _ => ?_)
    rw [bt_lt]
    exact ⟨fun z => ⟨z.1, z.2, fun y => absurd (y.symm.trans hm) (by decide)⟩, fun z => ⟨z.1, z.2.1⟩⟩
  · refine qs_c (qs_M hC ?_ h hM) (fun s u _ _ => ?_)
    · have := (cr_la hC hj).1
      split <;> omega
    · rw [bt_lt, cr_lit_b, cr_ev_la hC hj, beq_iff_eq]
      exact ⟨fun z => ⟨z.1.1, z.1.2, fun _ => z.2⟩, fun z => ⟨⟨z.1, z.2.1⟩, z.2.2 hm⟩⟩
theorem xm_reqI {post : SX → Prop} {m v : Nat} {P : Nat → Nat → Prop} (hC : cr_OK C) (hI : qs_I C aa P) (K : ∀ a', qs_I C a' (fun s u => (P s u ∧ cr_leg C s u = true) ∧ ∀ j, j < xc_nl C → m.testBit j = true → (cr_nxt C s u).testBit j = v.testBit j) → post (mk_X C vv dd sm a' bb ee oo ll pp ff hh kk)) : wpX_requireStepInto post (mk_X C vv dd sm aa bb ee oo ll pp ff hh kk) (nI m) (nI v) := by
  have hb := cr_b hC
  have hr := cr_ro hC (j := 1) (by omega)
  refine xm_makeTrue (x := xc_root C 1) hC hr hI.1 (fun a1 hM1 => ?_)
  have hI1 := qs_M hC hr hI hM1
  refine ⟨xc_nl C + 1, xm_rI (vb := fun j => v.testBit j) hC (fun j hj => bq_bit (by omega)) (fun j a => qs_I C a (fun s u => (P s u ∧ cr_leg C s u = true) ∧ ∀ i, i < j → m.testBit i = true → (cr_nxt C s u).testBit i = v.testBit i)) (fun _ _ h => h.1) (fun j a hj h hm => ?_) (fun j a a' hj h hm hM => ?_) K (xc_nl C + 1) 0 a1 (by omega) (by omega) (qs_c hI1 (fun s u _ _ => ⟨fun z => ⟨z, fun i hi => absurd hi (by omega)⟩, fun z => z.1⟩))⟩
  · refine qs_c h (fun s u _ _ => ?_)
    rw [bt_lt]
    exact ⟨fun z => ⟨z.1, z.2, fun y => absurd (y.symm.trans hm) (by decide)⟩, fun z => ⟨z.1, z.2.1⟩⟩
  · refine qs_c (qs_M hC ?_ h hM) (fun s u _ _ => ?_)
    · have := cr_ro hC (j := 2 + j) (by omega)
      split
      · rw [Nat.xor_zero]; exact this
      · exact cr_x1lt this
    · rw [bt_lt, cr_lit_r, ← cr_nxt_tb C s u hj, beq_iff_eq]
      exact ⟨fun z => ⟨z.1.1, z.1.2, fun _ => z.2⟩, fun z => ⟨⟨z.1, z.2.1⟩, z.2.2 hm⟩⟩
theorem xm_reqB {post : SX → Prop} {P : Nat → Nat → Prop} (hC : cr_OK C) (hI : qs_I C aa P) (K : ∀ a', qs_I C a' (fun s u => P s u ∧ cr_bad C s u = true) → post (mk_X C vv dd sm a' bb ee oo ll pp ff hh kk)) : wpX_requireBadPair post (mk_X C vv dd sm aa bb ee oo ll pp ff hh kk) := by
  have hr := cr_ro hC (j := 1) (by omega)
  have hr0 := cr_ro hC (j := 0) (by omega)
  refine xm_makeTrue (x := xc_root C 1) hC hr hI.1 (fun a1 hM1 => ?_)
  have hI1 := qs_M hC hr hI hM1
  refine xm_makeTrue (x := xc_root C 0) hC hr0 hI1.1 (fun a2 hM2 => ?_)
  refine K a2 (qs_c (qs_M hC hr0 hI1 hM2) (fun s u _ _ => ?_))
  unfold cr_bad cr_leg
  rw [Bool.and_eq_true]
  exact ⟨fun z => ⟨z.1.1, z.1.2, z.2⟩, fun z => ⟨⟨z.1, z.2.1⟩, z.2.2⟩⟩
theorem xm_blk {post : SX → Prop} {m v k : Nat} {Q : Nat → Prop} (hm : cu_ok C m v) (hI : qb_I C bb k Q) (hk : k < 768) (K : ∀ b', qb_I C b' (k + 1) (fun s => Q s ∧ ¬ cu_in m v s) → post (mk_X C vv dd sm aa b' ee oo ll pp ff hh kk)) : wpX_blockCube post (mk_X C vv dd sm aa bb ee oo ll pp ff hh kk) (nI m) (nI v) := by
  obtain ⟨h1, h2, h3⟩ := hI
  have hin : vp_in (nI (xb_bc bb)) 768 := vp_in_nI (by omega) (by omega)
  refine br_f (nI_ge (b := 768) (by omega) (by omega)) ⟨hin, nm_r (up_I (by omega)) ⟨hin, nm_r (up_I (by omega)) (nm_r (nI_1 _) ?_)⟩⟩
  refine K (((xb_bc bb + 1, up_n (xb_bm bb) (xb_bc bb) m, up_n (xb_bv bb) (xb_bc bb) v) : gt_B)) ⟨fun i hi => ?_, by show xb_bc bb + 1 ≤ k + 1; omega, fun s hs => ?_⟩
  · have hi' : i < xb_bc bb + 1 := hi
    show cu_ok C (up_n (xb_bm bb) (xb_bc bb) m i) (up_n (xb_bv bb) (xb_bc bb) v i)
    by_cases e : i = xb_bc bb
    · subst e; rw [up_s, up_s]; exact hm
    · rw [up_o e, up_o e]; exact h1 i (by omega)
  · show sb_ok _ s ↔ (Q s ∧ ¬ cu_in m v s)
    rw [← h3 s hs]
    show (∀ i, i < xb_bc bb + 1 → ¬ cu_in (up_n (xb_bm bb) (xb_bc bb) m i) (up_n (xb_bv bb) (xb_bc bb) v i) s) ↔ _
    rw [bt_lt, up_s, up_s]
    unfold sb_ok
    refine and_congr (forall_congr' (fun i => ?_)) Iff.rfl
    constructor
    · intro z hi; have := z hi; rw [up_o (by omega), up_o (by omega)] at this; exact this
    · intro z hi; rw [up_o (by omega), up_o (by omega)]; exact z hi
theorem xm_rF19 {post : SX → Prop} {k : Nat} (hT : fr_T C ll) (hk : k < 2 ^ 31) (K : ∀ b', qb_I C b' (xl_lc ll) (fun s => fr_F ll k s) → post (mk_X C vv dd sm aa b' ee oo ll pp ff hh kk)) : ∀ n q b, xl_lc ll - q < n → q ≤ xl_lc ll → qb_I C b q (fun s => ∀ i, i < q → k ≤ xl_le ll i → ¬ cu_in (xl_lm ll i) (xl_lv ll i) s) → wX_requireFrame_19 post (nI k) n (nI q) (nI (xc_ci C)) (nI (xc_cl C)) (nI (xc_cg C)) (nI (xc_N C)) (nI (xc_ni C)) (nI (xc_nl C)) (nI (xc_ng C)) (nI (xc_fx C)) (nI (xc_on C)) (nI (xv_ph vv)) (nI (xv_fr vv)) (nI (xv_cc vv)) (nI (xa_ts aa)) (xa_cf aa) (xa_ch aa) (nI (xa_km aa)) (nI (xa_kv aa)) (nI (xb_bc b)) (nI (xe_dc ee)) (nI (xo_ss oo)) (nI (xo_si oo)) (nI (xl_lc ll)) (xp_gb pp) (nI (xp_gm pp)) (nI (xp_gv pp)) (nI (xf_m ff)) (nI (xf_v ff)) (nI (xh_m hh)) (nI (xh_v hh)) (fun zi => nI (xc_kind C zi)) (fun zi => nI (xc_idx C zi)) (fun zi => nI (xc_opA C zi)) (fun zi => nI (xc_opB C zi)) (fun zi => nI (xc_inN C zi)) (fun zi => nI (xc_laN C zi)) (fun zi => nI (xc_root C zi)) (fun zi => nI (xv_cm vv zi)) (fun zi => nI (xv_cv vv zi)) (fun zi => nI (xv_ts vv zi)) (fun zi => nI (xv_ti vv zi)) dd sm (xa_val aa) (fun zi => nI (xa_tr aa zi)) (fun zi => nI (xb_bm b zi)) (fun zi => nI (xb_bv b zi)) (fun zi => nI (xe_dn ee zi)) (fun zi => nI (xe_dm ee zi)) (xe_df ee) (fun zi => nI (xl_lm ll zi)) (fun zi => nI (xl_lv ll zi)) (fun zi => nI (xl_le ll zi)) (xl_st ll) (fun zi => nI (xk_m kk zi)) (fun zi => nI (xk_v kk zi)) := by
  obtain ⟨hl, hT2⟩ := hT
  intro n
  induction n with
  | zero => intro q b h; omega
  | succ n ih =>
    intro q b hn hq hI
    by_cases e : q < xl_lc ll
    · have hin : vp_in (nI q) 768 := vp_in_nI (by omega) (by omega)
      obtain ⟨t1, t2, t3⟩ := hT2 q e
      refine br_f (nI_ge e (by omega)) ⟨hin, ?_⟩
      rw [nI_clamp (by omega)]
      refine pk_lt (xl_le ll q) k (fun hlt => nm_r (nI_1 q) (ih (q + 1) b (by omega) (by omega) ?_)) (fun hge => ⟨hin, hin, ?_⟩)
      · obtain ⟨i1, i2, i3⟩ := hI
        refine ⟨i1, by omega, fun s hs => (i3 s hs).trans ?_⟩
        dsimp only
        rw [bt_lt]
        exact ⟨fun z => ⟨z, fun y => absurd y (by omega)⟩, fun z => z.1⟩
      · refine xm_blk (bb := b) t1 hI (by omega) (fun b' hI' => nm_r (nI_1 q) (ih (q + 1) b' (by omega) (by omega) ?_))
        obtain ⟨i1, i2, i3⟩ := hI'
        refine ⟨i1, i2, fun s hs => (i3 s hs).trans ?_⟩
        dsimp only
        rw [bt_lt]
        exact ⟨fun z => ⟨z.1, fun _ => z.2⟩, fun z => ⟨z.1, z.2 hge⟩⟩
    · have eq : q = xl_lc ll := by omega
      subst eq
      exact br_t (nI_le (Nat.le_refl _) (by omega)) (K b hI)
theorem xm_rF {post : SX → Prop} {k : Nat} {P : Nat → Nat → Prop} (hC : cr_OK C) (hT : fr_T C ll) (hk : k < 2 ^ 31) (hI : qs_I C aa P) (hB : xb_bc bb = 0) (K : ∀ a' b', (∀ i, i < xb_bc b' → cu_ok C (xb_bm b' i) (xb_bv b' i)) → xb_bc b' ≤ xl_lc ll → (∃ P1 Q1, qs_I C a' P1 ∧ qb_I C b' (xl_lc ll) Q1 ∧ ∀ s u, s < 2 ^ xc_nl C → u < 2 ^ xc_ni C → ((P1 s u ∧ Q1 s) ↔ (P s u ∧ fr_A C ll k s))) → post (mk_X C vv dd sm a' b' ee oo ll pp ff hh kk)) : wpX_requireFrame post (mk_X C vv dd sm aa bb ee oo ll pp ff hh kk) (nI k) := by
  have h0 : ∀ s, sb_ok bb s := fun s i hi => absurd hi (by omega)
  refine br_c (fun hp => ?_) (fun hp => ?_)
  · have hk0 : 0 < k := by
      rcases Nat.eq_zero_or_pos k with z | z
      · subst z; exact absurd hp (by decide)
      · exact z
    refine ⟨xl_lc ll + 1, xm_rF19 hT hk (fun b' hb' => ?_) (xl_lc ll + 1) 0 bb (by omega) (by omega) ⟨fun i hi => absurd hi (by omega), by omega, fun s _ => ⟨fun _ i hi => absurd hi (by omega), fun _ => h0 s⟩⟩⟩
    exact K aa b' hb'.1 hb'.2.1 ⟨P, _, hI, hb', fun s u _ _ => ⟨fun z => ⟨z.1, fun y => absurd y (by omega), fun _ => z.2⟩, fun z => ⟨z.1, z.2.2 hk0⟩⟩⟩
  · have hk0 : k = 0 := by
      rcases Nat.eq_zero_or_pos k with z | z
      · exact z
      · exact absurd (nI_lt (a := 0) z hk) hp
    subst hk0
    refine xm_reqS hC hI (fun a' hI' => ?_)
    refine K a' bb (fun i hi => absurd hi (by omega)) (by omega) ⟨_, fun _ => True, hI', ⟨fun i hi => absurd hi (by omega), by omega, fun s _ => ⟨fun _ => trivial, fun _ => h0 s⟩⟩, fun s u hs _ => ?_⟩
    unfold fr_A
    rw [cu_ini hC hs]
    exact ⟨fun z => ⟨z.1.1, fun _ => z.1.2, fun y => absurd y (by omega)⟩, fun z => ⟨⟨z.1, z.2.1 rfl⟩, trivial⟩⟩
theorem xm_hp {post : Int32 → SX → Prop} {m v k : Nat} (hC : cr_OK C) (hT : fr_T C ll) (hm : cu_ok C m v) (hk : k < 2 ^ 31)
    (K1 : ∀ a b e o, xo_ss o < 2 ^ xc_nl C → xo_si o < 2 ^ xc_ni C → fr_A C ll k (xo_ss o) → ¬ cu_in m v (xo_ss o) → cr_leg C (xo_ss o) (xo_si o) = true → cu_in m v (cr_nxt C (xo_ss o) (xo_si o)) → post 1 (mk_X C vv dd sm a b e o ll pp ff hh kk))
    (K0 : ∀ a b e o, (∀ s u, s < 2 ^ xc_nl C → u < 2 ^ xc_ni C → fr_A C ll k s → ¬ cu_in m v s → cr_leg C s u = true → ¬ cu_in m v (cr_nxt C s u)) → post 0 (mk_X C vv dd sm a b e o ll pp ff hh kk)) : wpX_hasPredecessor post (mk_X C vv dd sm aa bb ee oo ll pp ff hh kk) (nI m) (nI v) (nI k) := by
  have hl := hT.1
  refine xm_bq hC (fun a1 hI1 => ?_)
  refine xm_rF (bb := ((0, xb_bm bb, xb_bv bb) : gt_B)) (ee := ((0, xe_dn ee, xe_dm ee, xe_df ee) : gt_E)) hC hT hk hI1 rfl (fun a2 b2 hB2 hb2 hx => ?_)
  obtain ⟨P1, Q1, hI2, hQ2, hPQ⟩ := hx
  refine xm_blk (aa := a2) (bb := b2) (ee := ((0, xe_dn ee, xe_dm ee, xe_df ee) : gt_E)) hm hQ2 (by omega) (fun b3 hQ3 => ?_)
  refine xm_reqI (aa := a2) (bb := b3) (ee := ((0, xe_dn ee, xe_dm ee, xe_df ee) : gt_E)) hC hI2 (fun a3 hI3 => ?_)
  have key : ∀ s u, s < 2 ^ xc_nl C → u < 2 ^ xc_ni C → ((sb_ok b3 s ∧ sa_S C a3 s u) ↔ (fr_A C ll k s ∧ ¬ cu_in m v s ∧ cr_leg C s u = true ∧ cu_in m v (cr_nxt C s u))) := by
    intro s u hs hu
    have p := hPQ s u hs hu
    rw [hQ3.2.2 s hs, hI3.2.2 s u hs hu, cu_inn hm (s := cr_nxt C s u)]
    constructor
    · intro ⟨⟨q1, q2⟩, ⟨r1, r2⟩, r3⟩
      exact ⟨(p.mp ⟨r1, q1⟩).2, q2, r2, r3⟩
    · intro ⟨q1, q2, q3, q4⟩
      have := p.mpr ⟨trivial, q1⟩
      exact ⟨⟨this.2, q2⟩, ⟨this.1, q3⟩, q4⟩
  refine xm_solve (aa := a3) (bb := b3) (ee := ((0, xe_dn ee, xe_dm ee, xe_df ee) : gt_E)) hC hQ3.1 (by have := hQ3.2.1; omega) hI3.1 hI3.2.1 rfl (fun a4 e4 o4 s1 s2 s3 s4 s5 => ?_) (fun a4 e4 o4 hno => ?_)
  · obtain ⟨k1, k2, k3, k4⟩ := (key _ _ s1 s2).mp ⟨s3, s4⟩
    exact ⟨rfl, K1 a4 b3 e4 o4 s1 s2 k1 k2 k3 k4⟩
  · refine ⟨rfl, K0 a4 b3 e4 o4 (fun s u hs hu h1 h2 h3 h4 => ?_)⟩
    have := (key s u hs hu).mpr ⟨h1, h2, h3, h4⟩
    exact hno s u hs hu this.1 this.2
/-- the goal -/
def go_P (C : gt_C) (p : gt_P) (s : Nat) : Prop := (xp_gb p = 0 → cu_in (xp_gm p) (xp_gv p) s) ∧ (xp_gb p ≠ 0 → cr_bs C s)
theorem xm_fg {post : Int32 → SX → Prop} {k : Nat} (hC : cr_OK C) (hT : fr_T C ll) (hm : xp_gb pp = 0 → cu_ok C (xp_gm pp) (xp_gv pp)) (hk : k < 2 ^ 31)
    (K1 : ∀ a b e o f g s, s < 2 ^ xc_nl C → cu_ok C (xf_m g) (xf_v g) → cu_in (xf_m g) (xf_v g) s → fr_A C ll k s → (∀ t, t < 2 ^ xc_nl C → cu_in (xf_m g) (xf_v g) t → go_P C pp t) → post 1 (mk_X C vv dd f a b e o ll pp g hh kk))
    (K0 : ∀ a b e o, (∀ s, s < 2 ^ xc_nl C → fr_A C ll k s → ¬ go_P C pp s) → post 0 (mk_X C vv dd sm a b e o ll pp ff hh kk)) : wpX_findGoal post (mk_X C vv dd sm aa bb ee oo ll pp ff hh kk) (nI k) := by
  have hl := hT.1
  refine xm_bq hC (fun a1 hI1 => ?_)
  refine xm_rF (bb := ((0, xb_bm bb, xb_bv bb) : gt_B)) (ee := ((0, xe_dn ee, xe_dm ee, xe_df ee) : gt_E)) hC hT hk hI1 rfl (fun a2 b2 hB2 hb2 hx => ?_)
  obtain ⟨P1, Q1, hI2, hQ2, hPQ⟩ := hx
  refine br_c (fun hg => ?_) (fun hg => ?_)
  · have hmo := hm hg
    refine xm_reqS (aa := a2) (bb := b2) (ee := ((0, xe_dn ee, xe_dm ee, xe_df ee) : gt_E)) hC hI2 (fun a3 hI3 => ?_)
    have key : ∀ s u, s < 2 ^ xc_nl C → u < 2 ^ xc_ni C → ((sb_ok b2 s ∧ sa_S C a3 s u) ↔ (fr_A C ll k s ∧ go_P C pp s)) := by
      intro s u hs hu
      have p := hPQ s u hs hu
      rw [hQ2.2.2 s hs, hI3.2.2 s u hs hu]
      dsimp only
      rw [← cu_inn hmo]
      constructor
      · intro ⟨q1, q2, q3⟩
        exact ⟨(p.mp ⟨q2, q1⟩).2, fun _ => q3, fun y => absurd hg y⟩
      · intro ⟨q1, q2⟩
        have := p.mpr ⟨trivial, q1⟩
        exact ⟨this.2, this.1, q2.1 hg⟩
    refine xm_solve (aa := a3) (bb := b2) (ee := ((0, xe_dn ee, xe_dm ee, xe_df ee) : gt_E)) hC hQ2.1 (by have := hQ2.2.1; omega) hI3.1 hI3.2.1 rfl (fun a4 e4 o4 s1 s2 s3 s4 s5 => ?_) (fun a4 e4 o4 hno => ?_)
    · obtain ⟨k1, k2⟩ := (key _ _ s1 s2).mp ⟨s3, s4⟩
      refine br_f (by decide) (br_t hg ?_)
      exact K1 a4 b2 e4 o4 sm (xp_gm pp, xp_gv pp) _ s1 hmo (k2.1 hg) k1 (fun t _ ht => ⟨fun _ => ht, fun y => absurd hg y⟩)
    · refine br_t rfl (K0 a4 b2 e4 o4 (fun s hs h1 h2 => ?_))
      have hu := Nat.two_pow_pos (xc_ni C)
      have := (key s 0 hs hu).mpr ⟨h1, h2⟩
      exact hno s 0 hs hu this.1 this.2
  · refine xm_reqB (aa := a2) (bb := b2) (ee := ((0, xe_dn ee, xe_dm ee, xe_df ee) : gt_E)) hC hI2 (fun a3 hI3 => ?_)
    have key : ∀ s u, s < 2 ^ xc_nl C → u < 2 ^ xc_ni C → ((sb_ok b2 s ∧ sa_S C a3 s u) ↔ (fr_A C ll k s ∧ cr_bad C s u = true)) := by
      intro s u hs hu
      have p := hPQ s u hs hu
      rw [hQ2.2.2 s hs, hI3.2.2 s u hs hu]
      constructor
      · intro ⟨q1, q2, q3⟩
        exact ⟨(p.mp ⟨q2, q1⟩).2, q3⟩
      · intro ⟨q1, q2⟩
        have := p.mpr ⟨trivial, q1⟩
        exact ⟨this.2, this.1, q2⟩
    refine xm_solve (aa := a3) (bb := b2) (ee := ((0, xe_dn ee, xe_dm ee, xe_df ee) : gt_E)) hC hQ2.1 (by have := hQ2.2.1; omega) hI3.1 hI3.2.1 rfl (fun a4 e4 o4 s1 s2 s3 s4 s5 => ?_) (fun a4 e4 o4 hno => ?_)
    · obtain ⟨k1, k2⟩ := (key _ _ s1 s2).mp ⟨s3, s4⟩
      refine br_f (by decide) (br_f hg ?_)
      unfold cr_bad at k2
      rw [Bool.and_eq_true] at k2
      refine xm_lift (aa := a4) (bb := b2) (ee := e4) (oo := o4) (m := 0) (v := 0) (bad := true) hC (by decide) s1 ⟨k2.1, fun _ => k2.2, fun y => absurd y (by decide)⟩ (fun f g g1 g2 g3 => ?_)
      refine K1 a4 b2 e4 o4 f g _ s1 g1 g2 k1 (fun t ht hin => ⟨fun y => absurd y hg, fun _ => ⟨ht, xo_si o4, s2, ?_⟩⟩)
      obtain ⟨p1, p2, _⟩ := g3 t hin ht
      unfold cr_bad
      rw [p1, p2 rfl]; rfl
    · refine br_t rfl (K0 a4 b2 e4 o4 (fun s hs h1 h2 => ?_))
      obtain ⟨_, u, hu, hbad⟩ := h2.2 hg
      have := (key s u hs hu).mpr ⟨h1, hbad⟩
      exact hno s u hs hu this.1 this.2
end
end
section
/-! walks: covers, isBlocked, meetsInitial, generalise, raiseLevel, addLemma -/
def cv_c (om ov m v : Nat) : Prop := bq_an om m = 0 ∧ v &&& om = ov
theorem cv_in {om ov m v s : Nat} (hm : v &&& m = v) (h : cv_c om ov m v) (hs : cu_in m v s) : cu_in om ov s := by
  obtain ⟨h1, h2⟩ := h
  unfold cu_in
  rw [← h2]
  apply Nat.eq_of_testBit_eq
  intro i
  rw [Nat.testBit_and, Nat.testBit_and]
  cases ho : om.testBit i
  · rw [Bool.and_false, Bool.and_false]
  · have := (bq_z.mp h1) i
    rw [bq_an_tb, ho, Bool.true_and] at this
    have hmi : m.testBit i = true := by simpa using this
    rw [(cu_iff hm).mp hs i hmi]
theorem cv_t {a b c d e f : Nat} (h : cv_c a b c d) (k : cv_c c d e f) : cv_c a b e f := by
  obtain ⟨h1, h2⟩ := h
  obtain ⟨k1, k2⟩ := k
  have sub : ∀ i, a.testBit i = true → c.testBit i = true := by
    intro i hi
    have := (bq_z.mp h1) i
    rw [bq_an_tb, hi, Bool.true_and] at this
    simpa using this
  refine ⟨bq_z.mpr (fun i => ?_), ?_⟩
  · rw [bq_an_tb]
    cases ha : a.testBit i
    · rfl
    · have := (bq_z.mp k1) i
      rw [bq_an_tb, sub i ha, Bool.true_and] at this
      rw [this]; rfl
  · rw [← h2, ← k2]
    apply Nat.eq_of_testBit_eq
    intro i
    rw [Nat.testBit_and, Nat.testBit_and, Nat.testBit_and]
    cases ha : a.testBit i
    · rw [Bool.and_false, Bool.and_false]
    · rw [sub i ha, Bool.and_true, Bool.and_true]
theorem cv_r {m v : Nat} (h : v &&& m = v) : cv_c m v m v := by
  refine ⟨bq_z.mpr (fun i => ?_), h⟩
  rw [bq_an_tb]
  cases m.testBit i <;> rfl
def np_P (C : gt_C) (l : gt_L) (k m v : Nat) : Prop := ∀ s u, s < 2 ^ xc_nl C → u < 2 ^ xc_ni C → fr_A C l k s → ¬ cu_in m v s → cr_leg C s u = true → ¬ cu_in m v (cr_nxt C s u)
def ni_P (C : gt_C) (m v : Nat) : Prop := ∀ s, cr_ini C s → ¬ cu_in m v s
theorem bq_drop {C : gt_C} {m v j : Nat} (h : cu_ok C m v) : cu_ok C (bq_an m (2 ^ j)) (bq_an v (2 ^ j)) ∧ cv_c (bq_an m (2 ^ j)) (bq_an v (2 ^ j)) m v := by
  obtain ⟨h1, h2⟩ := h
  have hv : ∀ i, v.testBit i = true → m.testBit i = true := by
    intro i hi
    rw [← h2, Nat.testBit_and, Bool.and_eq_true] at hi
    exact hi.2
  refine ⟨⟨Nat.lt_of_le_of_lt (bq_le _ _) h1, ?_⟩, bq_z.mpr (fun i => ?_), ?_⟩
  · apply Nat.eq_of_testBit_eq
    intro i
    rw [Nat.testBit_and, bq_an_tb, bq_an_tb]
    cases a : v.testBit i
    · rfl
    · rw [hv i a]; cases (2 ^ j).testBit i <;> rfl
  · rw [bq_an_tb, bq_an_tb]
    cases m.testBit i <;> cases (2 ^ j).testBit i <;> rfl
  · apply Nat.eq_of_testBit_eq
    intro i
    rw [Nat.testBit_and, bq_an_tb, bq_an_tb]
    cases a : v.testBit i
    · rfl
    · rw [hv i a]; cases (2 ^ j).testBit i <;> rfl
section
variable {C : gt_C} {vv : gt_V} {dd : (Nat → Int64)} {sm : (Nat → Int32)} {aa : gt_A} {bb : gt_B} {ee : gt_E} {oo : gt_O} {ll : gt_L} {pp : gt_P} {ff : gt_F} {hh : gt_H} {kk : gt_K}
theorem xm_cov {post : Int32 → Prop} {om ov m v : Nat} (ho : om < 64) (hov : ov < 64) (hv : v < 64) (K1 : cv_c om ov m v → post 1) (K0 : ¬ cv_c om ov m v → post 0) : wpX_covers post (mk_X C vv dd sm aa bb ee oo ll pp ff hh kk) (nI om) (nI ov) (nI m) (nI v) := by
  have e1 : nI om &&& (nI m ^^^ (-1)) = nI (bq_an om m) := bq_anI _ _
  have l1 := bq_le om m
  refine br_c (fun hz => ?_) (fun hz => ?_)
  · rw [e1, bq_nI0 (by omega)] at hz
    refine br_c (fun hy => ?_) (fun hy => ?_)
    · rw [nx_and, nI_eq (by have := bq_andlt (b := om) hv; omega) (by omega)] at hy
      exact K1 ⟨hz, hy⟩
    · rw [nx_and, nI_eq (by have := bq_andlt (b := om) hv; omega) (by omega)] at hy
      exact K0 (fun z => hy z.2)
  · rw [e1, bq_nI0 (by omega)] at hz
    exact K0 (fun z => hz z.1)
theorem xm_ib3 {post : Int32 → Prop} {m v k : Nat} (hC : cr_OK C) (hT : fr_T C ll) (hv : v < 64) (hk : k < 2 ^ 31) (K1 : (∃ q, q < xl_lc ll ∧ k ≤ xl_le ll q ∧ cv_c (xl_lm ll q) (xl_lv ll q) m v) → post 1) (K0 : (∀ q, q < xl_lc ll → k ≤ xl_le ll q → ¬ cv_c (xl_lm ll q) (xl_lv ll q) m v) → post 0) : ∀ n q, xl_lc ll - q < n → q ≤ xl_lc ll → (∀ i, i < q → k ≤ xl_le ll i → ¬ cv_c (xl_lm ll i) (xl_lv ll i) m v) → wX_isBlocked_3 post (nI m) (nI v) (nI k) (nI (xc_ci C)) (nI (xc_cl C)) (nI (xc_cg C)) (nI (xc_N C)) (nI (xc_ni C)) (nI (xc_nl C)) (nI (xc_ng C)) (nI (xc_fx C)) (nI (xc_on C)) (nI (xv_ph vv)) (nI (xv_fr vv)) (nI (xv_cc vv)) (nI (xa_ts aa)) (xa_cf aa) (xa_ch aa) (nI (xa_km aa)) (nI (xa_kv aa)) (nI (xb_bc bb)) (nI (xe_dc ee)) (nI (xo_ss oo)) (nI (xo_si oo)) (nI (xl_lc ll)) (xp_gb pp) (nI (xp_gm pp)) (nI (xp_gv pp)) (nI (xf_m ff)) (nI (xf_v ff)) (nI (xh_m hh)) (nI (xh_v hh)) (fun zi => nI (xc_kind C zi)) (fun zi => nI (xc_idx C zi)) (fun zi => nI (xc_opA C zi)) (fun zi => nI (xc_opB C zi)) (fun zi => nI (xc_inN C zi)) (fun zi => nI (xc_laN C zi)) (fun zi => nI (xc_root C zi)) (fun zi => nI (xv_cm vv zi)) (fun zi => nI (xv_cv vv zi)) (fun zi => nI (xv_ts vv zi)) (fun zi => nI (xv_ti vv zi)) dd sm (xa_val aa) (fun zi => nI (xa_tr aa zi)) (fun zi => nI (xb_bm bb zi)) (fun zi => nI (xb_bv bb zi)) (fun zi => nI (xe_dn ee zi)) (fun zi => nI (xe_dm ee zi)) (xe_df ee) (fun zi => nI (xl_lm ll zi)) (fun zi => nI (xl_lv ll zi)) (fun zi => nI (xl_le ll zi)) (xl_st ll) (fun zi => nI (xk_m kk zi)) (fun zi => nI (xk_v kk zi)) n (nI q) := by
  have p64 := cr_p64 hC
  have hl := hT.1
  intro n
  induction n with
  | zero => intro q h; omega
  | succ n ih =>
    intro q hn hq h
    by_cases e : q < xl_lc ll
    · have hin : vp_in (nI q) 768 := vp_in_nI (by omega) (by omega)
      obtain ⟨t1, t2, t3⟩ := hT.2 q e
      have t4 := cu_vlt t1
      have t5 := t1.1
      refine br_f (nI_ge e (by omega)) ⟨hin, ?_⟩
      rw [nI_clamp (by omega)]
      refine pk_lt (xl_le ll q) k (fun hlt => nm_r (nI_1 q) (ih (q + 1) (by omega) (by omega) (bt_lt.mpr ⟨h, fun y => absurd y (by omega)⟩))) (fun hge => ⟨hin, hin, ?_⟩)
      refine xm_cov (by omega) (by omega) hv (fun hc => br_f (by decide) (K1 ⟨q, e, hge, hc⟩)) (fun hc => br_t rfl (nm_r (nI_1 q) (ih (q + 1) (by omega) (by omega) (bt_lt.mpr ⟨h, fun _ => hc⟩))))
    · have eq : q = xl_lc ll := by omega
      subst eq
      exact br_t (nI_le (Nat.le_refl _) (by omega)) (K0 h)
theorem xm_ib {post : Int32 → Prop} {m v k : Nat} (hC : cr_OK C) (hT : fr_T C ll) (hv : v < 64) (hk : k < 2 ^ 31) (K1 : (∃ q, q < xl_lc ll ∧ k ≤ xl_le ll q ∧ cv_c (xl_lm ll q) (xl_lv ll q) m v) → post 1) (K0 : (∀ q, q < xl_lc ll → k ≤ xl_le ll q → ¬ cv_c (xl_lm ll q) (xl_lv ll q) m v) → post 0) : wpX_isBlocked post (mk_X C vv dd sm aa bb ee oo ll pp ff hh kk) (nI m) (nI v) (nI k) :=
  ⟨xl_lc ll + 1, xm_ib3 hC hT hv hk K1 K0 (xl_lc ll + 1) 0 (by omega) (by omega) (fun i hi => absurd hi (by omega))⟩
theorem xm_mi {post : Int32 → Prop} {m v : Nat} (hC : cr_OK C) (hm : cu_ok C m v) (K1 : post 1) (K0 : ni_P C m v → post 0) : wpX_meetsInitial post (mk_X C vv dd sm aa bb ee oo ll pp ff hh kk) (nI m) (nI v) := by
  have p64 := cr_p64 hC
  obtain ⟨hf, ho⟩ := cr_fo hC
  have hv := cu_vlt hm
  have e1 : ((nI v ^^^ nI (xc_on C)) &&& nI m) &&& nI (xc_fx C) = nI (((v ^^^ xc_on C) &&& m) &&& xc_fx C) := by rw [nx_xor, nx_and, nx_and]
  have l1 : ((v ^^^ xc_on C) &&& m) &&& xc_fx C < 2 ^ xc_nl C := bq_andlt (bq_andlt (bq_xorlt hv ho))
  refine br_c (fun _ => K1) (fun hz => K0 (fun s hs hin => hz ?_))
  rw [e1, bq_nI0 (by omega), bq_z]
  intro i
  rw [Nat.testBit_and, Nat.testBit_and, Nat.testBit_xor]
  cases a : m.testBit i
  · rw [Bool.and_false, Bool.false_and]
  · cases b : (xc_fx C).testBit i
    · rw [Bool.and_false]
    · have hi := bq_tlt hf b
      have c1 := (cu_ini hC hs.1).mp hs i hi b
      have c2 := (cu_iff hm.2).mp hin i a
      rw [← c2, c1, Bool.xor_self]; rfl
theorem xm_ge13 {post : SX → Prop} {m v k : Nat} (hC : cr_OK C) (hT : fr_T C ll) (hk : k < 2 ^ 30) (hk0 : 0 < k) (K : ∀ a b e o g, cu_ok C (xh_m g) (xh_v g) → cv_c (xh_m g) (xh_v g) m v → ni_P C (xh_m g) (xh_v g) → np_P C ll (k - 1) (xh_m g) (xh_v g) → post (mk_X C vv dd sm a b e o ll pp ff g kk)) : ∀ n j a b e o g, xc_nl C - j < n → j ≤ xc_nl C → cu_ok C (xh_m g) (xh_v g) → cv_c (xh_m g) (xh_v g) m v → ni_P C (xh_m g) (xh_v g) → np_P C ll (k - 1) (xh_m g) (xh_v g) → wX_generalise_13 post (nI k) n (nI j) (nI (xc_ci C)) (nI (xc_cl C)) (nI (xc_cg C)) (nI (xc_N C)) (nI (xc_ni C)) (nI (xc_nl C)) (nI (xc_ng C)) (nI (xc_fx C)) (nI (xc_on C)) (nI (xv_ph vv)) (nI (xv_fr vv)) (nI (xv_cc vv)) (nI (xa_ts a)) (xa_cf a) (xa_ch a) (nI (xa_km a)) (nI (xa_kv a)) (nI (xb_bc b)) (nI (xe_dc e)) (nI (xo_ss o)) (nI (xo_si o)) (nI (xl_lc ll)) (xp_gb pp) (nI (xp_gm pp)) (nI (xp_gv pp)) (nI (xf_m ff)) (nI (xf_v ff)) (nI (xh_m g)) (nI (xh_v g)) (fun zi => nI (xc_kind C zi)) (fun zi => nI (xc_idx C zi)) (fun zi => nI (xc_opA C zi)) (fun zi => nI (xc_opB C zi)) (fun zi => nI (xc_inN C zi)) (fun zi => nI (xc_laN C zi)) (fun zi => nI (xc_root C zi)) (fun zi => nI (xv_cm vv zi)) (fun zi => nI (xv_cv vv zi)) (fun zi => nI (xv_ts vv zi)) (fun zi => nI (xv_ti vv zi)) dd sm (xa_val a) (fun zi => nI (xa_tr a zi)) (fun zi => nI (xb_bm b zi)) (fun zi => nI (xb_bv b zi)) (fun zi => nI (xe_dn e zi)) (fun zi => nI (xe_dm e zi)) (xe_df e) (fun zi => nI (xl_lm ll zi)) (fun zi => nI (xl_lv ll zi)) (fun zi => nI (xl_le ll zi)) (xl_st ll) (fun zi => nI (xk_m kk zi)) (fun zi => nI (xk_v kk zi)) := by
  have hb := cr_b hC
  have p64 := cr_p64 hC
  intro n
  induction n with
  | zero => intro j a b e o g h; omega
  | succ n ih =>
    intro j a b e o g hn hj g1 g2 g3 g4
    by_cases ej : j < xc_nl C
    · refine br_f (nI_ge ej (by omega)) (nm_r (bq_pow (by omega)) (br_c (fun hz => ?_) (fun hz => ?_)))
      · exact nm_r (nI_1 j) (ih (j + 1) a b e o g (by omega) (by omega) g1 g2 g3 g4)
      · obtain ⟨d1, d2⟩ := bq_drop (j := j) g1
        refine nm_r (bq_anI _ _) (nm_r (bq_anI _ _) ?_)
        refine xm_mi hC d1 (br_f (by decide) (nm_r (nI_1 j) (ih (j + 1) a b e o g (by omega) (by omega) g1 g2 g3 g4))) (fun hni => br_t rfl ?_)
        rw [show nI k - 1 = nI (k - 1) from pk_sub (b := 1) (by omega)]
        refine xm_hp hC hT d1 (by omega) (fun a' b' e' o' _ _ _ _ _ _ => ?_) (fun a' b' e' o' hno => ?_)
        · exact br_f (by decide) (nm_r (nI_1 j) (ih (j + 1) a' b' e' o' g (by omega) (by omega) g1 g2 g3 g4))
        · exact br_t rfl (nm_r (nI_1 j) (ih (j + 1) a' b' e' o' (bq_an (xh_m g) (2 ^ j), bq_an (xh_v g) (2 ^ j)) (by omega) (by omega) d1 (cv_t d2 g2) hni hno))
    · have ej : j = xc_nl C := by omega
      subst ej
      exact br_t (nI_le (Nat.le_refl _) (by omega)) (K a b e o g g1 g2 g3 g4)
theorem xm_gen {post : SX → Prop} {m v k : Nat} (hC : cr_OK C) (hT : fr_T C ll) (hk : k < 2 ^ 30) (hk0 : 0 < k) (hm : cu_ok C m v) (hi : ni_P C m v) (hn : np_P C ll (k - 1) m v) (K : ∀ a b e o g, cu_ok C (xh_m g) (xh_v g) → cv_c (xh_m g) (xh_v g) m v → ni_P C (xh_m g) (xh_v g) → np_P C ll (k - 1) (xh_m g) (xh_v g) → post (mk_X C vv dd sm a b e o ll pp ff g kk)) : wpX_generalise post (mk_X C vv dd sm aa bb ee oo ll pp ff hh kk) (nI m) (nI v) (nI k) :=
  ⟨xc_nl C + 1, xm_ge13 hC hT hk hk0 K (xc_nl C + 1) 0 aa bb ee oo (m, v) (by omega) (by omega) hm (cv_r hm.2) hi hn⟩
theorem xm_rl5 {post : Int32 → SX → Prop} {k top : Nat} (hC : cr_OK C) (hT : fr_T C ll) (ht : top < 2 ^ 30) (hm : cu_ok C (xh_m hh) (xh_v hh)) (K : ∀ r a b e o, k ≤ r → (r ≤ top ∨ r = k) → np_P C ll (r - 1) (xh_m hh) (xh_v hh) → post (nI r) (mk_X C vv dd sm a b e o ll pp ff hh kk)) : ∀ n r a b e o, top - r < n → k ≤ r → (r ≤ top ∨ r = k) → r < 2 ^ 30 → np_P C ll (r - 1) (xh_m hh) (xh_v hh) → wX_raiseLevel_5 post (nI top) n (nI r) (nI r) (nI (xc_ci C)) (nI (xc_cl C)) (nI (xc_cg C)) (nI (xc_N C)) (nI (xc_ni C)) (nI (xc_nl C)) (nI (xc_ng C)) (nI (xc_fx C)) (nI (xc_on C)) (nI (xv_ph vv)) (nI (xv_fr vv)) (nI (xv_cc vv)) (nI (xa_ts a)) (xa_cf a) (xa_ch a) (nI (xa_km a)) (nI (xa_kv a)) (nI (xb_bc b)) (nI (xe_dc e)) (nI (xo_ss o)) (nI (xo_si o)) (nI (xl_lc ll)) (xp_gb pp) (nI (xp_gm pp)) (nI (xp_gv pp)) (nI (xf_m ff)) (nI (xf_v ff)) (nI (xh_m hh)) (nI (xh_v hh)) (fun zi => nI (xc_kind C zi)) (fun zi => nI (xc_idx C zi)) (fun zi => nI (xc_opA C zi)) (fun zi => nI (xc_opB C zi)) (fun zi => nI (xc_inN C zi)) (fun zi => nI (xc_laN C zi)) (fun zi => nI (xc_root C zi)) (fun zi => nI (xv_cm vv zi)) (fun zi => nI (xv_cv vv zi)) (fun zi => nI (xv_ts vv zi)) (fun zi => nI (xv_ti vv zi)) dd sm (xa_val a) (fun zi => nI (xa_tr a zi)) (fun zi => nI (xb_bm b zi)) (fun zi => nI (xb_bv b zi)) (fun zi => nI (xe_dn e zi)) (fun zi => nI (xe_dm e zi)) (xe_df e) (fun zi => nI (xl_lm ll zi)) (fun zi => nI (xl_lv ll zi)) (fun zi => nI (xl_le ll zi)) (xl_st ll) (fun zi => nI (xk_m kk zi)) (fun zi => nI (xk_v kk zi)) := by
  intro n
  induction n with
  | zero => intro r a b e o h; omega
  | succ n ih =>
    intro r a b e o hn hr hrt hr30 hnp
    refine pk_le top r (fun hle => K r a b e o hr hrt hnp) (fun hlt => ?_)
    refine xm_hp hC hT hm (by omega) (fun a' b' e' o' _ _ _ _ _ _ => ?_) (fun a' b' e' o' hno => ?_)
    · exact br_f (by decide) (K r a' b' e' o' hr hrt hnp)
    · exact br_t rfl (nm_r (nI_1 r) (nm_r (nI_1 r) (ih (r + 1) a' b' e' o' (by omega) (by omega) (Or.inl (by omega)) (by omega) hno)))
theorem xm_rl {post : Int32 → SX → Prop} {k top : Nat} (hC : cr_OK C) (hT : fr_T C ll) (ht : top < 2 ^ 30) (hk : k < 2 ^ 30) (hm : cu_ok C (xh_m hh) (xh_v hh)) (hn : np_P C ll (k - 1) (xh_m hh) (xh_v hh)) (K : ∀ r a b e o, k ≤ r → (r ≤ top ∨ r = k) → np_P C ll (r - 1) (xh_m hh) (xh_v hh) → post (nI r) (mk_X C vv dd sm a b e o ll pp ff hh kk)) : wpX_raiseLevel post (mk_X C vv dd sm aa bb ee oo ll pp ff hh kk) (nI k) (nI top) :=
  ⟨top - k + 1, xm_rl5 hC hT ht hm K (top - k + 1) k aa bb ee oo (by omega) (by omega) (Or.inr rfl) hk hn⟩
end
end
section
/-! frames, plainly; addLemma -/
def en_d (m v j : Nat) : Nat := if m.testBit j = true then (if v.testBit j = true then 2 else 1) else 0
def en_c (m v : Nat) : Nat → Nat
  | 0 => 0
  | j + 1 => 3 * en_c m v j + en_d m v j
theorem en_d3 (m v j : Nat) : en_d m v j < 3 := by
  unfold en_d
  split
  · split <;> omega
  · omega
theorem en_lt (m v : Nat) : ∀ n, en_c m v n < 3 ^ n := by
  intro n
  induction n with
  | zero => exact Nat.one_pos
  | succ n ih =>
    have := en_d3 m v n
    show 3 * en_c m v n + en_d m v n < 3 ^ (n + 1)
    rw [Nat.pow_succ]
    omega
theorem en_inj {m v m' v' : Nat} : ∀ n, en_c m v n = en_c m' v' n → ∀ j, j < n → en_d m v j = en_d m' v' j := by
  intro n
  induction n with
  | zero => intro _ j h; omega
  | succ n ih =>
    intro h j hj
    have h' : 3 * en_c m v n + en_d m v n = 3 * en_c m' v' n + en_d m' v' n := h
    have a := en_d3 m v n
    have b := en_d3 m' v' n
    by_cases e : j = n
    · subst e; omega
    · exact ih (by omega) j (by omega)
theorem en_eq {C : gt_C} (hC : cr_OK C) {m v m' v' : Nat} (h : cu_ok C m v) (h' : cu_ok C m' v') (e : en_c m v 6 = en_c m' v' 6) : m = m' ∧ v = v' := by
  have hb := cr_b hC
  have d := en_inj 6 e
  have hm : m = m' := by
    refine bq_ext h.1 h'.1 (fun i hi => ?_)
    have := d i (by omega)
    unfold en_d at this
    cases a : m.testBit i <;> cases b : m'.testBit i <;> rw [a, b] at this <;> first | rfl | skip
    · simp at this; split at this <;> omega
    · simp at this; split at this <;> omega
  subst hm
  refine ⟨rfl, bq_ext (cu_vlt h) (cu_vlt h') (fun i hi => ?_)⟩
  have := d i (by omega)
  unfold en_d at this
  cases a : m.testBit i
  · have c1 : v.testBit i = false := by rw [← h.2, Nat.testBit_and, a, Bool.and_false]
    have c2 : v'.testBit i = false := by rw [← h'.2, Nat.testBit_and, a, Bool.and_false]
    rw [c1, c2]
  · rw [a] at this
    cases b : v.testBit i <;> cases c : v'.testBit i <;> rw [b, c] at this <;> first | rfl | exact absurd this (by decide)
def fr_D (l : gt_L) : Prop := ∀ p q, p < q → q < xl_lc l → ¬ (xl_lm l p = xl_lm l q ∧ xl_lv l p = xl_lv l q)
theorem fr_729 {C : gt_C} {l : gt_L} (hC : cr_OK C) (hT : ∀ q, q < xl_lc l → cu_ok C (xl_lm l q) (xl_lv l q)) (hD : fr_D l) : xl_lc l ≤ 729 :=
  pg_le 729 (xl_lc l) (fun q => en_c (xl_lm l q) (xl_lv l q) 6) (fun q _ => en_lt _ _ 6) (fun p q hpq hq e => hD p q hpq hq (en_eq hC (hT p (by omega)) (hT q hq) e))
/-- the table is a chain of frames -/
def fr_I (C : gt_C) (l : gt_L) : Prop := fr_T C l ∧ fr_D l ∧ (∀ q, q < xl_lc l → ni_P C (xl_lm l q) (xl_lv l q)) ∧ (∀ i s u, s < 2 ^ xc_nl C → u < 2 ^ xc_ni C → fr_A C l i s → cr_leg C s u = true → fr_F l (i + 1) (cr_nxt C s u))
theorem fr_mono {C : gt_C} {l : gt_L} {i j s : Nat} (hN : ∀ q, q < xl_lc l → ni_P C (xl_lm l q) (xl_lv l q)) (hij : i ≤ j) (h : fr_A C l i s) : fr_A C l j s := by
  refine ⟨fun z => h.1 (by omega), fun hj q hq hle => ?_⟩
  rcases Nat.eq_zero_or_pos i with z | z
  · exact hN q hq s (h.1 z)
  · exact h.2 z q hq (by omega)
theorem fr_reach {C : gt_C} {l : gt_L} (h : fr_I C l) : ∀ k s, cr_R C k s → fr_A C l k s := by
  intro k
  induction k with
  | zero => intro s hs; exact ⟨fun _ => hs, fun z => absurd z (by omega)⟩
  | succ k ih =>
    intro s hs
    obtain ⟨t, ht, htl, u, hu, hleg, rfl⟩ := hs
    exact ⟨fun z => absurd z (by omega), fun _ => h.2.2.2 k t u htl hu (ih t ht) hleg⟩
/-- what addLemma leaves -/
def al_R (l l' : gt_L) (m v k : Nat) : Prop :=
  (∀ q, q < xl_lc l' → (xl_lm l' q = m ∧ xl_lv l' q = v ∧ xl_le l' q = k) ∨ ∃ p, p < xl_lc l ∧ xl_lm l' q = xl_lm l p ∧ xl_lv l' q = xl_lv l p ∧ xl_le l' q = xl_le l p) ∧
  (∃ q, q < xl_lc l' ∧ xl_lm l' q = m ∧ xl_lv l' q = v ∧ xl_le l' q = k) ∧
  (∀ p, p < xl_lc l → (xl_le l p ≤ k ∧ cv_c m v (xl_lm l p) (xl_lv l p)) ∨ ∃ q, q < xl_lc l' ∧ xl_lm l' q = xl_lm l p ∧ xl_lv l' q = xl_lv l p ∧ xl_le l' q = xl_le l p) ∧ fr_D l' ∧ xl_lc l' ≤ 767
theorem al_F1 {C : gt_C} {l l' : gt_L} {m v k j s : Nat} (hT : fr_T C l) (h : al_R l l' m v k) (hF : fr_F l' j s) : fr_F l j s := by
  intro p hp hj hin
  rcases h.2.2.1 p hp with ⟨a, b⟩ | ⟨q, hq, e1, e2, e3⟩
  · obtain ⟨q, hq, e1, e2, e3⟩ := h.2.1
    refine hF q hq (by omega) ?_
    rw [e1, e2]
    exact cv_in (hT.2 p hp).1.2 b hin
  · exact hF q hq (by omega) (by rw [e1, e2]; exact hin)
theorem al_F2 {l l' : gt_L} {m v k j s : Nat} (h : al_R l l' m v k) (hF : fr_F l j s) (hc : j ≤ k → ¬ cu_in m v s) : fr_F l' j s := by
  intro q hq hj
  rcases h.1 q hq with ⟨e1, e2, e3⟩ | ⟨p, hp, e1, e2, e3⟩
  · rw [e1, e2]; exact hc (by omega)
  · rw [e1, e2]; exact hF p hp (by omega)
theorem al_F3 {l l' : gt_L} {m v k j s : Nat} (h : al_R l l' m v k) (hF : fr_F l' j s) (hj : j ≤ k) : ¬ cu_in m v s := by
  obtain ⟨q, hq, e1, e2, e3⟩ := h.2.1
  have := hF q hq (by omega)
  rw [e1, e2] at this
  exact this
theorem al_I {C : gt_C} {l l' : gt_L} {m v k : Nat} (h : fr_I C l) (hR : al_R l l' m v k) (hm : cu_ok C m v) (hk : 1 ≤ k) (hk2 : k ≤ 1000) (hi : ni_P C m v) (hn : np_P C l (k - 1) m v) : fr_I C l' := by
  obtain ⟨h1, h2, h3, h4⟩ := h
  have hA : ∀ i s, fr_A C l' i s → fr_A C l i s := fun i s z => ⟨z.1, fun y => al_F1 h1 hR (z.2 y)⟩
  refine ⟨⟨hR.2.2.2.2, fun q hq => ?_⟩, hR.2.2.2.1, fun q hq => ?_, fun i s u hs hu hF hleg => ?_⟩
  · rcases hR.1 q hq with ⟨e1, e2, e3⟩ | ⟨p, hp, e1, e2, e3⟩
    · rw [e1, e2, e3]; exact ⟨hm, hk, hk2⟩
    · rw [e1, e2, e3]; exact h1.2 p hp
  · rcases hR.1 q hq with ⟨e1, e2, e3⟩ | ⟨p, hp, e1, e2, e3⟩
    · rw [e1, e2]; exact hi
    · rw [e1, e2]; exact h3 p hp
  · refine al_F2 hR (h4 i s u hs hu (hA i s hF) hleg) (fun hik => ?_)
    refine hn s u hs hu (fr_mono h3 (by omega) (hA i s hF)) ?_ hleg
    rcases Nat.eq_zero_or_pos i with z | z
    · exact hi s (hF.1 z)
    · exact al_F3 hR (hF.2 z) (by omega)
theorem nar0 : vp_nar .boolean 0 = 0 := rfl
theorem nar1 : vp_nar .boolean 1 = 1 := rfl
/-- half way through addLemma's compaction: c kept out of the first q -/
def al_H (l l' : gt_L) (m v k c q : Nat) : Prop := c ≤ q ∧ (∀ i, q ≤ i → xl_lm l' i = xl_lm l i ∧ xl_lv l' i = xl_lv l i ∧ xl_le l' i = xl_le l i) ∧
  (∀ i, i < c → ∃ p, p < q ∧ ¬ (xl_le l p ≤ k ∧ cv_c m v (xl_lm l p) (xl_lv l p)) ∧ xl_lm l' i = xl_lm l p ∧ xl_lv l' i = xl_lv l p ∧ xl_le l' i = xl_le l p) ∧
  (∀ p, p < q → (xl_le l p ≤ k ∧ cv_c m v (xl_lm l p) (xl_lv l p)) ∨ ∃ i, i < c ∧ xl_lm l' i = xl_lm l p ∧ xl_lv l' i = xl_lv l p ∧ xl_le l' i = xl_le l p) ∧
  (∀ i j, i < j → j < c → ¬ (xl_lm l' i = xl_lm l' j ∧ xl_lv l' i = xl_lv l' j))
theorem al_H0 (l : gt_L) (m v k : Nat) : al_H l l m v k 0 0 := ⟨Nat.le_refl _, fun _ _ => ⟨rfl, rfl, rfl⟩, fun i hi => absurd hi (by omega), fun i hi => absurd hi (by omega), fun i j _ hj => absurd hj (by omega)⟩
theorem al_Hd {l l' : gt_L} {m v k c q : Nat} (h : al_H l l' m v k c q) (hu : xl_le l q ≤ k ∧ cv_c m v (xl_lm l q) (xl_lv l q)) : al_H l l' m v k c (q + 1) := by
  obtain ⟨h1, h2, h3, h4, h5⟩ := h
  refine ⟨by omega, fun i hi => h2 i (by omega), fun i hi => ?_, fun p hp => ?_, h5⟩
  · obtain ⟨p, hp, e⟩ := h3 i hi
    exact ⟨p, by omega, e⟩
  · by_cases e : p = q
    · subst e; exact Or.inl hu
    · exact h4 p (by omega)
theorem al_Hk {l l' : gt_L} {m v k c q : Nat} (hD : fr_D l) (hq : q < xl_lc l) (hnu : ¬ (xl_le l q ≤ k ∧ cv_c m v (xl_lm l q) (xl_lv l q))) (h : al_H l l' m v k c q) : al_H l (((xl_lc l', up_n (xl_lm l') c (xl_lm l' q), up_n (xl_lv l') c (xl_lv l' q), up_n (xl_le l') c (xl_le l' q), xl_st l') : gt_L)) m v k (c + 1) (q + 1) := by
  obtain ⟨h1, h2, h3, h4, h5⟩ := h
  obtain ⟨r1, r2, r3⟩ := h2 q (Nat.le_refl _)
  have lo : ∀ i, i < c → up_n (xl_lm l') c (xl_lm l' q) i = xl_lm l' i ∧ up_n (xl_lv l') c (xl_lv l' q) i = xl_lv l' i ∧ up_n (xl_le l') c (xl_le l' q) i = xl_le l' i := fun i hi => ⟨up_o (by omega), up_o (by omega), up_o (by omega)⟩
  refine ⟨by omega, fun i hi => ?_, fun i hi => ?_, fun p hp => ?_, fun i j hij hj => ?_⟩
  · show up_n (xl_lm l') c (xl_lm l' q) i = xl_lm l i ∧ up_n (xl_lv l') c (xl_lv l' q) i = xl_lv l i ∧ up_n (xl_le l') c (xl_le l' q) i = xl_le l i
    rw [up_o (by omega), up_o (by omega), up_o (by omega)]
    exact h2 i (by omega)
  · show ∃ p, p < q + 1 ∧ ¬ (xl_le l p ≤ k ∧ cv_c m v (xl_lm l p) (xl_lv l p)) ∧ up_n (xl_lm l') c (xl_lm l' q) i = xl_lm l p ∧ up_n (xl_lv l') c (xl_lv l' q) i = xl_lv l p ∧ up_n (xl_le l') c (xl_le l' q) i = xl_le l p
    by_cases e : i = c
    · subst e
      refine ⟨q, by omega, hnu, ?_⟩
      rw [up_s, up_s, up_s]
      exact ⟨r1, r2, r3⟩
    · obtain ⟨p, hp, hp2, e1⟩ := h3 i (by omega)
      obtain ⟨l1, l2, l3⟩ := lo i (by omega)
      refine ⟨p, by omega, hp2, ?_⟩
      rw [l1, l2, l3]; exact e1
  · by_cases e : p = q
    · subst e
      refine Or.inr ⟨c, by omega, ?_⟩
      show up_n (xl_lm l') c (xl_lm l' p) c = xl_lm l p ∧ up_n (xl_lv l') c (xl_lv l' p) c = xl_lv l p ∧ up_n (xl_le l') c (xl_le l' p) c = xl_le l p
      rw [up_s, up_s, up_s]
      exact ⟨r1, r2, r3⟩
    · rcases h4 p (by omega) with z | ⟨i, hi, e1⟩
      · exact Or.inl z
      · refine Or.inr ⟨i, by omega, ?_⟩
        obtain ⟨l1, l2, l3⟩ := lo i hi
        show up_n (xl_lm l') c (xl_lm l' q) i = xl_lm l p ∧ up_n (xl_lv l') c (xl_lv l' q) i = xl_lv l p ∧ up_n (xl_le l') c (xl_le l' q) i = xl_le l p
        rw [l1, l2, l3]; exact e1
  · show ¬ (up_n (xl_lm l') c (xl_lm l' q) i = up_n (xl_lm l') c (xl_lm l' q) j ∧ up_n (xl_lv l') c (xl_lv l' q) i = up_n (xl_lv l') c (xl_lv l' q) j)
    obtain ⟨l1, l2, l3⟩ := lo i (by omega)
    rw [l1, l2]
    by_cases e : j = c
    · subst e
      rw [up_s, up_s, r1, r2]
      obtain ⟨p, hp, hp2, e1, e2, e3⟩ := h3 i hij
      rw [e1, e2]
      exact hD p q hp hq
    · obtain ⟨k1, k2, k3⟩ := lo j (by omega)
      rw [k1, k2]
      exact h5 i j hij (by omega)
theorem al_Hf {C : gt_C} {l l' : gt_L} {m v k c : Nat} {st : Nat → Int32} (hC : cr_OK C) (hT : fr_T C l) (hD : fr_D l) (hm : cu_ok C m v) (hnb : ∀ q, q < xl_lc l → k ≤ xl_le l q → ¬ cv_c (xl_lm l q) (xl_lv l q) m v) (h : al_H l l' m v k c (xl_lc l)) : al_R l (((c + 1, up_n (xl_lm l') c m, up_n (xl_lv l') c v, up_n (xl_le l') c k, st) : gt_L)) m v k := by
  have h729 := fr_729 hC (fun q hq => (hT.2 q hq).1) hD
  obtain ⟨h1, h2, h3, h4, h5⟩ := h
  have lo : ∀ i, i < c → up_n (xl_lm l') c m i = xl_lm l' i ∧ up_n (xl_lv l') c v i = xl_lv l' i ∧ up_n (xl_le l') c k i = xl_le l' i := fun i hi => ⟨up_o (by omega), up_o (by omega), up_o (by omega)⟩
  have hD5 : ∀ i j, i < j → j < c + 1 → ¬ (up_n (xl_lm l') c m i = up_n (xl_lm l') c m j ∧ up_n (xl_lv l') c v i = up_n (xl_lv l') c v j) := by
    intro i j hij hj
    obtain ⟨l1, l2, l3⟩ := lo i (by omega)
    rw [l1, l2]
    by_cases e : j = c
    · subst e
      rw [up_s, up_s]
      obtain ⟨p, hp, hnu, e1, e2, e3⟩ := h3 i hij
      rw [e1, e2]
      intro ⟨z1, z2⟩
      rw [z1, z2] at hnu
      have hr := cv_r hm.2
      by_cases hle : xl_le l p ≤ k
      · exact hnu ⟨hle, hr⟩
      · have := hnb p hp (by omega)
        rw [z1, z2] at this
        exact this hr
    · obtain ⟨k1, k2, k3⟩ := lo j (by omega)
      rw [k1, k2]
      exact h5 i j hij (by omega)
  refine ⟨fun q hq => ?_, ⟨c, Nat.lt_succ_self c, up_s, up_s, up_s⟩, fun p hp => ?_, hD5, ?_⟩
  · have hq' : q < c + 1 := hq
    by_cases e : q = c
    · subst e; exact Or.inl ⟨up_s, up_s, up_s⟩
    · obtain ⟨l1, l2, l3⟩ := lo q (by omega)
      obtain ⟨p, hp, _, e1, e2, e3⟩ := h3 q (by omega)
      exact Or.inr ⟨p, hp, l1.trans e1, l2.trans e2, l3.trans e3⟩
  · rcases h4 p hp with z | ⟨i, hi, e1, e2, e3⟩
    · exact Or.inl z
    · obtain ⟨l1, l2, l3⟩ := lo i hi
      exact Or.inr ⟨i, Nat.lt_succ_of_lt hi, l1.trans e1, l2.trans e2, l3.trans e3⟩
  · show c + 1 ≤ 767; omega
end
section
/-! walks: addLemma, pushLevel, promoteAbove, pushLemmas -/
theorem up_cp {f : Nat → Nat} {c q : Nat} (hc : c < 2 ^ 31) (hq : q < 2 ^ 31) : upd (fun i => nI (f i)) (nI c).toNatClampNeg ((fun i => nI (f i)) (nI q).toNatClampNeg) = (fun i => nI (up_n f c (f q) i)) := by
  rw [nI_clamp hq]; exact up_I hc
section
variable {C : gt_C} {vv : gt_V} {dd : (Nat → Int64)} {sm : (Nat → Int32)} {aa : gt_A} {bb : gt_B} {ee : gt_E} {oo : gt_O} {ll : gt_L} {pp : gt_P} {ff : gt_F} {hh : gt_H} {kk : gt_K}
theorem xm_al167 {post : SX → Prop} {k : Nat} (hk : k ≤ 1000) (K : ∀ st, post (mk_X C vv dd sm aa bb ee oo (((xl_lc ll, xl_lm ll, xl_lv ll, xl_le ll, st) : gt_L)) pp ff hh kk)) : ∀ n i st, k + 1 - i < n → i ≤ k + 1 → wX_addLemma_167 post (nI k) (nI (xc_ci C)) (nI (xc_cl C)) (nI (xc_cg C)) (nI (xc_N C)) (nI (xc_ni C)) (nI (xc_nl C)) (nI (xc_ng C)) (nI (xc_fx C)) (nI (xc_on C)) (nI (xv_ph vv)) (nI (xv_fr vv)) (nI (xv_cc vv)) (nI (xa_ts aa)) (xa_cf aa) (xa_ch aa) (nI (xa_km aa)) (nI (xa_kv aa)) (nI (xb_bc bb)) (nI (xe_dc ee)) (nI (xo_ss oo)) (nI (xo_si oo)) (nI (xl_lc ll)) (xp_gb pp) (nI (xp_gm pp)) (nI (xp_gv pp)) (nI (xf_m ff)) (nI (xf_v ff)) (nI (xh_m hh)) (nI (xh_v hh)) n (nI i) (fun zi => nI (xc_kind C zi)) (fun zi => nI (xc_idx C zi)) (fun zi => nI (xc_opA C zi)) (fun zi => nI (xc_opB C zi)) (fun zi => nI (xc_inN C zi)) (fun zi => nI (xc_laN C zi)) (fun zi => nI (xc_root C zi)) (fun zi => nI (xv_cm vv zi)) (fun zi => nI (xv_cv vv zi)) (fun zi => nI (xv_ts vv zi)) (fun zi => nI (xv_ti vv zi)) dd sm (xa_val aa) (fun zi => nI (xa_tr aa zi)) (fun zi => nI (xb_bm bb zi)) (fun zi => nI (xb_bv bb zi)) (fun zi => nI (xe_dn ee zi)) (fun zi => nI (xe_dm ee zi)) (xe_df ee) (fun zi => nI (xl_lm (((xl_lc ll, xl_lm ll, xl_lv ll, xl_le ll, st) : gt_L)) zi)) (fun zi => nI (xl_lv (((xl_lc ll, xl_lm ll, xl_lv ll, xl_le ll, st) : gt_L)) zi)) (fun zi => nI (xl_le (((xl_lc ll, xl_lm ll, xl_lv ll, xl_le ll, st) : gt_L)) zi)) (xl_st (((xl_lc ll, xl_lm ll, xl_lv ll, xl_le ll, st) : gt_L))) (fun zi => nI (xk_m kk zi)) (fun zi => nI (xk_v kk zi)) := by
  intro n
  induction n with
  | zero => intro i st h; omega
  | succ n ih =>
    intro i st hn hi
    refine pk_lt k i (fun _ => K st) (fun hle => pk_le 68 i (fun _ => K st) (fun hlt => ⟨vp_in_nI (by omega) (by omega), nm_r (up_R (by omega)) (nm_r (nI_1 i) ?_)⟩))
    exact ih (i + 1) (upd st i (vp_nar .boolean 0)) (by omega) (by omega)
theorem xm_al65 {post : SX → Prop} {J : (Int32 → Int32 → (Nat → Int32) → (Nat → Int32) → (Nat → Int32) → (Nat → Int32) → (Nat → Int32) → (Nat → Int32) → (Nat → Int32) → (Nat → Int32) → (Nat → Int32) → (Nat → Int32) → (Nat → Int32) → (Nat → Int64) → (Nat → Int32) → (Nat → Int32) → (Nat → Int32) → (Nat → Int32) → (Nat → Int32) → (Nat → Int32) → (Nat → Int32) → (Nat → Int32) → (Nat → Int32) → (Nat → Int32) → (Nat → Int32) → (Nat → Int32) → (Nat → Int32) → (Nat → Int32) → Prop)} {x1 x2 x3 : Int32} {c q : Nat} {l' : gt_L} (hc : c < 768) (hq : q < 768) (K : J (nI (c + 1)) (nI (q + 1)) (fun zi => nI (xc_kind C zi)) (fun zi => nI (xc_idx C zi)) (fun zi => nI (xc_opA C zi)) (fun zi => nI (xc_opB C zi)) (fun zi => nI (xc_inN C zi)) (fun zi => nI (xc_laN C zi)) (fun zi => nI (xc_root C zi)) (fun zi => nI (xv_cm vv zi)) (fun zi => nI (xv_cv vv zi)) (fun zi => nI (xv_ts vv zi)) (fun zi => nI (xv_ti vv zi)) dd sm (xa_val aa) (fun zi => nI (xa_tr aa zi)) (fun zi => nI (xb_bm bb zi)) (fun zi => nI (xb_bv bb zi)) (fun zi => nI (xe_dn ee zi)) (fun zi => nI (xe_dm ee zi)) (xe_df ee) (fun zi => nI (xl_lm (((xl_lc l', up_n (xl_lm l') c (xl_lm l' q), up_n (xl_lv l') c (xl_lv l' q), up_n (xl_le l') c (xl_le l' q), xl_st l') : gt_L)) zi)) (fun zi => nI (xl_lv (((xl_lc l', up_n (xl_lm l') c (xl_lm l' q), up_n (xl_lv l') c (xl_lv l' q), up_n (xl_le l') c (xl_le l' q), xl_st l') : gt_L)) zi)) (fun zi => nI (xl_le (((xl_lc l', up_n (xl_lm l') c (xl_lm l' q), up_n (xl_lv l') c (xl_lv l' q), up_n (xl_le l') c (xl_le l' q), xl_st l') : gt_L)) zi)) (xl_st (((xl_lc l', up_n (xl_lm l') c (xl_lm l' q), up_n (xl_lv l') c (xl_lv l' q), up_n (xl_le l') c (xl_le l' q), xl_st l') : gt_L))) (fun zi => nI (xk_m kk zi)) (fun zi => nI (xk_v kk zi))) : wX_addLemma_65 post J x1 x2 x3 (nI c) (nI q) 0 (nI (xc_ci C)) (nI (xc_cl C)) (nI (xc_cg C)) (nI (xc_N C)) (nI (xc_ni C)) (nI (xc_nl C)) (nI (xc_ng C)) (nI (xc_fx C)) (nI (xc_on C)) (nI (xv_ph vv)) (nI (xv_fr vv)) (nI (xv_cc vv)) (nI (xa_ts aa)) (xa_cf aa) (xa_ch aa) (nI (xa_km aa)) (nI (xa_kv aa)) (nI (xb_bc bb)) (nI (xe_dc ee)) (nI (xo_ss oo)) (nI (xo_si oo)) (nI (xl_lc ll)) (xp_gb pp) (nI (xp_gm pp)) (nI (xp_gv pp)) (nI (xf_m ff)) (nI (xf_v ff)) (nI (xh_m hh)) (nI (xh_v hh)) (fun zi => nI (xc_kind C zi)) (fun zi => nI (xc_idx C zi)) (fun zi => nI (xc_opA C zi)) (fun zi => nI (xc_opB C zi)) (fun zi => nI (xc_inN C zi)) (fun zi => nI (xc_laN C zi)) (fun zi => nI (xc_root C zi)) (fun zi => nI (xv_cm vv zi)) (fun zi => nI (xv_cv vv zi)) (fun zi => nI (xv_ts vv zi)) (fun zi => nI (xv_ti vv zi)) dd sm (xa_val aa) (fun zi => nI (xa_tr aa zi)) (fun zi => nI (xb_bm bb zi)) (fun zi => nI (xb_bv bb zi)) (fun zi => nI (xe_dn ee zi)) (fun zi => nI (xe_dm ee zi)) (xe_df ee) (fun zi => nI (xl_lm l' zi)) (fun zi => nI (xl_lv l' zi)) (fun zi => nI (xl_le l' zi)) (xl_st l') (fun zi => nI (xk_m kk zi)) (fun zi => nI (xk_v kk zi)) := by
  have hic : vp_in (nI c) 768 := vp_in_nI hc (by omega)
  have hiq : vp_in (nI q) 768 := vp_in_nI hq (by omega)
  exact br_t rfl ⟨hiq, hic, nm_r (up_cp (by omega) (by omega)) ⟨hiq, hic, nm_r (up_cp (by omega) (by omega)) ⟨hiq, hic, nm_r (up_cp (by omega) (by omega)) (nm_r (nI_1 c) (nm_r (nI_1 q) K))⟩⟩⟩
theorem xm_al17 {post : SX → Prop} {m v k : Nat} (hC : cr_OK C) (hT : fr_T C ll) (hD : fr_D ll) (hm : cu_ok C m v) (hk : k ≤ 1000) (hnb : ∀ q, q < xl_lc ll → k ≤ xl_le ll q → ¬ cv_c (xl_lm ll q) (xl_lv ll q) m v) (K : ∀ l', al_R ll l' m v k → post (mk_X C vv dd sm aa bb ee oo l' pp ff hh kk)) : ∀ n c q l', xl_lc ll - q < n → q ≤ xl_lc ll → al_H ll l' m v k c q → wX_addLemma_17 post (nI m) (nI v) (nI k) (nI (xc_ci C)) (nI (xc_cl C)) (nI (xc_cg C)) (nI (xc_N C)) (nI (xc_ni C)) (nI (xc_nl C)) (nI (xc_ng C)) (nI (xc_fx C)) (nI (xc_on C)) (nI (xv_ph vv)) (nI (xv_fr vv)) (nI (xv_cc vv)) (nI (xa_ts aa)) (xa_cf aa) (xa_ch aa) (nI (xa_km aa)) (nI (xa_kv aa)) (nI (xb_bc bb)) (nI (xe_dc ee)) (nI (xo_ss oo)) (nI (xo_si oo)) (nI (xl_lc ll)) (xp_gb pp) (nI (xp_gm pp)) (nI (xp_gv pp)) (nI (xf_m ff)) (nI (xf_v ff)) (nI (xh_m hh)) (nI (xh_v hh)) n (nI c) (nI q) (fun zi => nI (xc_kind C zi)) (fun zi => nI (xc_idx C zi)) (fun zi => nI (xc_opA C zi)) (fun zi => nI (xc_opB C zi)) (fun zi => nI (xc_inN C zi)) (fun zi => nI (xc_laN C zi)) (fun zi => nI (xc_root C zi)) (fun zi => nI (xv_cm vv zi)) (fun zi => nI (xv_cv vv zi)) (fun zi => nI (xv_ts vv zi)) (fun zi => nI (xv_ti vv zi)) dd sm (xa_val aa) (fun zi => nI (xa_tr aa zi)) (fun zi => nI (xb_bm bb zi)) (fun zi => nI (xb_bv bb zi)) (fun zi => nI (xe_dn ee zi)) (fun zi => nI (xe_dm ee zi)) (xe_df ee) (fun zi => nI (xl_lm l' zi)) (fun zi => nI (xl_lv l' zi)) (fun zi => nI (xl_le l' zi)) (xl_st l') (fun zi => nI (xk_m kk zi)) (fun zi => nI (xk_v kk zi)) := by
  have p64 := cr_p64 hC
  have h729 := fr_729 hC (fun q hq => (hT.2 q hq).1) hD
  intro n
  induction n with
  | zero => intro c q l' h; omega
  | succ n ih =>
    intro c q l' hn hq hH
    have hcq := hH.1
    by_cases e : q < xl_lc ll
    · have hiq : vp_in (nI q) 768 := vp_in_nI (by omega) (by omega)
      obtain ⟨t1, t2, t3⟩ := hT.2 q e
      obtain ⟨r1, r2, r3⟩ := hH.2.1 q (Nat.le_refl _)
      have t4 := cu_vlt t1
      have t5 := t1.1
      have hmv := cu_vlt hm
      have hm1 := hm.1
      refine br_f (nI_ge e (by omega)) ⟨hiq, ?_⟩
      rw [nI_clamp (by omega)]
      refine pk_lt k (xl_le l' q) (fun hlt => ?_) (fun hge => ⟨hiq, hiq, ?_⟩) rfl rfl (by omega) (by omega)
      · unfold wX_addLemma_64
        exact xm_al65 (by omega) (by omega) (ih (c + 1) (q + 1) _ (by omega) (by omega) (al_Hk hD e (fun z => by omega) hH))
      · refine xm_cov (C := C) (vv := vv) (dd := dd) (sm := sm) (aa := aa) (bb := bb) (ee := ee) (oo := oo) (ll := ((xl_lc ll, xl_lm l', xl_lv l', xl_le l', xl_st l') : gt_L)) (pp := pp) (ff := ff) (hh := hh) (kk := kk) (om := m) (ov := v) (m := xl_lm l' q) (v := xl_lv l' q) (by omega) (by omega) (by omega) (fun hc => ?_) (fun hc => ?_)
        · rw [r1, r2] at hc
          refine br_f (by decide) ?_
          exact br_f (by decide) (nm_r (nI_1 q) (ih c (q + 1) l' (by omega) (by omega) (al_Hd hH ⟨by omega, hc⟩)))
        · rw [r1, r2] at hc
          refine br_t rfl ?_
          unfold wX_addLemma_64
          exact xm_al65 (by omega) (by omega) (ih (c + 1) (q + 1) _ (by omega) (by omega) (al_Hk hD e (fun z => hc z.2) hH))
    · have eq : q = xl_lc ll := by omega
      subst eq
      have hic : vp_in (nI c) 768 := vp_in_nI (by omega) (by omega)
      refine br_t (nI_le (Nat.le_refl _) (by omega)) (br_f (nI_ge (b := 768) (by omega) (by omega)) ⟨hic, nm_r (up_I (by omega)) ⟨hic, nm_r (up_I (by omega)) ⟨hic, nm_r (up_I (by omega)) (nm_r (nI_1 c) ?_)⟩⟩⟩)
      refine ⟨k + 2, xm_al167 (ll := ((c + 1, up_n (xl_lm l') c m, up_n (xl_lv l') c v, up_n (xl_le l') c k, xl_st l') : gt_L)) hk (fun st => ?_) (k + 2) 1 (xl_st l') (by omega) (by omega)⟩
      exact K _ (al_Hf (st := st) hC hT hD hm hnb hH)
theorem xm_al {post : SX → Prop} {m v k : Nat} (hC : cr_OK C) (hT : fr_T C ll) (hD : fr_D ll) (hm : cu_ok C m v) (hk : k ≤ 1000) (hnb : ∀ q, q < xl_lc ll → k ≤ xl_le ll q → ¬ cv_c (xl_lm ll q) (xl_lv ll q) m v) (K : ∀ l', al_R ll l' m v k → post (mk_X C vv dd sm aa bb ee oo l' pp ff hh kk)) : wpX_addLemma post (mk_X C vv dd sm aa bb ee oo ll pp ff hh kk) (nI m) (nI v) (nI k) := by
  have p64 := cr_p64 hC
  have hmv := cu_vlt hm
  refine xm_ib hC hT (by omega) (by omega) (fun ⟨q, h1, h2, h3⟩ => absurd h3 (hnb q h1 h2)) (fun _ => br_t rfl ?_)
  exact ⟨xl_lc ll + 1, xm_al17 hC hT hD hm hk hnb K (xl_lc ll + 1) 0 0 ll (by omega) (by omega) (al_H0 ll m v k)⟩
end
/-- the next frames hold less -/
def fr_L (l l' : gt_L) : Prop := ∀ j s, fr_F l' j s → fr_F l j s
theorem fr_L_r (l : gt_L) : fr_L l l := fun _ _ h => h
theorem fr_L_t {a b c : gt_L} (h : fr_L a b) (k : fr_L b c) : fr_L a c := fun j s z => h j s (k j s z)
/-- pushing one lemma -/
theorem ps_I {C : gt_C} {l : gt_L} {i q : Nat} {st : Nat → Int32} (h : fr_I C l) (hq : q < xl_lc l) (hi : xl_le l q = i) (hi2 : i < 1000) (hn : np_P C l i (xl_lm l q) (xl_lv l q)) : fr_I C (((xl_lc l, xl_lm l, xl_lv l, up_n (xl_le l) q (i + 1), st) : gt_L)) ∧ fr_L l (((xl_lc l, xl_lm l, xl_lv l, up_n (xl_le l) q (i + 1), st) : gt_L)) := by
  obtain ⟨⟨h1, h1'⟩, h2, h3, h4⟩ := h
  have hi1 : 1 ≤ i := by have := (h1' q hq).2.1; omega
  have ele : ∀ p, xl_le l p ≤ up_n (xl_le l) q (i + 1) p := by
    intro p
    by_cases e : p = q
    · subst e; rw [up_s]; omega
    · rw [up_o e]; exact Nat.le_refl _
  have hL : fr_L l (((xl_lc l, xl_lm l, xl_lv l, up_n (xl_le l) q (i + 1), st) : gt_L)) := by
    intro j s hF p hp hj
    exact hF p hp (Nat.le_trans hj (ele p))
  refine ⟨⟨⟨h1, fun p hp => ?_⟩, h2, h3, fun j s u hs hu hF hleg => ?_⟩, hL⟩
  · obtain ⟨a, b, c⟩ := h1' p hp
    refine ⟨a, Nat.le_trans b (ele p), ?_⟩
    show up_n (xl_le l) q (i + 1) p ≤ 1000
    by_cases e : p = q
    · subst e; rw [up_s]; omega
    · rw [up_o e]; exact c
  · have hA : fr_A C l j s := ⟨hF.1, fun y => hL j s (hF.2 y)⟩
    have hN := h4 j s u hs hu hA hleg
    intro p hp hj
    have hj' : j + 1 ≤ up_n (xl_le l) q (i + 1) p := hj
    by_cases e : p = q
    · subst e
      rw [up_s] at hj'
      by_cases ej : j = i
      · subst ej
        refine hn s u hs hu hA ?_ hleg
        exact hA.2 (by omega) p hp (by omega)
      · exact hN p hp (by omega)
    · rw [up_o e] at hj'
      exact hN p hp hj'
/-- promoting -/
theorem pr_I {C : gt_C} {l l' : gt_L} {i : Nat} (h : fr_I C l) (hi : 1 ≤ i) (hi2 : i < 1000) (hno : ∀ q, q < xl_lc l → xl_le l q ≠ i) (e1 : xl_lc l' = xl_lc l) (e2 : ∀ q, q < xl_lc l → xl_lm l' q = xl_lm l q ∧ xl_lv l' q = xl_lv l q ∧ xl_le l' q = if i < xl_le l q then 1000 else xl_le l q) : fr_I C l' := by
  obtain ⟨⟨h1, h1'⟩, h2, h3, h4⟩ := h
  have F1 : ∀ j s, fr_F l' j s → fr_F l j s := by
    intro j s hF q hq hj
    obtain ⟨a, b, c⟩ := e2 q hq
    have := hF q (by omega) (by
      rw [c]
      have := (h1' q hq).2.2
      split <;> omega)
    rw [a, b] at this
    exact this
  have F2 : ∀ j s, i ≤ j → j ≤ 1000 → fr_F l' j s → fr_F l i s := by
    intro j s hij hj hF q hq hle
    obtain ⟨a, b, c⟩ := e2 q hq
    have hne := hno q hq
    have := hF q (by omega) (by rw [c, if_pos (by omega)]; exact hj)
    rw [a, b] at this
    exact this
  refine ⟨⟨by omega, fun q hq => ?_⟩, fun p q hpq hq => ?_, fun q hq => ?_, fun j s u hs hu hF hleg => ?_⟩
  · obtain ⟨a, b, c⟩ := e2 q (by omega)
    obtain ⟨x, y, z⟩ := h1' q (by omega)
    rw [a, b, c]
    refine ⟨x, ?_, ?_⟩ <;> split <;> omega
  · obtain ⟨a, b, c⟩ := e2 q (by omega)
    obtain ⟨a', b', c'⟩ := e2 p (by omega)
    rw [a, b, a', b']
    exact h2 p q hpq (by omega)
  · obtain ⟨a, b, c⟩ := e2 q (by omega)
    rw [a, b]
    exact h3 q (by omega)
  · intro q hq hj
    obtain ⟨a, b, c⟩ := e2 q (by omega)
    rw [c] at hj
    rw [a, b]
    by_cases hji : j < i
    · have hA : fr_A C l j s := ⟨hF.1, fun y => F1 j s (hF.2 y)⟩
      refine h4 j s u hs hu hA hleg q (by omega) ?_
      split at hj <;> omega
    · have hj1 : j + 1 ≤ 1000 := by
        have := (h1' q (by omega)).2.2
        split at hj <;> omega
      have hA : fr_A C l i s := ⟨fun y => by omega, fun _ => F2 j s (by omega) (by omega) (hF.2 (by omega))⟩
      refine h4 i s u hs hu hA hleg q (by omega) ?_
      have := hno q (by omega)
      split at hj <;> omega
section
variable {C : gt_C} {vv : gt_V} {dd : (Nat → Int64)} {sm : (Nat → Int32)} {aa : gt_A} {bb : gt_B} {ee : gt_E} {oo : gt_O} {ll : gt_L} {pp : gt_P} {ff : gt_F} {hh : gt_H} {kk : gt_K}
theorem xm_pl4 {post : Int32 → SX → Prop} {i : Nat} {l0 : gt_L} (hC : cr_OK C) (hi : 1 ≤ i) (hi2 : i < 67) (K : ∀ c a b e o l, fr_I C l → fr_L l0 l → (c = 0 → ∀ q, q < xl_lc l → xl_le l q ≠ i) → c ≤ 767 → post (nI c) (mk_X C vv dd sm a b e o l pp ff hh kk)) : ∀ n c q a b e o l, xl_lc l - q < n → q ≤ xl_lc l → c ≤ q → fr_I C l → fr_L l0 l → (c = 0 → ∀ p, p < q → xl_le l p ≠ i) → wX_pushLevel_4 post (nI i) n (nI c) (nI q) (nI (xc_ci C)) (nI (xc_cl C)) (nI (xc_cg C)) (nI (xc_N C)) (nI (xc_ni C)) (nI (xc_nl C)) (nI (xc_ng C)) (nI (xc_fx C)) (nI (xc_on C)) (nI (xv_ph vv)) (nI (xv_fr vv)) (nI (xv_cc vv)) (nI (xa_ts a)) (xa_cf a) (xa_ch a) (nI (xa_km a)) (nI (xa_kv a)) (nI (xb_bc b)) (nI (xe_dc e)) (nI (xo_ss o)) (nI (xo_si o)) (nI (xl_lc l)) (xp_gb pp) (nI (xp_gm pp)) (nI (xp_gv pp)) (nI (xf_m ff)) (nI (xf_v ff)) (nI (xh_m hh)) (nI (xh_v hh)) (fun zi => nI (xc_kind C zi)) (fun zi => nI (xc_idx C zi)) (fun zi => nI (xc_opA C zi)) (fun zi => nI (xc_opB C zi)) (fun zi => nI (xc_inN C zi)) (fun zi => nI (xc_laN C zi)) (fun zi => nI (xc_root C zi)) (fun zi => nI (xv_cm vv zi)) (fun zi => nI (xv_cv vv zi)) (fun zi => nI (xv_ts vv zi)) (fun zi => nI (xv_ti vv zi)) dd sm (xa_val a) (fun zi => nI (xa_tr a zi)) (fun zi => nI (xb_bm b zi)) (fun zi => nI (xb_bv b zi)) (fun zi => nI (xe_dn e zi)) (fun zi => nI (xe_dm e zi)) (xe_df e) (fun zi => nI (xl_lm l zi)) (fun zi => nI (xl_lv l zi)) (fun zi => nI (xl_le l zi)) (xl_st l) (fun zi => nI (xk_m kk zi)) (fun zi => nI (xk_v kk zi)) := by
  intro n
  induction n with
  | zero => intro c q a b e o l h; omega
  | succ n ih =>
    intro c q a b e o l hn hq hcq hI hL hc
    have hl := hI.1.1
    by_cases eq : q < xl_lc l
    · have hin : vp_in (nI q) 768 := vp_in_nI (by omega) (by omega)
      obtain ⟨t1, t2, t3⟩ := hI.1.2 q eq
      refine br_f (nI_ge eq (by omega)) ⟨hin, ?_⟩
      rw [nI_clamp (by omega)]
      refine pk_eq (xl_le l q) i (fun hle => ⟨hin, hin, ?_⟩) (fun hne => nm_r (nI_1 q) (ih c (q + 1) a b e o l (by omega) (by omega) (by omega) hI hL (fun z => bt_lt.mpr ⟨hc z, hne⟩)))
      refine xm_hp (ll := l) hC hI.1 t1 (by omega) (fun a' b' e' o' _ _ _ _ _ _ => ?_) (fun a' b' e' o' hno => ?_)
      · exact br_f (by decide) (nm_r (nI_1 c) (nm_r (nI_1 q) (ih (c + 1) (q + 1) a' b' e' o' l (by omega) (by omega) (by omega) hI hL (fun z => absurd z (by omega)))))
      · have ei1 : nI i + 1 = nI (i + 1) := nI_1 i
        obtain ⟨p1, p2⟩ := ps_I (st := upd (xl_st l) (i + 1) 0) hI eq hle (by omega) hno
        refine br_t rfl ⟨hin, nm_r (e' := fun x => nI (up_n (xl_le l) q (i + 1) x)) (by rw [ei1]; exact up_L) ⟨by rw [ei1]; exact vp_in_nI (by omega) (by omega), nm_r (e' := upd (xl_st l) (i + 1) 0) (by rw [ei1, nI_clamp (by omega)]; rfl) (nm_r (nI_1 q) ?_)⟩⟩
        refine ih c (q + 1) a' b' e' o' _ (by show xl_lc l - (q + 1) < n; omega) (by show q + 1 ≤ xl_lc l; omega) (by omega) p1 (fr_L_t hL p2) (fun z => ?_)
        intro p hp
        show up_n (xl_le l) q (i + 1) p ≠ i
        by_cases ep : p = q
        · subst ep; rw [up_s]; omega
        · rw [up_o ep]; exact hc z p (by omega)
    · have eq : q = xl_lc l := by omega
      subst eq
      exact br_t (nI_le (Nat.le_refl _) (by omega)) (K c a b e o l hI hL hc (by omega))
theorem xm_pl {post : Int32 → SX → Prop} {i : Nat} (hC : cr_OK C) (hi : 1 ≤ i) (hi2 : i < 67) (hI : fr_I C ll) (K : ∀ c a b e o l, fr_I C l → fr_L ll l → (c = 0 → ∀ q, q < xl_lc l → xl_le l q ≠ i) → c ≤ 767 → post (nI c) (mk_X C vv dd sm a b e o l pp ff hh kk)) : wpX_pushLevel post (mk_X C vv dd sm aa bb ee oo ll pp ff hh kk) (nI i) :=
  ⟨xl_lc ll + 1, xm_pl4 hC hi hi2 K (xl_lc ll + 1) 0 0 aa bb ee oo ll (by omega) (by omega) (by omega) hI (fr_L_r ll) (fun _ p hp => absurd hp (by omega))⟩
theorem xm_pr37 {post : SX → Prop} (K : ∀ st, post (mk_X C vv dd sm aa bb ee oo (((xl_lc ll, xl_lm ll, xl_lv ll, xl_le ll, st) : gt_L)) pp ff hh kk)) : ∀ n i st, 68 - i < n → i ≤ 68 → wX_promoteAbove_37 post (nI (xc_ci C)) (nI (xc_cl C)) (nI (xc_cg C)) (nI (xc_N C)) (nI (xc_ni C)) (nI (xc_nl C)) (nI (xc_ng C)) (nI (xc_fx C)) (nI (xc_on C)) (nI (xv_ph vv)) (nI (xv_fr vv)) (nI (xv_cc vv)) (nI (xa_ts aa)) (xa_cf aa) (xa_ch aa) (nI (xa_km aa)) (nI (xa_kv aa)) (nI (xb_bc bb)) (nI (xe_dc ee)) (nI (xo_ss oo)) (nI (xo_si oo)) (nI (xl_lc ll)) (xp_gb pp) (nI (xp_gm pp)) (nI (xp_gv pp)) (nI (xf_m ff)) (nI (xf_v ff)) (nI (xh_m hh)) (nI (xh_v hh)) n (nI i) (fun zi => nI (xc_kind C zi)) (fun zi => nI (xc_idx C zi)) (fun zi => nI (xc_opA C zi)) (fun zi => nI (xc_opB C zi)) (fun zi => nI (xc_inN C zi)) (fun zi => nI (xc_laN C zi)) (fun zi => nI (xc_root C zi)) (fun zi => nI (xv_cm vv zi)) (fun zi => nI (xv_cv vv zi)) (fun zi => nI (xv_ts vv zi)) (fun zi => nI (xv_ti vv zi)) dd sm (xa_val aa) (fun zi => nI (xa_tr aa zi)) (fun zi => nI (xb_bm bb zi)) (fun zi => nI (xb_bv bb zi)) (fun zi => nI (xe_dn ee zi)) (fun zi => nI (xe_dm ee zi)) (xe_df ee) (fun zi => nI (xl_lm (((xl_lc ll, xl_lm ll, xl_lv ll, xl_le ll, st) : gt_L)) zi)) (fun zi => nI (xl_lv (((xl_lc ll, xl_lm ll, xl_lv ll, xl_le ll, st) : gt_L)) zi)) (fun zi => nI (xl_le (((xl_lc ll, xl_lm ll, xl_lv ll, xl_le ll, st) : gt_L)) zi)) (xl_st (((xl_lc ll, xl_lm ll, xl_lv ll, xl_le ll, st) : gt_L))) (fun zi => nI (xk_m kk zi)) (fun zi => nI (xk_v kk zi)) := by
  intro n
  induction n with
  | zero => intro i st h; omega
  | succ n ih =>
    intro i st hn hi
    refine pk_le 68 i (fun _ => K st) (fun hlt => ⟨vp_in_nI (by omega) (by omega), nm_r (up_R (by omega)) (nm_r (nI_1 i) ?_)⟩)
    exact ih (i + 1) (upd st i (vp_nar .boolean 0)) (by omega) (by omega)
theorem xm_pr2 {post : SX → Prop} {i : Nat} (hT : fr_T C ll) (hi : i < 1000) (K : ∀ l', xl_lc l' = xl_lc ll → (∀ q, q < xl_lc ll → xl_lm l' q = xl_lm ll q ∧ xl_lv l' q = xl_lv ll q ∧ xl_le l' q = if i < xl_le ll q then 1000 else xl_le ll q) → post (mk_X C vv dd sm aa bb ee oo l' pp ff hh kk)) : ∀ n q l', xl_lc ll - q < n → q ≤ xl_lc ll → xl_lm l' = xl_lm ll → xl_lv l' = xl_lv ll → (∀ p, p < q → xl_le l' p = if i < xl_le ll p then 1000 else xl_le ll p) → (∀ p, q ≤ p → xl_le l' p = xl_le ll p) → wX_promoteAbove_2 post (nI i) (nI (xc_ci C)) (nI (xc_cl C)) (nI (xc_cg C)) (nI (xc_N C)) (nI (xc_ni C)) (nI (xc_nl C)) (nI (xc_ng C)) (nI (xc_fx C)) (nI (xc_on C)) (nI (xv_ph vv)) (nI (xv_fr vv)) (nI (xv_cc vv)) (nI (xa_ts aa)) (xa_cf aa) (xa_ch aa) (nI (xa_km aa)) (nI (xa_kv aa)) (nI (xb_bc bb)) (nI (xe_dc ee)) (nI (xo_ss oo)) (nI (xo_si oo)) (nI (xl_lc ll)) (xp_gb pp) (nI (xp_gm pp)) (nI (xp_gv pp)) (nI (xf_m ff)) (nI (xf_v ff)) (nI (xh_m hh)) (nI (xh_v hh)) n (nI q) (fun zi => nI (xc_kind C zi)) (fun zi => nI (xc_idx C zi)) (fun zi => nI (xc_opA C zi)) (fun zi => nI (xc_opB C zi)) (fun zi => nI (xc_inN C zi)) (fun zi => nI (xc_laN C zi)) (fun zi => nI (xc_root C zi)) (fun zi => nI (xv_cm vv zi)) (fun zi => nI (xv_cv vv zi)) (fun zi => nI (xv_ts vv zi)) (fun zi => nI (xv_ti vv zi)) dd sm (xa_val aa) (fun zi => nI (xa_tr aa zi)) (fun zi => nI (xb_bm bb zi)) (fun zi => nI (xb_bv bb zi)) (fun zi => nI (xe_dn ee zi)) (fun zi => nI (xe_dm ee zi)) (xe_df ee) (fun zi => nI (xl_lm l' zi)) (fun zi => nI (xl_lv l' zi)) (fun zi => nI (xl_le l' zi)) (xl_st l') (fun zi => nI (xk_m kk zi)) (fun zi => nI (xk_v kk zi)) := by
  have hl := hT.1
  intro n
  induction n with
  | zero => intro q l' h; omega
  | succ n ih =>
    intro q l' hn hq e1 e2 h1 h2
    by_cases eq : q < xl_lc ll
    · have hin : vp_in (nI q) 768 := vp_in_nI (by omega) (by omega)
      obtain ⟨t1, t2, t3⟩ := hT.2 q eq
      have hle := h2 q (Nat.le_refl _)
      refine br_f (nI_ge eq (by omega)) ⟨hin, ?_⟩
      rw [nI_clamp (by omega)]
      refine pk_le (xl_le l' q) i (fun h => nm_r (nI_1 q) (ih (q + 1) l' (by omega) (by omega) e1 e2 (bt_lt.mpr ⟨h1, ?_⟩) (fun p hp => h2 p (by omega)))) (fun h => ⟨hin, nm_r (e' := fun x => nI (up_n (xl_le l') q 1000 x)) up_L (nm_r (nI_1 q) (ih (q + 1) (((xl_lc l', xl_lm l', xl_lv l', up_n (xl_le l') q 1000, xl_st l') : gt_L)) (by omega) (by omega) e1 e2 (fun p hp => ?_) (fun p hp => ?_)))⟩) rfl rfl (by omega) (by omega)
      · rw [if_neg (by omega), hle]
      · show up_n (xl_le l') q 1000 p = _
        by_cases ep : p = q
        · subst ep; rw [up_s, if_pos (by omega)]
        · rw [up_o ep]; exact h1 p (by omega)
      · show up_n (xl_le l') q 1000 p = _
        rw [up_o (by omega)]
        exact h2 p (by omega)
    · have eq : q = xl_lc ll := by omega
      subst eq
      refine br_t (nI_le (Nat.le_refl _) (by omega)) ⟨69, xm_pr37 (ll := ((xl_lc ll, xl_lm l', xl_lv l', xl_le l', xl_st l') : gt_L)) (fun st => ?_) 69 0 (xl_st l') (by omega) (by omega)⟩
      exact K _ rfl (fun p hp => ⟨congrFun e1 p, congrFun e2 p, h1 p hp⟩)
theorem xm_pr {post : SX → Prop} {i : Nat} (hT : fr_T C ll) (hi : i < 1000) (K : ∀ l', xl_lc l' = xl_lc ll → (∀ q, q < xl_lc ll → xl_lm l' q = xl_lm ll q ∧ xl_lv l' q = xl_lv ll q ∧ xl_le l' q = if i < xl_le ll q then 1000 else xl_le ll q) → post (mk_X C vv dd sm aa bb ee oo l' pp ff hh kk)) : wpX_promoteAbove post (mk_X C vv dd sm aa bb ee oo ll pp ff hh kk) (nI i) :=
  ⟨xl_lc ll + 1, xm_pr2 hT hi K (xl_lc ll + 1) 0 ll (by omega) (by omega) rfl rfl (fun p hp => absurd hp (by omega)) (fun _ _ => rfl)⟩
theorem xm_pm2 {post : Int32 → SX → Prop} {top : Nat} {l0 : gt_L} (hC : cr_OK C) (ht : top ≤ 64) (K0 : ∀ a b e o l, fr_I C l → fr_L l0 l → post 0 (mk_X C vv dd sm a b e o l pp ff hh kk)) (K1 : ∀ a b e o l l2 i, 1 ≤ i → i ≤ top → fr_I C l → fr_L l0 l → (∀ q, q < xl_lc l → xl_le l q ≠ i) → fr_I C l2 → post 1 (mk_X C vv dd sm a b e o l2 pp ff hh kk)) : ∀ n i a b e o l, top + 1 - i < n → 1 ≤ i → i ≤ top + 1 → fr_I C l → fr_L l0 l → wX_pushLemmas_2 post (nI top) n (nI i) (nI (xc_ci C)) (nI (xc_cl C)) (nI (xc_cg C)) (nI (xc_N C)) (nI (xc_ni C)) (nI (xc_nl C)) (nI (xc_ng C)) (nI (xc_fx C)) (nI (xc_on C)) (nI (xv_ph vv)) (nI (xv_fr vv)) (nI (xv_cc vv)) (nI (xa_ts a)) (xa_cf a) (xa_ch a) (nI (xa_km a)) (nI (xa_kv a)) (nI (xb_bc b)) (nI (xe_dc e)) (nI (xo_ss o)) (nI (xo_si o)) (nI (xl_lc l)) (xp_gb pp) (nI (xp_gm pp)) (nI (xp_gv pp)) (nI (xf_m ff)) (nI (xf_v ff)) (nI (xh_m hh)) (nI (xh_v hh)) (fun zi => nI (xc_kind C zi)) (fun zi => nI (xc_idx C zi)) (fun zi => nI (xc_opA C zi)) (fun zi => nI (xc_opB C zi)) (fun zi => nI (xc_inN C zi)) (fun zi => nI (xc_laN C zi)) (fun zi => nI (xc_root C zi)) (fun zi => nI (xv_cm vv zi)) (fun zi => nI (xv_cv vv zi)) (fun zi => nI (xv_ts vv zi)) (fun zi => nI (xv_ti vv zi)) dd sm (xa_val a) (fun zi => nI (xa_tr a zi)) (fun zi => nI (xb_bm b zi)) (fun zi => nI (xb_bv b zi)) (fun zi => nI (xe_dn e zi)) (fun zi => nI (xe_dm e zi)) (xe_df e) (fun zi => nI (xl_lm l zi)) (fun zi => nI (xl_lv l zi)) (fun zi => nI (xl_le l zi)) (xl_st l) (fun zi => nI (xk_m kk zi)) (fun zi => nI (xk_v kk zi)) := by
  intro n
  induction n with
  | zero => intro i a b e o l h; omega
  | succ n ih =>
    intro i a b e o l hn hi1 hi hI hL
    refine pk_lt top i (fun _ => K0 a b e o l hI hL) (fun hle => br_f (nI_ge (b := 67) (by omega) (by omega)) ⟨vp_in_nI (by omega) (by omega), ?_⟩)
    rw [nI_clamp (by omega)]
    refine br_c (fun hs => ?_) (fun hs => nm_r (nI_1 i) (ih (i + 1) a b e o l (by omega) (by omega) (by omega) hI hL))
    refine xm_pl (ll := l) hC hi1 (by omega) hI (fun c a' b' e' o' l' hI' hL' hc hc7 => ?_)
    refine pk_eq c 0 (fun hc0 => ?_) (fun hc0 => ⟨vp_in_nI (by omega) (by omega), nm_r (e' := upd (xl_st l') i 1) (by first | rfl | (rw [nI_clamp (by omega)]; rfl)) (nm_r (nI_1 i) ?_)⟩)
    · refine xm_pr (ll := l') hI'.1 (by omega) (fun l2 e1 e2 => ?_)
      exact K1 a' b' e' o' l' l2 i hi1 hle hI' (fr_L_t hL hL') (hc hc0) (pr_I hI' hi1 (by omega) (hc hc0) e1 e2)
    · exact ih (i + 1) a' b' e' o' (((xl_lc l', xl_lm l', xl_lv l', xl_le l', upd (xl_st l') i 1) : gt_L)) (by omega) (by omega) (by omega) hI' (fr_L_t hL hL')
theorem xm_pm {post : Int32 → SX → Prop} {top : Nat} (hC : cr_OK C) (ht : top ≤ 64) (hI : fr_I C ll) (K0 : ∀ a b e o l, fr_I C l → fr_L ll l → post 0 (mk_X C vv dd sm a b e o l pp ff hh kk)) (K1 : ∀ a b e o l l2 i, 1 ≤ i → i ≤ top → fr_I C l → fr_L ll l → (∀ q, q < xl_lc l → xl_le l q ≠ i) → fr_I C l2 → post 1 (mk_X C vv dd sm a b e o l2 pp ff hh kk)) : wpX_pushLemmas post (mk_X C vv dd sm aa bb ee oo ll pp ff hh kk) (nI top) :=
  ⟨top + 1, xm_pm2 hC ht K0 K1 (top + 1) 1 aa bb ee oo ll (by omega) (by omega) (by omega) hI (fr_L_r ll)⟩
end
end
section
/-! walks: blockGoal, leastDistance -/
noncomputable def bo_b (p : Prop) : Bool := @decide p (Classical.propDecidable p)
theorem bo_t {p : Prop} : bo_b p = true ↔ p := by
  unfold bo_b
  exact @decide_eq_true_iff p (Classical.propDecidable p)
theorem bo_f {p : Prop} : bo_b p = false ↔ ¬ p := by
  unfold bo_b
  exact @decide_eq_false_iff_not p (Classical.propDecidable p)
def sg_n (f : Nat → Nat) : Nat → Nat
  | 0 => 0
  | n + 1 => sg_n f n + f n
theorem sg_le {f g : Nat → Nat} : ∀ n, (∀ i, i < n → f i ≤ g i) → sg_n f n ≤ sg_n g n := by
  intro n
  induction n with
  | zero => intro _; exact Nat.le_refl _
  | succ n ih =>
    intro h
    have a := ih (fun i hi => h i (by omega))
    have b := h n (by omega)
    show sg_n f n + f n ≤ sg_n g n + g n
    omega
theorem sg_lt {f g : Nat → Nat} {k : Nat} : ∀ n, (∀ i, i < n → f i ≤ g i) → k < n → f k < g k → sg_n f n < sg_n g n := by
  intro n
  induction n with
  | zero => intro _ h; omega
  | succ n ih =>
    intro h hk hl
    show sg_n f n + f n < sg_n g n + g n
    by_cases e : k = n
    · subst e
      have a := sg_le k (fun i hi => h i (by omega))
      omega
    · have a := ih (fun i hi => h i (by omega)) (by omega) hl
      have b := h n (by omega)
      omega
theorem sg_b {f : Nat → Nat} {c : Nat} : ∀ n, (∀ i, i < n → f i ≤ c) → sg_n f n ≤ c * n := by
  intro n
  induction n with
  | zero => intro _; exact Nat.le_refl _
  | succ n ih =>
    intro h
    have a := ih (fun i hi => h i (by omega))
    have b := h n (by omega)
    show sg_n f n + f n ≤ c * (n + 1)
    rw [Nat.mul_succ]
    omega
noncomputable def ps_c (l : gt_L) (top : Nat) (σ : Nat → Nat) (d t : Nat) : Nat := ct_n (fun s => bo_b (fr_F l (top - t) s ∧ (1 ≤ t → t ≤ d → s ≠ σ t))) 64
noncomputable def ps_S (l : gt_L) (top : Nat) (σ : Nat → Nat) (d : Nat) : Nat := sg_n (ps_c l top σ d) top
theorem ps_64 (l : gt_L) {top : Nat} (σ : Nat → Nat) (d : Nat) (ht : top ≤ 64) : ps_S l top σ d ≤ 4096 := by
  have := sg_b (f := ps_c l top σ d) (c := 64) top (fun i _ => ct_le _ _)
  unfold ps_S
  omega
theorem ps_L {l l' : gt_L} (h : fr_L l l') (top : Nat) (σ : Nat → Nat) (d : Nat) : ps_S l' top σ d ≤ ps_S l top σ d := by
  refine sg_le top (fun t _ => ct_mono 64 (fun s _ hs => ?_))
  have := bo_t.mp hs
  exact bo_t.mpr ⟨h _ s this.1, this.2⟩
theorem ps_pop {l : gt_L} {top : Nat} {σ : Nat → Nat} {d : Nat} (h : ¬ fr_F l (top - (d + 1)) (σ (d + 1))) : ps_S l top σ d ≤ ps_S l top σ (d + 1) := by
  refine sg_le top (fun t _ => ct_mono 64 (fun s _ hs => ?_))
  have hs := bo_t.mp hs
  refine bo_t.mpr ⟨hs.1, fun h1 h2 e => ?_⟩
  by_cases et : t = d + 1
  · subst et; rw [e] at hs; exact h hs.1
  · exact hs.2 h1 (by omega) e
theorem ps_push {l : gt_L} {top : Nat} {σ : Nat → Nat} {d x : Nat} (hd : d + 1 < top) (hx : x < 64) (h : fr_F l (top - (d + 1)) x) : ps_S l top (up_n σ (d + 1) x) (d + 1) < ps_S l top σ d := by
  refine sg_lt (k := d + 1) top (fun t _ => ct_mono 64 (fun s _ hs => ?_)) hd (ct_lt (k := x) 64 (fun s _ hs => ?_) hx ?_ ?_)
  · have hs := bo_t.mp hs
    refine bo_t.mpr ⟨hs.1, fun h1 h2 => ?_⟩
    have := hs.2 h1 (by omega)
    rw [up_o (by omega)] at this
    exact this
  · have hs := bo_t.mp hs
    exact bo_t.mpr ⟨hs.1, fun h1 h2 => absurd h2 (by omega)⟩
  · refine bo_f.mpr (fun z => z.2 (by omega) (Nat.le_refl _) ?_)
    rw [up_s]
  · exact bo_t.mpr ⟨h, fun _ h2 => absurd h2 (by omega)⟩
/-- to the goal in exactly t steps -/
def gd_P (C : gt_C) (Go : Nat → Prop) : Nat → Nat → Prop
  | 0 => fun s => Go s
  | t + 1 => fun s => ∃ s', cr_T C s s' ∧ gd_P C Go t s'
theorem gd_R {C : gt_C} {Go : Nat → Prop} : ∀ t k s, cr_R C k s → gd_P C Go t s → ∃ s', cr_R C (k + t) s' ∧ Go s' := by
  intro t
  induction t with
  | zero => intro k s h g; exact ⟨s, h, g⟩
  | succ t ih =>
    intro k s h g
    obtain ⟨s', hT, g'⟩ := g
    obtain ⟨z, h1, h2⟩ := ih (k + 1) s' ⟨s, h, hT⟩ g'
    exact ⟨z, by rw [show k + (t + 1) = k + 1 + t by omega]; exact h1, h2⟩
def ib_P (l : gt_L) (m v k : Nat) : Prop := ∃ q, q < xl_lc l ∧ k ≤ xl_le l q ∧ cv_c (xl_lm l q) (xl_lv l q) m v
theorem ib_F {l : gt_L} {m v k s : Nat} (h : ib_P l m v k) (hm : v &&& m = v) (hs : cu_in m v s) : ¬ fr_F l k s := by
  obtain ⟨q, h1, h2, h3⟩ := h
  exact fun hF => hF q h1 h2 (cv_in hm h3 hs)
def bg_I (C : gt_C) (Go : Nat → Prop) (top : Nat) (k : gt_K) (σ : Nat → Nat) (d : Nat) : Prop := d < top ∧ ∀ t, t ≤ d → cu_ok C (xk_m k t) (xk_v k t) ∧ (∀ s, s < 2 ^ xc_nl C → cu_in (xk_m k t) (xk_v k t) s → gd_P C Go t s) ∧ (1 ≤ t → cu_in (xk_m k t) (xk_v k t) (σ t))
section
variable {C : gt_C} {vv : gt_V} {dd : (Nat → Int64)} {sm : (Nat → Int32)} {aa : gt_A} {bb : gt_B} {ee : gt_E} {oo : gt_O} {ll : gt_L} {pp : gt_P} {ff : gt_F} {hh : gt_H} {kk : gt_K}
theorem xm_bg24 {post : Int32 → SX → Prop} {top m0 v0 : Nat} {Go : Nat → Prop} {l0 : gt_L} (hC : cr_OK C) (ht : top ≤ 64) (hno : ∀ j, j < top → ∀ s, cr_R C j s → ¬ Go s)
    (K1 : ∀ a b e o f g h k l, fr_I C l → fr_L l0 l → ib_P l m0 v0 top → post 1 (mk_X C vv dd f a b e o l pp g h k))
    (K0 : ∀ a b e o f g h k l, fr_I C l → (∃ s, cr_R C top s ∧ Go s) → post 0 (mk_X C vv dd f a b e o l pp g h k)) :
    ∀ n d gc fl σ a b e o f g h k l, 3 * ps_S l top σ d + 2 * d + fl < n → gc + (3 * ps_S l top σ d + 2 * d + fl) ≤ 12300 → bg_I C Go top k σ d → xk_m k 0 = m0 → xk_v k 0 = v0 → fr_I C l → fr_L l0 l → (fl = 1 ∨ (fl = 0 ∧ ib_P l (xk_m k d) (xk_v k d) (top - d))) → wX_blockGoal_24 post (nI top) n (nI d) (nI gc) (nI (xc_ci C)) (nI (xc_cl C)) (nI (xc_cg C)) (nI (xc_N C)) (nI (xc_ni C)) (nI (xc_nl C)) (nI (xc_ng C)) (nI (xc_fx C)) (nI (xc_on C)) (nI (xv_ph vv)) (nI (xv_fr vv)) (nI (xv_cc vv)) (nI (xa_ts a)) (xa_cf a) (xa_ch a) (nI (xa_km a)) (nI (xa_kv a)) (nI (xb_bc b)) (nI (xe_dc e)) (nI (xo_ss o)) (nI (xo_si o)) (nI (xl_lc l)) (xp_gb pp) (nI (xp_gm pp)) (nI (xp_gv pp)) (nI (xf_m g)) (nI (xf_v g)) (nI (xh_m h)) (nI (xh_v h)) (fun zi => nI (xc_kind C zi)) (fun zi => nI (xc_idx C zi)) (fun zi => nI (xc_opA C zi)) (fun zi => nI (xc_opB C zi)) (fun zi => nI (xc_inN C zi)) (fun zi => nI (xc_laN C zi)) (fun zi => nI (xc_root C zi)) (fun zi => nI (xv_cm vv zi)) (fun zi => nI (xv_cv vv zi)) (fun zi => nI (xv_ts vv zi)) (fun zi => nI (xv_ti vv zi)) dd f (xa_val a) (fun zi => nI (xa_tr a zi)) (fun zi => nI (xb_bm b zi)) (fun zi => nI (xb_bv b zi)) (fun zi => nI (xe_dn e zi)) (fun zi => nI (xe_dm e zi)) (xe_df e) (fun zi => nI (xl_lm l zi)) (fun zi => nI (xl_lv l zi)) (fun zi => nI (xl_le l zi)) (xl_st l) (fun zi => nI (xk_m k zi)) (fun zi => nI (xk_v k zi)) := by
  have p64 := cr_p64 hC
  intro n
  induction n with
  | zero => intro d gc fl σ a b e o f g h k l hn; omega
  | succ n ih =>
    intro d gc fl σ a b e o f g h k l hn hg hB em ev hI hL hfl
    obtain ⟨hd, hB2⟩ := hB
    obtain ⟨c1, c2, c3⟩ := hB2 d (Nat.le_refl _)
    have cv := cu_vlt c1
    have hin : vp_in (nI d) 68 := vp_in_nI (by omega) (by omega)
    have hcl : (nI d).toNatClampNeg = d := nI_clamp (by omega)
    refine br_f (nI_ge (b := 8388608) (by omega) (by omega)) (nm_r (pk_sub (by omega)) ⟨hin, nm_r (e' := nI (xk_m k d)) (by rw [hcl]) ⟨hin, nm_r (e' := nI (xk_v k d)) (by rw [hcl]) ?_⟩⟩)
    refine xm_ib (ll := l) hC hI.1 (by omega) (by omega) (fun hbl => br_f (by decide) ?_) (fun hnb => br_t rfl ?_)
    · cases d with
      | zero =>
        refine br_t rfl (K1 a b e o f g h k l hI hL ?_)
        rw [← em, ← ev]; exact hbl
      | succ d =>
        refine br_f (nI_ne0 (by omega) (by omega)) (nm_r (pk_m1 d) (nm_r (nI_1 gc) ?_))
        have hnF := ib_F hbl c1.2 (c3 (by omega))
        have hp := ps_pop hnF
        refine ih d (gc + 1) 1 σ a b e o f g h k l (by omega) (by omega) ⟨by omega, fun t ht => hB2 t (by omega)⟩ em ev hI hL (Or.inl rfl)
    · have hfl1 : fl = 1 := by
        rcases hfl with z | ⟨_, q, q1, q2, q3⟩
        · exact z
        · exact absurd q3 (hnb q q1 q2)
      rw [show nI (top - d) - 1 = nI (top - d - 1) from pk_sub (b := 1) (by omega)]
      refine xm_hp (ll := l) hC hI.1 c1 (by omega) (fun a' b' e' o' s1 s2 s3 s4 s5 s6 => br_f (by decide) ?_) (fun a' b' e' o' hnp => br_t rfl ?_)
      · by_cases hlev : 1 < top - d
        · refine br_t (nI_lt (a := 1) hlev (by omega)) ?_
          refine xm_lift (bad := false) (oo := o') (m := xk_m k d) (v := xk_v k d) hC (by decide) s1 ⟨s5, fun y => absurd y (by decide), fun _ => (cu_inn c1).mp s6⟩ (fun f' g' g1 g2 g3 => ?_)
          refine nm_r (nI_1 d) ⟨vp_in_nI (by omega) (by omega), nm_r (up_I (by omega)) ⟨vp_in_nI (by omega) (by omega), nm_r (up_I (by omega)) (nm_r (nI_1 gc) ?_)⟩⟩
          have hF : fr_F l (top - (d + 1)) (xo_ss o') := by
            have := s3.2 (by omega)
            rw [show top - (d + 1) = top - d - 1 by omega]; exact this
          have hp := ps_push (σ := σ) (d := d) (by omega) (show xo_ss o' < 64 by omega) hF
          refine ih (d + 1) (gc + 1) 1 (up_n σ (d + 1) (xo_ss o')) a' b' e' o' f' g' h (up_n (xk_m k) (d + 1) (xf_m g'), up_n (xk_v k) (d + 1) (xf_v g')) l (by omega) (by omega) ⟨by omega, fun t ht => ?_⟩ ?_ ?_ hI hL (Or.inl rfl)
          · show cu_ok C (up_n (xk_m k) (d + 1) (xf_m g') t) (up_n (xk_v k) (d + 1) (xf_v g') t) ∧ (∀ s, s < 2 ^ xc_nl C → cu_in (up_n (xk_m k) (d + 1) (xf_m g') t) (up_n (xk_v k) (d + 1) (xf_v g') t) s → gd_P C Go t s) ∧ (1 ≤ t → cu_in (up_n (xk_m k) (d + 1) (xf_m g') t) (up_n (xk_v k) (d + 1) (xf_v g') t) (up_n σ (d + 1) (xo_ss o') t))
            by_cases et : t = d + 1
            · subst et
              rw [up_s, up_s, up_s]
              refine ⟨g1, fun s hs hc => ?_, fun _ => g2⟩
              obtain ⟨p1, _, p3⟩ := g3 s hc hs
              exact ⟨cr_nxt C s (xo_si o'), ⟨hs, xo_si o', s2, p1, rfl⟩, c2 _ (cr_nxt_lt C _ _) ((cu_inn c1).mpr (p3 rfl))⟩
            · rw [up_o et, up_o et, up_o et]
              exact hB2 t (by omega)
          · show up_n (xk_m k) (d + 1) (xf_m g') 0 = m0
            rw [up_o (by omega)]; exact em
          · show up_n (xk_v k) (d + 1) (xf_v g') 0 = v0
            rw [up_o (by omega)]; exact ev
        · refine br_f (nI_nlt (b := top - d) (a := 1) (by omega) (by omega)) (K0 a' b' e' o' f g h k l hI ?_)
          have hini : cr_ini C (xo_ss o') := s3.1 (by omega)
          have hg1 := c2 _ (cr_nxt_lt C _ _) s6
          obtain ⟨z, z1, z2⟩ := gd_R (C := C) (Go := Go) d 1 (cr_nxt C (xo_ss o') (xo_si o')) ⟨xo_ss o', hini, s1, xo_si o', s2, s5, rfl⟩ hg1
          exact ⟨z, by rw [show top = 1 + d by omega]; exact z1, z2⟩
      · have hni : ni_P C (xk_m k d) (xk_v k d) := by
          intro s hs hc
          obtain ⟨z, z1, z2⟩ := gd_R (C := C) (Go := Go) d 0 s hs (c2 s hs.1 hc)
          exact hno (0 + d) (by omega) z z1 z2
        refine xm_gen (ll := l) hC hI.1 (by omega) (by omega) c1 hni hnp (fun a2 b2 e2 o2 h2 k1 k2 k3 k4 => ?_)
        refine xm_rl (ll := l) (hh := h2) hC hI.1 (by omega) (by omega) k1 k4 (fun r a3 b3 e3 o3 r1 r2 r3 => ?_)
        have hr64 : r ≤ 64 := by omega
        have hnb' : ∀ q, q < xl_lc l → r ≤ xl_le l q → ¬ cv_c (xl_lm l q) (xl_lv l q) (xh_m h2) (xh_v h2) := fun q q1 q2 q3 => hnb q q1 (by omega) (cv_t q3 k2)
        refine xm_al (ll := l) (hh := h2) hC hI.1 hI.2.1 k1 (by omega) hnb' (fun l' hR => nm_r (nI_1 gc) ?_)
        have hI' := al_I hI hR k1 (by omega) (by omega) k3 r3
        have hL' : fr_L l l' := fun j s hF => al_F1 hI.1 hR hF
        have hp := ps_L hL' top σ d
        refine ih d (gc + 1) 0 σ a3 b3 e3 o3 f g h2 k l' (by omega) (by omega) ⟨hd, hB2⟩ em ev hI' (fr_L_t hL hL') (Or.inr ⟨rfl, ?_⟩)
        obtain ⟨q, q1, q2, q3, q4⟩ := hR.2.1
        exact ⟨q, q1, by omega, by rw [q2, q3]; exact k2⟩
theorem xm_bg {post : Int32 → SX → Prop} {top : Nat} {Go : Nat → Prop} (hC : cr_OK C) (h1 : 1 ≤ top) (ht : top ≤ 64) (hno : ∀ j, j < top → ∀ s, cr_R C j s → ¬ Go s) (hI : fr_I C ll) (hm : cu_ok C (xf_m ff) (xf_v ff)) (hg : ∀ s, s < 2 ^ xc_nl C → cu_in (xf_m ff) (xf_v ff) s → Go s)
    (K1 : ∀ a b e o f g h k l, fr_I C l → fr_L ll l → ib_P l (xf_m ff) (xf_v ff) top → post 1 (mk_X C vv dd f a b e o l pp g h k))
    (K0 : ∀ a b e o f g h k l, fr_I C l → (∃ s, cr_R C top s ∧ Go s) → post 0 (mk_X C vv dd f a b e o l pp g h k)) : wpX_blockGoal post (mk_X C vv dd sm aa bb ee oo ll pp ff hh kk) (nI top) := by
  have hp := ps_64 ll (fun _ => 0) 0 ht
  refine nm_r (e' := fun i => nI (up_n (xk_m kk) 0 (xf_m ff) i)) up_L (nm_r (e' := fun i => nI (up_n (xk_v kk) 0 (xf_v ff) i)) up_L ⟨12301, xm_bg24 (m0 := xf_m ff) (v0 := xf_v ff) (Go := Go) hC ht hno K1 K0 12301 0 0 1 (fun _ => 0) aa bb ee oo sm ff hh (up_n (xk_m kk) 0 (xf_m ff), up_n (xk_v kk) 0 (xf_v ff)) ll (by omega) (by omega) ⟨by omega, fun t ht => ?_⟩ (up_s (f := xk_m kk) (k := 0) (x := xf_m ff)) (up_s (f := xk_v kk) (k := 0) (x := xf_v ff)) hI (fr_L_r ll) (Or.inl rfl)⟩)
  have et : t = 0 := by omega
  subst et
  show cu_ok C (up_n (xk_m kk) 0 (xf_m ff) 0) (up_n (xk_v kk) 0 (xf_v ff) 0) ∧ (∀ s, s < 2 ^ xc_nl C → cu_in (up_n (xk_m kk) 0 (xf_m ff) 0) (up_n (xk_v kk) 0 (xf_v ff) 0) s → gd_P C Go 0 s) ∧ _
  rw [up_s, up_s]
  exact ⟨hm, hg, fun z => absurd z (by omega)⟩
end
noncomputable def ld_c (C : gt_C) (l : gt_L) (k : Nat) : Nat := ct_n (fun s => bo_b (fr_A C l k s)) 64
theorem ld_lt {C : gt_C} {l l' : gt_L} {k s : Nat} (hk : 1 ≤ k) (h : fr_L l l') (hs : s < 64) (h1 : fr_A C l k s) (h2 : ¬ fr_F l' k s) : ld_c C l' k < ld_c C l k := by
  refine ct_lt (k := s) 64 (fun t _ ht => ?_) hs (bo_f.mpr (fun z => h2 (z.2 (by omega)))) (bo_t.mpr h1)
  have := bo_t.mp ht
  exact bo_t.mpr ⟨this.1, fun z => h k t (this.2 z)⟩
theorem ld_none {C : gt_C} {l : gt_L} {i : Nat} (hI : fr_I C l) (hi : 1 ≤ i) (hno : ∀ q, q < xl_lc l → xl_le l q ≠ i) : ∀ n s, cr_R C n s → fr_A C l i s := by
  intro n
  induction n with
  | zero => intro s hs; exact fr_mono hI.2.2.1 (Nat.zero_le i) (i := 0) ⟨fun _ => hs, fun z => absurd z (by omega)⟩
  | succ n ih =>
    intro s hs
    obtain ⟨t, ht, htl, u, hu, hleg, rfl⟩ := hs
    have := hI.2.2.2 i t u htl hu (ih t ht) hleg
    refine ⟨fun z => absurd z (by omega), fun _ q hq hle => this q hq ?_⟩
    have := hno q hq
    omega
theorem ld_md {C : gt_C} (hC : cr_OK C) {Go : Nat → Prop} {k s : Nat} (h : cr_R C k s) (hg : Go s) (hno : ∀ j, j < k → ∀ t, cr_R C j t → ¬ Go t) : k < 64 := by
  obtain ⟨d, hd, hm⟩ := cr_R_md k s h
  have : d = k := by
    by_cases e : d = k
    · exact e
    · exact absurd hg (hno d (by omega) s hm.1)
  rw [← this]
  exact cr_md_lt hC hm
section
variable {C : gt_C} {vv : gt_V} {dd : (Nat → Int64)} {sm : (Nat → Int32)} {aa : gt_A} {bb : gt_B} {ee : gt_E} {oo : gt_O} {ll : gt_L} {pp : gt_P} {ff : gt_F} {hh : gt_H} {kk : gt_K}
theorem xm_ld54 {post : Int32 → SX → Prop} {J : (Int32 → Int32 → Int32 → Int32 → Int32 → Int32 → Int32 → Int32 → Int32 → Int32 → Int32 → Int32 → Int32 → Int32 → Int32 → Int32 → Int32 → Int32 → Int32 → Int32 → Int32 → Int32 → Int32 → Int32 → Int32 → Int32 → Int32 → Int32 → Int32 → Int32 → (Nat → Int32) → (Nat → Int32) → (Nat → Int32) → (Nat → Int32) → (Nat → Int32) → (Nat → Int32) → (Nat → Int32) → (Nat → Int32) → (Nat → Int32) → (Nat → Int32) → (Nat → Int32) → (Nat → Int64) → (Nat → Int32) → (Nat → Int32) → (Nat → Int32) → (Nat → Int32) → (Nat → Int32) → (Nat → Int32) → (Nat → Int32) → (Nat → Int32) → (Nat → Int32) → (Nat → Int32) → (Nat → Int32) → (Nat → Int32) → (Nat → Int32) → (Nat → Int32) → Prop)} {k : Nat} (hC : cr_OK C) (hk : k ≤ 64) (hI : fr_I C ll) (hg : ∀ s, s < 2 ^ xc_nl C → fr_A C ll k s → ¬ go_P C pp s) (KN : ∀ a b e o l, fr_I C l → (∀ n s, cr_R C n s → ¬ go_P C pp s) → post (-2) (mk_X C vv dd sm a b e o l pp ff hh kk)) (KJ : ∀ a b e o l, fr_I C l → J (nI (k + 1)) (nI (xc_ci C)) (nI (xc_cl C)) (nI (xc_cg C)) (nI (xc_N C)) (nI (xc_ni C)) (nI (xc_nl C)) (nI (xc_ng C)) (nI (xc_fx C)) (nI (xc_on C)) (nI (xv_ph vv)) (nI (xv_fr vv)) (nI (xv_cc vv)) (nI (xa_ts a)) (xa_cf a) (xa_ch a) (nI (xa_km a)) (nI (xa_kv a)) (nI (xb_bc b)) (nI (xe_dc e)) (nI (xo_ss o)) (nI (xo_si o)) (nI (xl_lc l)) (xp_gb pp) (nI (xp_gm pp)) (nI (xp_gv pp)) (nI (xf_m ff)) (nI (xf_v ff)) (nI (xh_m hh)) (nI (xh_v hh)) (fun zi => nI (xc_kind C zi)) (fun zi => nI (xc_idx C zi)) (fun zi => nI (xc_opA C zi)) (fun zi => nI (xc_opB C zi)) (fun zi => nI (xc_inN C zi)) (fun zi => nI (xc_laN C zi)) (fun zi => nI (xc_root C zi)) (fun zi => nI (xv_cm vv zi)) (fun zi => nI (xv_cv vv zi)) (fun zi => nI (xv_ts vv zi)) (fun zi => nI (xv_ti vv zi)) dd sm (xa_val a) (fun zi => nI (xa_tr a zi)) (fun zi => nI (xb_bm b zi)) (fun zi => nI (xb_bv b zi)) (fun zi => nI (xe_dn e zi)) (fun zi => nI (xe_dm e zi)) (xe_df e) (fun zi => nI (xl_lm l zi)) (fun zi => nI (xl_lv l zi)) (fun zi => nI (xl_le l zi)) (xl_st l) (fun zi => nI (xk_m kk zi)) (fun zi => nI (xk_v kk zi))) : wX_leastDistance_54 post J (nI k) (nI (xc_ci C)) (nI (xc_cl C)) (nI (xc_cg C)) (nI (xc_N C)) (nI (xc_ni C)) (nI (xc_nl C)) (nI (xc_ng C)) (nI (xc_fx C)) (nI (xc_on C)) (nI (xv_ph vv)) (nI (xv_fr vv)) (nI (xv_cc vv)) (nI (xa_ts aa)) (xa_cf aa) (xa_ch aa) (nI (xa_km aa)) (nI (xa_kv aa)) (nI (xb_bc bb)) (nI (xe_dc ee)) (nI (xo_ss oo)) (nI (xo_si oo)) (nI (xl_lc ll)) (xp_gb pp) (nI (xp_gm pp)) (nI (xp_gv pp)) (nI (xf_m ff)) (nI (xf_v ff)) (nI (xh_m hh)) (nI (xh_v hh)) (fun zi => nI (xc_kind C zi)) (fun zi => nI (xc_idx C zi)) (fun zi => nI (xc_opA C zi)) (fun zi => nI (xc_opB C zi)) (fun zi => nI (xc_inN C zi)) (fun zi => nI (xc_laN C zi)) (fun zi => nI (xc_root C zi)) (fun zi => nI (xv_cm vv zi)) (fun zi => nI (xv_cv vv zi)) (fun zi => nI (xv_ts vv zi)) (fun zi => nI (xv_ti vv zi)) dd sm (xa_val aa) (fun zi => nI (xa_tr aa zi)) (fun zi => nI (xb_bm bb zi)) (fun zi => nI (xb_bv bb zi)) (fun zi => nI (xe_dn ee zi)) (fun zi => nI (xe_dm ee zi)) (xe_df ee) (fun zi => nI (xl_lm ll zi)) (fun zi => nI (xl_lv ll zi)) (fun zi => nI (xl_le ll zi)) (xl_st ll) (fun zi => nI (xk_m kk zi)) (fun zi => nI (xk_v kk zi)) := by
  refine xm_pm hC hk hI (fun a b e o l hI' hL => br_t rfl (nm_r (nI_1 k) (KJ a b e o l hI'))) (fun a b e o l l2 i hi hik hI' hL hno hI2 => br_f (by decide) (KN a b e o l2 hI2 (fun n s hR => ?_)))
  have h1 := ld_none hI' hi hno n s hR
  have h2 := fr_mono hI'.2.2.1 hik h1
  exact hg s (cr_R_lt hR) ⟨fun z => absurd z (by omega), fun z => hL k s (h2.2 z)⟩
theorem xm_ld12 {post : Int32 → SX → Prop} {J : (Int32 → Int32 → Int32 → Int32 → Int32 → Int32 → Int32 → Int32 → Int32 → Int32 → Int32 → Int32 → Int32 → Int32 → Int32 → Int32 → Int32 → Int32 → Int32 → Int32 → Int32 → Int32 → Int32 → Int32 → Int32 → Int32 → Int32 → Int32 → Int32 → Int32 → (Nat → Int32) → (Nat → Int32) → (Nat → Int32) → (Nat → Int32) → (Nat → Int32) → (Nat → Int32) → (Nat → Int32) → (Nat → Int32) → (Nat → Int32) → (Nat → Int32) → (Nat → Int32) → (Nat → Int64) → (Nat → Int32) → (Nat → Int32) → (Nat → Int32) → (Nat → Int32) → (Nat → Int32) → (Nat → Int32) → (Nat → Int32) → (Nat → Int32) → (Nat → Int32) → (Nat → Int32) → (Nat → Int32) → (Nat → Int32) → (Nat → Int32) → (Nat → Int32) → Prop)} {k : Nat} (hC : cr_OK C) (hk : k ≤ 64) (hm : xp_gb pp = 0 → cu_ok C (xp_gm pp) (xp_gv pp)) (hno : ∀ j, j < k → ∀ s, cr_R C j s → ¬ go_P C pp s)
    (KF : ∀ a b e o f g h z l, fr_I C l → (∃ s, cr_R C k s ∧ go_P C pp s) → post (nI k) (mk_X C vv dd f a b e o l pp g h z))
    (KN : ∀ a b e o f g h z l, fr_I C l → (∀ n s, cr_R C n s → ¬ go_P C pp s) → post (-2) (mk_X C vv dd f a b e o l pp g h z))
    (KJ : ∀ a b e o f g h z l, fr_I C l → (∀ s, cr_R C k s → ¬ go_P C pp s) → J (nI (k + 1)) (nI (xc_ci C)) (nI (xc_cl C)) (nI (xc_cg C)) (nI (xc_N C)) (nI (xc_ni C)) (nI (xc_nl C)) (nI (xc_ng C)) (nI (xc_fx C)) (nI (xc_on C)) (nI (xv_ph vv)) (nI (xv_fr vv)) (nI (xv_cc vv)) (nI (xa_ts a)) (xa_cf a) (xa_ch a) (nI (xa_km a)) (nI (xa_kv a)) (nI (xb_bc b)) (nI (xe_dc e)) (nI (xo_ss o)) (nI (xo_si o)) (nI (xl_lc l)) (xp_gb pp) (nI (xp_gm pp)) (nI (xp_gv pp)) (nI (xf_m g)) (nI (xf_v g)) (nI (xh_m h)) (nI (xh_v h)) (fun zi => nI (xc_kind C zi)) (fun zi => nI (xc_idx C zi)) (fun zi => nI (xc_opA C zi)) (fun zi => nI (xc_opB C zi)) (fun zi => nI (xc_inN C zi)) (fun zi => nI (xc_laN C zi)) (fun zi => nI (xc_root C zi)) (fun zi => nI (xv_cm vv zi)) (fun zi => nI (xv_cv vv zi)) (fun zi => nI (xv_ts vv zi)) (fun zi => nI (xv_ti vv zi)) dd f (xa_val a) (fun zi => nI (xa_tr a zi)) (fun zi => nI (xb_bm b zi)) (fun zi => nI (xb_bv b zi)) (fun zi => nI (xe_dn e zi)) (fun zi => nI (xe_dm e zi)) (xe_df e) (fun zi => nI (xl_lm l zi)) (fun zi => nI (xl_lv l zi)) (fun zi => nI (xl_le l zi)) (xl_st l) (fun zi => nI (xk_m z zi)) (fun zi => nI (xk_v z zi))) :
    ∀ n (x2 : Int32) r a b e o f g h z l, fr_I C l → ((x2 = 1 ∧ r + ld_c C l k ≤ 64 ∧ ld_c C l k + 1 < n) ∨ (x2 = 0 ∧ r ≤ 65 ∧ 0 < n ∧ ∀ s, s < 2 ^ xc_nl C → fr_A C l k s → ¬ go_P C pp s)) → wX_leastDistance_12 post J (nI k) n x2 (nI r) (nI (xc_ci C)) (nI (xc_cl C)) (nI (xc_cg C)) (nI (xc_N C)) (nI (xc_ni C)) (nI (xc_nl C)) (nI (xc_ng C)) (nI (xc_fx C)) (nI (xc_on C)) (nI (xv_ph vv)) (nI (xv_fr vv)) (nI (xv_cc vv)) (nI (xa_ts a)) (xa_cf a) (xa_ch a) (nI (xa_km a)) (nI (xa_kv a)) (nI (xb_bc b)) (nI (xe_dc e)) (nI (xo_ss o)) (nI (xo_si o)) (nI (xl_lc l)) (xp_gb pp) (nI (xp_gm pp)) (nI (xp_gv pp)) (nI (xf_m g)) (nI (xf_v g)) (nI (xh_m h)) (nI (xh_v h)) (fun zi => nI (xc_kind C zi)) (fun zi => nI (xc_idx C zi)) (fun zi => nI (xc_opA C zi)) (fun zi => nI (xc_opB C zi)) (fun zi => nI (xc_inN C zi)) (fun zi => nI (xc_laN C zi)) (fun zi => nI (xc_root C zi)) (fun zi => nI (xv_cm vv zi)) (fun zi => nI (xv_cv vv zi)) (fun zi => nI (xv_ts vv zi)) (fun zi => nI (xv_ti vv zi)) dd f (xa_val a) (fun zi => nI (xa_tr a zi)) (fun zi => nI (xb_bm b zi)) (fun zi => nI (xb_bv b zi)) (fun zi => nI (xe_dn e zi)) (fun zi => nI (xe_dm e zi)) (xe_df e) (fun zi => nI (xl_lm l zi)) (fun zi => nI (xl_lv l zi)) (fun zi => nI (xl_le l zi)) (xl_st l) (fun zi => nI (xk_m z zi)) (fun zi => nI (xk_v z zi)) := by
  have p64 := cr_p64 hC
  intro n
  induction n with
  | zero => intro x2 r a b e o f g h z l hI hx; omega
  | succ n ih =>
    intro x2 r a b e o f g h z l hI hx
    have done : (∀ s, s < 2 ^ xc_nl C → fr_A C l k s → ¬ go_P C pp s) → wX_leastDistance_54 post J (nI k) (nI (xc_ci C)) (nI (xc_cl C)) (nI (xc_cg C)) (nI (xc_N C)) (nI (xc_ni C)) (nI (xc_nl C)) (nI (xc_ng C)) (nI (xc_fx C)) (nI (xc_on C)) (nI (xv_ph vv)) (nI (xv_fr vv)) (nI (xv_cc vv)) (nI (xa_ts a)) (xa_cf a) (xa_ch a) (nI (xa_km a)) (nI (xa_kv a)) (nI (xb_bc b)) (nI (xe_dc e)) (nI (xo_ss o)) (nI (xo_si o)) (nI (xl_lc l)) (xp_gb pp) (nI (xp_gm pp)) (nI (xp_gv pp)) (nI (xf_m g)) (nI (xf_v g)) (nI (xh_m h)) (nI (xh_v h)) (fun zi => nI (xc_kind C zi)) (fun zi => nI (xc_idx C zi)) (fun zi => nI (xc_opA C zi)) (fun zi => nI (xc_opB C zi)) (fun zi => nI (xc_inN C zi)) (fun zi => nI (xc_laN C zi)) (fun zi => nI (xc_root C zi)) (fun zi => nI (xv_cm vv zi)) (fun zi => nI (xv_cv vv zi)) (fun zi => nI (xv_ts vv zi)) (fun zi => nI (xv_ti vv zi)) dd f (xa_val a) (fun zi => nI (xa_tr a zi)) (fun zi => nI (xb_bm b zi)) (fun zi => nI (xb_bv b zi)) (fun zi => nI (xe_dn e zi)) (fun zi => nI (xe_dm e zi)) (xe_df e) (fun zi => nI (xl_lm l zi)) (fun zi => nI (xl_lv l zi)) (fun zi => nI (xl_le l zi)) (xl_st l) (fun zi => nI (xk_m z zi)) (fun zi => nI (xk_v z zi)) := by
      intro hg
      exact xm_ld54 (ll := l) hC hk hI hg (fun a' b' e' o' l' hI' hn => KN a' b' e' o' f g h z l' hI' hn) (fun a' b' e' o' l' hI' => KJ a' b' e' o' f g h z l' hI' (fun s hs => hg s (cr_R_lt hs) (fr_reach hI k s hs)))
    rcases hx with ⟨rfl, hr, hn⟩ | ⟨rfl, hr, _, hg⟩
    · refine br_f (nI_ge (b := 80) (by omega) (by omega)) (br_f (by decide) ?_)
      refine xm_fg (ll := l) hC hI.1 hm (by omega) (fun a1 b1 e1 o1 f1 g1 s s1 s2 s3 s4 s5 => br_f (by decide) ?_) (fun a1 b1 e1 o1 hg => br_t rfl ?_)
      · refine pk_eq k 0 (fun hk0 => ?_) (fun hk0 => ?_)
        · subst hk0
          exact KF a1 b1 e1 o1 f1 g1 h z l hI ⟨s, s4.1 rfl, s5 s s1 s3⟩
        · refine xm_bg (ff := g1) (ll := l) (Go := go_P C pp) hC (by omega) hk hno hI s2 s5 (fun a2 b2 e2 o2 f2 g2 h2 z2 l2 hI2 hL2 hib => br_f (by decide) ?_) (fun a2 b2 e2 o2 f2 g2 h2 z2 l2 hI2 hex => br_t rfl (KF a2 b2 e2 o2 f2 g2 h2 z2 l2 hI2 hex))
          have hlt := ld_lt (C := C) (s := s) (by omega) hL2 (by omega) s4 (ib_F hib s2.2 s3)
          exact nm_r (nI_1 r) (ih 1 (r + 1) a2 b2 e2 o2 f2 g2 h2 z2 l2 hI2 (Or.inl ⟨rfl, by omega, by omega⟩))
      · exact nm_r (nI_1 r) (ih 0 (r + 1) a1 b1 e1 o1 f g h z l hI (Or.inr ⟨rfl, by omega, by omega, hg⟩))
    · exact br_f (nI_ge (b := 80) (by omega) (by omega)) (br_t rfl (done hg))
theorem xm_ld2 {post : Int32 → SX → Prop} (hC : cr_OK C) (hm : xp_gb pp = 0 → cu_ok C (xp_gm pp) (xp_gv pp))
    (KF : ∀ k a b e o f g h z l, k < 64 → fr_I C l → (∃ s, cr_R C k s ∧ go_P C pp s) → (∀ j, j < k → ∀ s, cr_R C j s → ¬ go_P C pp s) → post (nI k) (mk_X C vv dd f a b e o l pp g h z))
    (KN : ∀ a b e o f g h z l, fr_I C l → (∀ n s, cr_R C n s → ¬ go_P C pp s) → post (-2) (mk_X C vv dd f a b e o l pp g h z)) :
    ∀ n k a b e o f g h z l, 65 - k < n → k ≤ 65 → fr_I C l → (∀ j, j < k → ∀ s, cr_R C j s → ¬ go_P C pp s) → wX_leastDistance_2 post n (nI k) (nI (xc_ci C)) (nI (xc_cl C)) (nI (xc_cg C)) (nI (xc_N C)) (nI (xc_ni C)) (nI (xc_nl C)) (nI (xc_ng C)) (nI (xc_fx C)) (nI (xc_on C)) (nI (xv_ph vv)) (nI (xv_fr vv)) (nI (xv_cc vv)) (nI (xa_ts a)) (xa_cf a) (xa_ch a) (nI (xa_km a)) (nI (xa_kv a)) (nI (xb_bc b)) (nI (xe_dc e)) (nI (xo_ss o)) (nI (xo_si o)) (nI (xl_lc l)) (xp_gb pp) (nI (xp_gm pp)) (nI (xp_gv pp)) (nI (xf_m g)) (nI (xf_v g)) (nI (xh_m h)) (nI (xh_v h)) (fun zi => nI (xc_kind C zi)) (fun zi => nI (xc_idx C zi)) (fun zi => nI (xc_opA C zi)) (fun zi => nI (xc_opB C zi)) (fun zi => nI (xc_inN C zi)) (fun zi => nI (xc_laN C zi)) (fun zi => nI (xc_root C zi)) (fun zi => nI (xv_cm vv zi)) (fun zi => nI (xv_cv vv zi)) (fun zi => nI (xv_ts vv zi)) (fun zi => nI (xv_ti vv zi)) dd f (xa_val a) (fun zi => nI (xa_tr a zi)) (fun zi => nI (xb_bm b zi)) (fun zi => nI (xb_bv b zi)) (fun zi => nI (xe_dn e zi)) (fun zi => nI (xe_dm e zi)) (xe_df e) (fun zi => nI (xl_lm l zi)) (fun zi => nI (xl_lv l zi)) (fun zi => nI (xl_le l zi)) (xl_st l) (fun zi => nI (xk_m z zi)) (fun zi => nI (xk_v z zi)) := by
  intro n
  induction n with
  | zero => intro k a b e o f g h z l hn; omega
  | succ n ih =>
    intro k a b e o f g h z l hn hk hI hno
    refine pk_lt 64 k (fun hlt => KN a b e o f g h z l hI (fun n s hR hg => ?_)) (fun hle => ?_)
    · obtain ⟨d, hd, hmd⟩ := cr_R_md n s hR
      have := cr_md_lt hC hmd
      exact hno d (by omega) s hmd.1 hg
    · have hc := ct_le (fun s => bo_b (fr_A C l k s)) 64
      refine ⟨66, xm_ld12 hC hle hm hno (fun a' b' e' o' f' g' h' z' l' hI' hex => ?_) KN (fun a' b' e' o' f' g' h' z' l' hI' hg => ?_) 66 1 0 a b e o f g h z l hI (Or.inl ⟨rfl, by unfold ld_c; omega, by unfold ld_c; omega⟩)⟩
      · obtain ⟨s, hs, hgs⟩ := hex
        exact KF k a' b' e' o' f' g' h' z' l' (ld_md hC hs hgs hno) hI' ⟨s, hs, hgs⟩ hno
      · refine ih (k + 1) a' b' e' o' f' g' h' z' l' (by omega) (by omega) hI' (fun j hj => ?_)
        by_cases ej : j = k
        · subst ej; exact hg
        · exact hno j (by omega)
theorem xm_ld {post : Int32 → SX → Prop} (hC : cr_OK C) (hm : xp_gb pp = 0 → cu_ok C (xp_gm pp) (xp_gv pp)) (hI : fr_I C ll)
    (KF : ∀ k a b e o f g h z l, k < 64 → fr_I C l → (∃ s, cr_R C k s ∧ go_P C pp s) → (∀ j, j < k → ∀ s, cr_R C j s → ¬ go_P C pp s) → post (nI k) (mk_X C vv dd f a b e o l pp g h z))
    (KN : ∀ a b e o f g h z l, fr_I C l → (∀ n s, cr_R C n s → ¬ go_P C pp s) → post (-2) (mk_X C vv dd f a b e o l pp g h z)) : wpX_leastDistance post (mk_X C vv dd sm aa bb ee oo ll pp ff hh kk) :=
  ⟨66, xm_ld2 hC hm KF KN 66 0 aa bb ee oo sm ff hh kk ll (by omega) (by omega) hI (fun j hj => absurd hj (by omega))⟩
theorem xm_cd {post : Int32 → SX → Prop} {m v : Nat} (hC : cr_OK C) (hm : cu_ok C m v) (hI : fr_I C ll)
    (KF : ∀ k a b e o f g h z l p, k < 64 → fr_I C l → (∃ s, cr_R C k s ∧ cu_in m v s) → (∀ j, j < k → ∀ s, cr_R C j s → ¬ cu_in m v s) → post (nI k) (mk_X C vv dd f a b e o l p g h z))
    (KN : ∀ a b e o f g h z l p, fr_I C l → (∀ n s, cr_R C n s → ¬ cu_in m v s) → post (-2) (mk_X C vv dd f a b e o l p g h z)) : wpX_cubeDistance post (mk_X C vv dd sm aa bb ee oo ll pp ff hh kk) (nI m) (nI v) := by
  have eg : ∀ s, go_P C ((0, m, v) : gt_P) s ↔ cu_in m v s := fun s => ⟨fun h => h.1 rfl, fun h => ⟨fun _ => h, fun y => absurd rfl y⟩⟩
  refine xm_ld (pp := ((0, m, v) : gt_P)) hC (fun _ => hm) hI (fun k a b e o f g h z l hk hI' hex hno => ?_) (fun a b e o f g h z l hI' hno => ?_)
  · obtain ⟨s, h1, h2⟩ := hex
    exact KF k a b e o f g h z l (0, m, v) hk hI' ⟨s, h1, (eg s).mp h2⟩ (fun j hj s hs hc => hno j hj s hs ((eg s).mpr hc))
  · exact KN a b e o f g h z l (0, m, v) hI' (fun n s hs hc => hno n s hs ((eg s).mpr hc))
end
end
section
/-! walks: extendTrace, findTrace -/
def db_b (d : Nat → Int64) (r s : Nat) : Bool := (d r).toBitVec.getLsbD s
theorem db_sh : ∀ s, s < 64 → ((nI s).toInt64.toUInt64 &&& Int64.toUInt64 63).toNat = s := by decide +kernel
theorem db_pw : ∀ s, s < 64 → ((1 : Int64) <<< ((nI s).toInt64 &&& 63)).toBitVec = BitVec.twoPow 64 s := by decide +kernel
theorem db_t {w : Int64} {s : Nat} (hs : s < 64) : ((w.toUInt64 >>> ((nI s).toInt64.toUInt64 &&& Int64.toUInt64 63)).toInt64 &&& 1) = 0 ↔ w.toBitVec.getLsbD s = false := ts_bit hs (db_sh s hs)
theorem db_u {d : Nat → Int64} {r s : Nat} (hs : s < 64) (q t : Nat) : db_b (vp_updL d r ((d r) ||| ((1 : Int64) <<< ((nI s).toInt64 &&& 63)))) q t = (db_b d q t || (decide (q = r) && decide (s = t))) := by
  unfold db_b
  by_cases e : q = r
  · subst e
    rw [pk_uLs, Int64.toBitVec_or, BitVec.getLsbD_or, db_pw s hs, BitVec.getLsbD_twoPow, decide_eq_true rfl, decide_eq_true hs]
  · rw [pk_uLn e, decide_eq_false e, Bool.false_and, Bool.or_false]
def cr_go (C : gt_C) (m s w : Nat) : Prop := match m with
  | 0 => cr_bad C s w = true
  | m + 1 => cr_leg C s w = true ∧ cr_can C m (cr_nxt C s w)
theorem cr_can_go {C : gt_C} {m s : Nat} : cr_can C m s ↔ s < 2 ^ xc_nl C ∧ ∃ w, w < 2 ^ xc_ni C ∧ cr_go C m s w := by
  cases m with
  | zero => exact Iff.rfl
  | succ m =>
    constructor
    · intro ⟨t, ⟨hs, u, hu, hl, e⟩, hc⟩
      exact ⟨hs, u, hu, hl, by rw [e]; exact hc⟩
    · intro ⟨hs, u, hu, hl, hc⟩
      exact ⟨_, ⟨hs, u, hu, hl, rfl⟩, hc⟩
/-- the least trace -/
def tr_P (C : gt_C) (n : Nat) (ts ti : Nat → Nat) : Prop := ∀ k, k ≤ n → ti k < 2 ^ xc_ni C ∧ cr_go C (n - k) (ts k) (ti k) ∧ (∀ w, w < ti k → ¬ cr_go C (n - k) (ts k) w) ∧ (k < n → ts (k + 1) = cr_nxt C (ts k) (ti k))
theorem tr_u {C : gt_C} {n : Nat} {ts ti ts' ti' : Nat → Nat} (h : tr_P C n ts ti) (h' : tr_P C n ts' ti') (h0 : ts 0 = ts' 0) : ∀ k, k ≤ n → ts k = ts' k ∧ ti k = ti' k := by
  have key : ∀ k, k ≤ n → ts k = ts' k → ti k = ti' k := by
    intro k hk e
    obtain ⟨a1, a2, a3, _⟩ := h k hk
    obtain ⟨b1, b2, b3, _⟩ := h' k hk
    rw [e] at a2 a3
    rcases Nat.lt_trichotomy (ti k) (ti' k) with l | l | l
    · exact absurd a2 (b3 _ l)
    · exact l
    · exact absurd b2 (a3 _ l)
  intro k
  induction k with
  | zero => intro hk; exact ⟨h0, key 0 hk h0⟩
  | succ k ih =>
    intro hk
    obtain ⟨e1, e2⟩ := ih (by omega)
    have : ts (k + 1) = ts' (k + 1) := by rw [(h k (by omega)).2.2.2 (by omega), (h' k (by omega)).2.2.2 (by omega), e1, e2]
    exact ⟨this, key _ hk this⟩
def ds_P (C : gt_C) (d : Nat → Int64) : Prop := ∀ r s, r < 64 → s < 2 ^ xc_nl C → db_b d r s = true → ¬ cr_can C r s
def al_n (d : Nat → Int64) : Nat := sg_n (fun r => ct_n (fun s => !db_b d r s) 64) 64
theorem al_64 (d : Nat → Int64) : al_n d ≤ 4096 := by
  have := sg_b (f := fun r => ct_n (fun s => !db_b d r s) 64) (c := 64) 64 (fun i _ => ct_le _ _)
  unfold al_n
  omega
theorem al_lt {d : Nat → Int64} {r s : Nat} (hr : r < 64) (hs : s < 64) (h : db_b d r s = false) : al_n (vp_updL d r ((d r) ||| ((1 : Int64) <<< ((nI s).toInt64 &&& 63)))) < al_n d := by
  refine sg_lt (k := r) 64 (fun q _ => ct_mono 64 (fun t _ ht => ?_)) hr (ct_lt (k := s) 64 (fun t _ ht => ?_) hs ?_ ?_)
  · rw [db_u hs] at ht
    cases e : db_b d q t
    · rfl
    · rw [e] at ht; exact absurd ht (by simp)
  · rw [db_u hs] at ht
    cases e : db_b d r t
    · rfl
    · rw [e] at ht; exact absurd ht (by simp)
  · show (!db_b _ r s) = false
    rw [db_u hs]; simp
  · show (!db_b d r s) = true
    rw [h]; rfl
/-- the search's state -/
def dt_I (C : gt_C) (n st A : Nat) (d : Nat → Int64) (ts ti : Nat → Nat) (i g : Nat) : Prop :=
  (i ≤ n ∧ ts 0 = st ∧ (∀ k, k ≤ i → ts k < 2 ^ xc_nl C ∧ ti k ≤ 2 ^ xc_ni C ∧ db_b d (n - k) (ts k) = false ∧ ∀ w, w < ti k → ¬ cr_go C (n - k) (ts k) w)) ∧
  (∀ k, k < i → ti k < 2 ^ xc_ni C ∧ cr_leg C (ts k) (ti k) = true ∧ cr_nxt C (ts k) (ti k) = ts (k + 1)) ∧
  ds_P C d ∧ g + 1 + 6 * al_n d ≤ 6 * A + sg_n (fun k => 1 + ti k) (i + 1)
theorem sg_c {f g : Nat → Nat} : ∀ n, (∀ i, i < n → f i = g i) → sg_n f n = sg_n g n := by
  intro n
  induction n with
  | zero => intro _; rfl
  | succ n ih =>
    intro h
    show sg_n f n + f n = sg_n g n + g n
    rw [ih (fun i hi => h i (by omega)), h n (by omega)]
theorem dt_g {C : gt_C} (hC : cr_OK C) {n st A i g : Nat} {d : Nat → Int64} {ts ti : Nat → Nat} (hn : n < 64) (hA : A ≤ 4096) (h : dt_I C n st A d ts ti i g) : g ≤ 24896 := by
  obtain ⟨⟨h1, _, h2⟩, _, _, h3⟩ := h
  have p4 := cr_p4 hC
  have := sg_b (f := fun k => 1 + ti k) (c := 5) (i + 1) (fun k hk => by
    have := (h2 k (by omega)).2.1
    show 1 + ti k ≤ 5
    omega)
  omega
/-- one more word at the top -/
theorem dt_w {C : gt_C} {n st A i g : Nat} {d : Nat → Int64} {ts ti : Nat → Nat} (h : dt_I C n st A d ts ti i g) (hw : ti i < 2 ^ xc_ni C) (hng : ¬ cr_go C (n - i) (ts i) (ti i)) : dt_I C n st A d ts (up_n ti i (ti i + 1)) i (g + 1) := by
  obtain ⟨⟨h1, h0, h2⟩, h3, h4, h5⟩ := h
  refine ⟨⟨h1, h0, fun k hk => ?_⟩, fun k hk => ?_, h4, ?_⟩
  · obtain ⟨a, b, c, e⟩ := h2 k hk
    by_cases ek : k = i
    · subst ek
      rw [up_s]
      refine ⟨a, by omega, c, fun w hw' => ?_⟩
      by_cases ew : w = ti k
      · rw [ew]; exact hng
      · exact e w (by omega)
    · rw [up_o ek]; exact ⟨a, b, c, e⟩
  · rw [up_o (by omega)]; exact h3 k hk
  · show g + 1 + 1 + 6 * al_n d ≤ 6 * A + (sg_n (fun k => 1 + up_n ti i (ti i + 1) k) i + (1 + up_n ti i (ti i + 1) i))
    rw [sg_c (g := fun k => 1 + ti k) i (fun k hk => by show 1 + up_n ti i (ti i + 1) k = 1 + ti k; rw [up_o (by omega)]), up_s]
    have h5' : g + 1 + 6 * al_n d ≤ 6 * A + (sg_n (fun k => 1 + ti k) i + (1 + ti i)) := h5
    omega
/-- a step down -/
theorem dt_d {C : gt_C} {n st A i g : Nat} {d : Nat → Int64} {ts ti : Nat → Nat} (h : dt_I C n st A d ts ti i g) (hi : i < n) (hw : ti i < 2 ^ xc_ni C) (hl : cr_leg C (ts i) (ti i) = true) (hd : db_b d (n - i - 1) (cr_nxt C (ts i) (ti i)) = false) : dt_I C n st A d (up_n ts (i + 1) (cr_nxt C (ts i) (ti i))) (up_n ti (i + 1) 0) (i + 1) (g + 1) := by
  obtain ⟨⟨h1, h0, h2⟩, h3, h4, h5⟩ := h
  refine ⟨⟨by omega, by rw [up_o (by omega)]; exact h0, fun k hk => ?_⟩, fun k hk => ?_, h4, ?_⟩
  · by_cases ek : k = i + 1
    · subst ek
      rw [up_s, up_s]
      refine ⟨cr_nxt_lt C _ _, Nat.zero_le _, ?_, fun w hw' => absurd hw' (by omega)⟩
      rw [show n - (i + 1) = n - i - 1 by omega]; exact hd
    · rw [up_o ek, up_o ek]; exact h2 k (by omega)
  · rw [up_o (by omega), up_o (by omega)]
    by_cases ek : k = i
    · subst ek; rw [up_s]; exact ⟨hw, hl, rfl⟩
    · rw [up_o (by omega)]; exact h3 k (by omega)
  · show g + 1 + 1 + 6 * al_n d ≤ 6 * A + (sg_n (fun k => 1 + up_n ti (i + 1) 0 k) (i + 1) + (1 + up_n ti (i + 1) 0 (i + 1)))
    rw [sg_c (g := fun k => 1 + ti k) (i + 1) (fun k hk => by show 1 + up_n ti (i + 1) 0 k = 1 + ti k; rw [up_o (by omega)]), up_s]
    omega
/-- a dead end -/
theorem dt_x {C : gt_C} {n i : Nat} {d : Nat → Int64} {ts ti : Nat → Nat} {st A g : Nat} (h : dt_I C n st A d ts ti i g) (hw : ¬ ti i < 2 ^ xc_ni C) : ¬ cr_can C (n - i) (ts i) := by
  intro hc
  obtain ⟨_, w, hw1, hw2⟩ := cr_can_go.mp hc
  exact (h.1.2.2 i (Nat.le_refl _)).2.2.2 w (by omega) hw2
theorem dt_s {C : gt_C} (hC : cr_OK C) {d : Nat → Int64} {r s : Nat} (hs : s < 2 ^ xc_nl C) (h : ds_P C d) (hc : ¬ cr_can C r s) : ds_P C (vp_updL d r ((d r) ||| ((1 : Int64) <<< ((nI s).toInt64 &&& 63)))) := by
  have p64 := cr_p64 hC
  intro q t hq ht hb
  rw [db_u (by omega)] at hb
  cases e : db_b d q t
  · rw [e, Bool.false_or, Bool.and_eq_true, decide_eq_true_eq, decide_eq_true_eq] at hb
    rw [hb.1, ← hb.2]; exact hc
  · exact h q t hq ht e
theorem dt_b {C : gt_C} (hC : cr_OK C) {n st A i g : Nat} {d : Nat → Int64} {ts ti : Nat → Nat} (hn : n < 64) (h : dt_I C n st A d ts ti (i + 1) g) (hw : ¬ ti (i + 1) < 2 ^ xc_ni C) : dt_I C n st A (vp_updL d (n - (i + 1)) ((d (n - (i + 1))) ||| ((1 : Int64) <<< ((nI (ts (i + 1))).toInt64 &&& 63)))) ts (up_n ti i (ti i + 1)) i (g + 1) := by
  have p64 := cr_p64 hC
  have p4 := cr_p4 hC
  have hx := dt_x h hw
  obtain ⟨⟨h1, h0, h2⟩, h3, h4, h5⟩ := h
  obtain ⟨t1, t2, t3, t4⟩ := h2 (i + 1) (Nat.le_refl _)
  obtain ⟨n1, n2, n3⟩ := h3 i (by omega)
  refine ⟨⟨by omega, h0, fun k hk => ?_⟩, fun k hk => ?_, dt_s hC t1 h4 hx, ?_⟩
  · obtain ⟨a, b, c, e⟩ := h2 k (by omega)
    have hdb : db_b (vp_updL d (n - (i + 1)) ((d (n - (i + 1))) ||| ((1 : Int64) <<< ((nI (ts (i + 1))).toInt64 &&& 63)))) (n - k) (ts k) = false := by
      rw [db_u (by omega), c, decide_eq_false (by omega)]; rfl
    by_cases ek : k = i
    · subst ek
      rw [up_s]
      refine ⟨a, by omega, hdb, fun w hw' => ?_⟩
      by_cases ew : w = ti k
      · rw [ew]
        intro hgo
        rw [show n - k = (n - (k + 1)) + 1 by omega] at hgo
        have := hgo.2
        rw [n3] at this
        exact hx this
      · exact e w (by omega)
    · rw [up_o ek]; exact ⟨a, b, hdb, e⟩
  · rw [up_o (by omega)]; exact h3 k (by omega)
  · have hal := al_lt (r := n - (i + 1)) (s := ts (i + 1)) (by omega) (by omega) t3
    show g + 1 + 1 + 6 * al_n _ ≤ 6 * A + (sg_n (fun k => 1 + up_n ti i (ti i + 1) k) i + (1 + up_n ti i (ti i + 1) i))
    rw [sg_c (g := fun k => 1 + ti k) i (fun k hk => by show 1 + up_n ti i (ti i + 1) k = 1 + ti k; rw [up_o (by omega)]), up_s]
    have h5' : g + 1 + 6 * al_n d ≤ 6 * A + ((sg_n (fun k => 1 + ti k) i + (1 + ti i)) + (1 + ti (i + 1))) := h5
    omega
/-- success -/
theorem dt_ok {C : gt_C} {n st A g : Nat} {d : Nat → Int64} {ts ti : Nat → Nat} (h : dt_I C n st A d ts ti n g) (hw : ti n < 2 ^ xc_ni C) (hb : cr_bad C (ts n) (ti n) = true) : tr_P C n ts ti := by
  obtain ⟨⟨h1, h0, h2⟩, h3, h4, h5⟩ := h
  have can : ∀ j, j ≤ n → cr_can C j (ts (n - j)) := by
    intro j
    induction j with
    | zero => intro _; exact ⟨(h2 n (Nat.le_refl _)).1, ti n, hw, hb⟩
    | succ j ih =>
      intro hj
      obtain ⟨a, b, c⟩ := h3 (n - (j + 1)) (by omega)
      refine ⟨ts (n - j), ⟨(h2 (n - (j + 1)) (by omega)).1, _, a, b, ?_⟩, ih (by omega)⟩
      rw [c, show n - (j + 1) + 1 = n - j by omega]
  intro k hk
  obtain ⟨a, b, c, e⟩ := h2 k hk
  by_cases ek : k = n
  · subst ek
    refine ⟨hw, ?_, e, fun z => absurd z (by omega)⟩
    rw [Nat.sub_self]; exact hb
  · obtain ⟨x, y, z⟩ := h3 k (by omega)
    refine ⟨x, ?_, e, fun _ => z.symm⟩
    have := can (n - (k + 1)) (by omega)
    rw [show n - k = (n - (k + 1)) + 1 by omega]
    refine ⟨y, ?_⟩
    rw [z]
    rw [show n - (n - (k + 1)) = k + 1 by omega] at this
    exact this
section
variable {C : gt_C} {vv : gt_V} {dd : (Nat → Int64)} {sm : (Nat → Int32)} {aa : gt_A} {bb : gt_B} {ee : gt_E} {oo : gt_O} {ll : gt_L} {pp : gt_P} {ff : gt_F} {hh : gt_H} {kk : gt_K}
theorem xm_et27 {post : Int32 → SX → Prop} {n st A : Nat} (hC : cr_OK C) (hn : n < 64) (hA : A ≤ 4096)
    (K1 : ∀ f d ts ti, ds_P C d → tr_P C n ts ti → ts 0 = st → post 1 (mk_X C (((xv_ph vv, xv_fr vv, xv_cc vv, xv_cm vv, xv_cv vv, ts, ti) : gt_V)) d f aa bb ee oo ll pp ff hh kk))
    (K0 : ∀ f d ts ti, ds_P C d → ¬ cr_can C n st → post 0 (mk_X C (((xv_ph vv, xv_fr vv, xv_cc vv, xv_cm vv, xv_cv vv, ts, ti) : gt_V)) d f aa bb ee oo ll pp ff hh kk)) :
    ∀ m i g f d ts ti, 24900 - g < m → dt_I C n st A d ts ti i g → wX_extendTrace_27 post (nI n) (nI (2 ^ xc_ni C)) m (nI i) (nI g) (nI (xc_ci C)) (nI (xc_cl C)) (nI (xc_cg C)) (nI (xc_N C)) (nI (xc_ni C)) (nI (xc_nl C)) (nI (xc_ng C)) (nI (xc_fx C)) (nI (xc_on C)) (nI (xv_ph (((xv_ph vv, xv_fr vv, xv_cc vv, xv_cm vv, xv_cv vv, ts, ti) : gt_V)))) (nI (xv_fr (((xv_ph vv, xv_fr vv, xv_cc vv, xv_cm vv, xv_cv vv, ts, ti) : gt_V)))) (nI (xv_cc (((xv_ph vv, xv_fr vv, xv_cc vv, xv_cm vv, xv_cv vv, ts, ti) : gt_V)))) (nI (xa_ts aa)) (xa_cf aa) (xa_ch aa) (nI (xa_km aa)) (nI (xa_kv aa)) (nI (xb_bc bb)) (nI (xe_dc ee)) (nI (xo_ss oo)) (nI (xo_si oo)) (nI (xl_lc ll)) (xp_gb pp) (nI (xp_gm pp)) (nI (xp_gv pp)) (nI (xf_m ff)) (nI (xf_v ff)) (nI (xh_m hh)) (nI (xh_v hh)) (fun zi => nI (xc_kind C zi)) (fun zi => nI (xc_idx C zi)) (fun zi => nI (xc_opA C zi)) (fun zi => nI (xc_opB C zi)) (fun zi => nI (xc_inN C zi)) (fun zi => nI (xc_laN C zi)) (fun zi => nI (xc_root C zi)) (fun zi => nI (xv_cm (((xv_ph vv, xv_fr vv, xv_cc vv, xv_cm vv, xv_cv vv, ts, ti) : gt_V)) zi)) (fun zi => nI (xv_cv (((xv_ph vv, xv_fr vv, xv_cc vv, xv_cm vv, xv_cv vv, ts, ti) : gt_V)) zi)) (fun zi => nI (xv_ts (((xv_ph vv, xv_fr vv, xv_cc vv, xv_cm vv, xv_cv vv, ts, ti) : gt_V)) zi)) (fun zi => nI (xv_ti (((xv_ph vv, xv_fr vv, xv_cc vv, xv_cm vv, xv_cv vv, ts, ti) : gt_V)) zi)) d f (xa_val aa) (fun zi => nI (xa_tr aa zi)) (fun zi => nI (xb_bm bb zi)) (fun zi => nI (xb_bv bb zi)) (fun zi => nI (xe_dn ee zi)) (fun zi => nI (xe_dm ee zi)) (xe_df ee) (fun zi => nI (xl_lm ll zi)) (fun zi => nI (xl_lv ll zi)) (fun zi => nI (xl_le ll zi)) (xl_st ll) (fun zi => nI (xk_m kk zi)) (fun zi => nI (xk_v kk zi)) := by
  have p64 := cr_p64 hC
  have p4 := cr_p4 hC
  intro m
  induction m with
  | zero => intro i g f d ts ti h; omega
  | succ m ih =>
    intro i g f d ts ti hm hI
    have hg := dt_g hC hn hA hI
    have hin' := hI.1.1
    have hin : vp_in (nI i) 64 := vp_in_nI (by omega) (by omega)
    have hcl : (nI i).toNatClampNeg = i := nI_clamp (by omega)
    obtain ⟨t1, t2, t3, t4⟩ := hI.1.2.2 i (Nat.le_refl _)
    have hup : ∀ f : Nat → Nat, upd (fun x => nI (f x)) (nI i).toNatClampNeg (((fun x => nI (f x)) (nI i).toNatClampNeg) + 1) = (fun x => nI (up_n f i (f i + 1) x)) := by
      intro f
      rw [hcl]
      show upd (fun x => nI (f x)) i (nI (f i) + 1) = _
      rw [nI_1]; exact up_L
    refine br_f (nI_ge (b := 65536) (by omega) (by omega)) (nm_r (pk_sub hin') ⟨hin, nm_r (e' := nI (ts i)) (by rw [hcl]) ⟨hin, nm_r (e' := nI (ti i)) (by rw [hcl]) ?_⟩⟩)
    refine pk_lt (ti i) (2 ^ xc_ni C) (fun hw => pk_eq (n - i) 0 (fun hz => ?_) (fun hz => ?_)) (fun hw => ?_)
    · have ein : i = n := by omega
      subst ein
      refine xm_badP (dd := d) (vv := ((xv_ph vv, xv_fr vv, xv_cc vv, xv_cm vv, xv_cv vv, ts, ti) : gt_V)) hC (fun f' hb => br_f (by decide) (K1 f' d ts ti hI.2.2.1 (dt_ok hI hw hb) hI.1.2.1)) (fun f' hb => br_t rfl ⟨hin, hin, nm_r (hup ti) (nm_r (nI_1 g) ?_)⟩)
      refine ih i (g + 1) f' d ts (up_n ti i (ti i + 1)) (by omega) (dt_w hI hw ?_)
      rw [Nat.sub_self]
      intro z
      have z' : cr_bad C (ts i) (ti i) = true := z
      rw [hb] at z'
      exact absurd z' (by decide)
    · have e168 : ∀ f', ¬ cr_go C (n - i) (ts i) (ti i) → wX_extendTrace_168 post (wX_extendTrace_27 post (nI n) (nI (2 ^ xc_ni C)) m) (nI n) (nI (2 ^ xc_ni C)) (nI i) (nI g) (nI (xc_ci C)) (nI (xc_cl C)) (nI (xc_cg C)) (nI (xc_N C)) (nI (xc_ni C)) (nI (xc_nl C)) (nI (xc_ng C)) (nI (xc_fx C)) (nI (xc_on C)) (nI (xv_ph (((xv_ph vv, xv_fr vv, xv_cc vv, xv_cm vv, xv_cv vv, ts, ti) : gt_V)))) (nI (xv_fr (((xv_ph vv, xv_fr vv, xv_cc vv, xv_cm vv, xv_cv vv, ts, ti) : gt_V)))) (nI (xv_cc (((xv_ph vv, xv_fr vv, xv_cc vv, xv_cm vv, xv_cv vv, ts, ti) : gt_V)))) (nI (xa_ts aa)) (xa_cf aa) (xa_ch aa) (nI (xa_km aa)) (nI (xa_kv aa)) (nI (xb_bc bb)) (nI (xe_dc ee)) (nI (xo_ss oo)) (nI (xo_si oo)) (nI (xl_lc ll)) (xp_gb pp) (nI (xp_gm pp)) (nI (xp_gv pp)) (nI (xf_m ff)) (nI (xf_v ff)) (nI (xh_m hh)) (nI (xh_v hh)) (fun zi => nI (xc_kind C zi)) (fun zi => nI (xc_idx C zi)) (fun zi => nI (xc_opA C zi)) (fun zi => nI (xc_opB C zi)) (fun zi => nI (xc_inN C zi)) (fun zi => nI (xc_laN C zi)) (fun zi => nI (xc_root C zi)) (fun zi => nI (xv_cm (((xv_ph vv, xv_fr vv, xv_cc vv, xv_cm vv, xv_cv vv, ts, ti) : gt_V)) zi)) (fun zi => nI (xv_cv (((xv_ph vv, xv_fr vv, xv_cc vv, xv_cm vv, xv_cv vv, ts, ti) : gt_V)) zi)) (fun zi => nI (xv_ts (((xv_ph vv, xv_fr vv, xv_cc vv, xv_cm vv, xv_cv vv, ts, ti) : gt_V)) zi)) (fun zi => nI (xv_ti (((xv_ph vv, xv_fr vv, xv_cc vv, xv_cm vv, xv_cv vv, ts, ti) : gt_V)) zi)) d f' (xa_val aa) (fun zi => nI (xa_tr aa zi)) (fun zi => nI (xb_bm bb zi)) (fun zi => nI (xb_bv bb zi)) (fun zi => nI (xe_dn ee zi)) (fun zi => nI (xe_dm ee zi)) (xe_df ee) (fun zi => nI (xl_lm ll zi)) (fun zi => nI (xl_lv ll zi)) (fun zi => nI (xl_le ll zi)) (xl_st ll) (fun zi => nI (xk_m kk zi)) (fun zi => nI (xk_v kk zi)) := by
        intro f' hng
        exact ⟨hin, hin, nm_r (hup ti) (nm_r (nI_1 g) (ih i (g + 1) f' d ts (up_n ti i (ti i + 1)) (by omega) (dt_w hI hw hng)))⟩
      have en : n - i = (n - i - 1) + 1 := by omega
      refine xm_succ (dd := d) (vv := ((xv_ph vv, xv_fr vv, xv_cc vv, xv_cm vv, xv_cv vv, ts, ti) : gt_V)) hC (fun f' hl => ?_) (fun f' hl => br_t (by decide) (e168 f' ?_))
      · have hnl := cr_nxt_lt C (ts i) (ti i)
        have e1 : nI (n - i) - 1 = nI (n - i - 1) := pk_sub (b := 1) (by omega)
        refine br_f (nI_pos (by omega)) ⟨by rw [e1]; exact vp_in_nI (by omega) (by omega), ?_⟩
        rw [e1, nI_clamp (by omega)]
        refine br_c (fun hb => nm_r (nI_1 i) ⟨vp_in_nI (by omega) (by omega), nm_r (up_I (by omega)) ⟨vp_in_nI (by omega) (by omega), nm_r (e' := fun x => nI (up_n ti (i + 1) 0 x)) (up_I (x := 0) (by omega)) (nm_r (nI_1 g) ?_)⟩⟩) (fun hb => e168 f' ?_)
        · rw [db_t (by omega)] at hb
          exact ih (i + 1) (g + 1) f' d _ _ (by omega) (dt_d hI (by omega) hw hl hb)
        · rw [db_t (by omega)] at hb
          rw [en]
          exact fun z => hI.2.2.1 _ _ (by omega) hnl (ts_nf hb) z.2
      · rw [en]
        intro z
        have := z.1
        rw [hl] at this
        exact absurd this (by decide)
    · have hw : ¬ ti i < 2 ^ xc_ni C := by omega
      have hdx := dt_x hI hw
      have hin2 : vp_in (nI (n - i)) 64 := vp_in_nI (by omega) (by omega)
      have hud : vp_updL d (nI (n - i)).toNatClampNeg ((d (nI (n - i)).toNatClampNeg) ||| ((1 : Int64) <<< ((nI (ts i)).toInt64 &&& 63))) = vp_updL d (n - i) ((d (n - i)) ||| ((1 : Int64) <<< ((nI (ts i)).toInt64 &&& 63))) := by rw [nI_clamp (by omega)]
      refine ⟨hin2, hin2, nm_r hud ?_⟩
      cases i with
      | zero =>
        refine br_t rfl (K0 f _ ts ti (dt_s hC t1 hI.2.2.1 hdx) ?_)
        rw [← hI.1.2.1]; exact hdx
      | succ i =>
        have hin3 : vp_in (nI i) 64 := vp_in_nI (by omega) (by omega)
        refine br_f (nI_ne0 (by omega) (by omega)) (nm_r (pk_m1 i) ⟨hin3, hin3, nm_r (e' := fun x => nI (up_n ti i (ti i + 1) x)) ?_ (nm_r (nI_1 g) ?_)⟩)
        · rw [nI_clamp (by omega)]
          show upd (fun x => nI (ti x)) i (nI (ti i) + 1) = _
          rw [nI_1]; exact up_L
        · exact ih i (g + 1) f _ ts _ (by omega) (dt_b hC hn hI hw)
theorem xm_et {post : Int32 → SX → Prop} {n st : Nat} (hC : cr_OK C) (hn : n < 64) (hst : st < 2 ^ xc_nl C) (hd : ds_P C dd) (h0 : db_b dd n st = false)
    (K1 : ∀ f d ts ti, ds_P C d → tr_P C n ts ti → ts 0 = st → post 1 (mk_X C (((xv_ph vv, xv_fr vv, xv_cc vv, xv_cm vv, xv_cv vv, ts, ti) : gt_V)) d f aa bb ee oo ll pp ff hh kk))
    (K0 : ∀ f d ts ti, ds_P C d → ¬ cr_can C n st → post 0 (mk_X C (((xv_ph vv, xv_fr vv, xv_cc vv, xv_cm vv, xv_cv vv, ts, ti) : gt_V)) d f aa bb ee oo ll pp ff hh kk)) : wpX_extendTrace post (mk_X C vv dd sm aa bb ee oo ll pp ff hh kk) (nI st) (nI n) := by
  have hb := cr_b hC
  refine nm_r (bq_pow (by omega)) (nm_r (e' := fun x => nI (up_n (xv_ts vv) 0 st x)) up_L (nm_r (e' := fun x => nI (up_n (xv_ti vv) 0 0 x)) (up_L (x := 0)) ⟨24901, xm_et27 (A := al_n dd) hC hn (al_64 dd) K1 K0 24901 0 0 sm dd (up_n (xv_ts vv) 0 st) (up_n (xv_ti vv) 0 0) (by omega) ⟨⟨by omega, up_s, fun k hk => ?_⟩, fun k hk => absurd hk (by omega), hd, ?_⟩⟩))
  · have : k = 0 := by omega
    subst this
    rw [up_s, up_s]
    exact ⟨hst, Nat.zero_le _, h0, fun w hw => absurd hw (by omega)⟩
  · show 0 + 1 + 6 * al_n dd ≤ 6 * al_n dd + (0 + (1 + up_n (xv_ti vv) 0 0 0))
    rw [up_s]
    omega
theorem xm_si {post : Int32 → Prop} {s : Nat} (hC : cr_OK C) (hs : s < 2 ^ xc_nl C) (K1 : cr_ini C s → post 1) (K0 : ¬ cr_ini C s → post 0) : wpX_startsIn post (mk_X C vv dd sm aa bb ee oo ll pp ff hh kk) (nI s) := by
  have p64 := cr_p64 hC
  obtain ⟨hf, ho⟩ := cr_fo hC
  have e1 : (nI s ^^^ nI (xc_on C)) &&& nI (xc_fx C) = nI ((s ^^^ xc_on C) &&& xc_fx C) := by rw [nx_xor, nx_and]
  have l1 : (s ^^^ xc_on C) &&& xc_fx C < 2 ^ xc_nl C := bq_andlt (bq_xorlt hs ho)
  refine br_c (fun hz => K1 ⟨hs, ?_⟩) (fun hz => K0 (fun h => hz ?_))
  · rw [e1, bq_nI0 (by omega)] at hz; exact hz
  · rw [e1, bq_nI0 (by omega)]; exact h.2
theorem xm_ft14 {post : Int32 → SX → Prop} {n : Nat} (hC : cr_OK C) (hn : n < 64)
    (K1 : ∀ f d ts ti, ds_P C d → tr_P C n ts ti → cr_ini C (ts 0) → (∀ s, s < ts 0 → cr_ini C s → ¬ cr_can C n s) → post 1 (mk_X C (((xv_ph vv, xv_fr vv, xv_cc vv, xv_cm vv, xv_cv vv, ts, ti) : gt_V)) d f aa bb ee oo ll pp ff hh kk))
    (K0 : ∀ f d ts ti, ds_P C d → (∀ s, cr_ini C s → ¬ cr_can C n s) → post 0 (mk_X C (((xv_ph vv, xv_fr vv, xv_cc vv, xv_cm vv, xv_cv vv, ts, ti) : gt_V)) d f aa bb ee oo ll pp ff hh kk)) :
    ∀ m s f d ts ti, 2 ^ xc_nl C - s < m → s ≤ 2 ^ xc_nl C → ds_P C d → (∀ q, q < s → cr_ini C q → ¬ cr_can C n q) → wX_findTrace_14 post (nI n) m (nI s) (nI (xc_ci C)) (nI (xc_cl C)) (nI (xc_cg C)) (nI (xc_N C)) (nI (xc_ni C)) (nI (xc_nl C)) (nI (xc_ng C)) (nI (xc_fx C)) (nI (xc_on C)) (nI (xv_ph (((xv_ph vv, xv_fr vv, xv_cc vv, xv_cm vv, xv_cv vv, ts, ti) : gt_V)))) (nI (xv_fr (((xv_ph vv, xv_fr vv, xv_cc vv, xv_cm vv, xv_cv vv, ts, ti) : gt_V)))) (nI (xv_cc (((xv_ph vv, xv_fr vv, xv_cc vv, xv_cm vv, xv_cv vv, ts, ti) : gt_V)))) (nI (xa_ts aa)) (xa_cf aa) (xa_ch aa) (nI (xa_km aa)) (nI (xa_kv aa)) (nI (xb_bc bb)) (nI (xe_dc ee)) (nI (xo_ss oo)) (nI (xo_si oo)) (nI (xl_lc ll)) (xp_gb pp) (nI (xp_gm pp)) (nI (xp_gv pp)) (nI (xf_m ff)) (nI (xf_v ff)) (nI (xh_m hh)) (nI (xh_v hh)) (fun zi => nI (xc_kind C zi)) (fun zi => nI (xc_idx C zi)) (fun zi => nI (xc_opA C zi)) (fun zi => nI (xc_opB C zi)) (fun zi => nI (xc_inN C zi)) (fun zi => nI (xc_laN C zi)) (fun zi => nI (xc_root C zi)) (fun zi => nI (xv_cm (((xv_ph vv, xv_fr vv, xv_cc vv, xv_cm vv, xv_cv vv, ts, ti) : gt_V)) zi)) (fun zi => nI (xv_cv (((xv_ph vv, xv_fr vv, xv_cc vv, xv_cm vv, xv_cv vv, ts, ti) : gt_V)) zi)) (fun zi => nI (xv_ts (((xv_ph vv, xv_fr vv, xv_cc vv, xv_cm vv, xv_cv vv, ts, ti) : gt_V)) zi)) (fun zi => nI (xv_ti (((xv_ph vv, xv_fr vv, xv_cc vv, xv_cm vv, xv_cv vv, ts, ti) : gt_V)) zi)) d f (xa_val aa) (fun zi => nI (xa_tr aa zi)) (fun zi => nI (xb_bm bb zi)) (fun zi => nI (xb_bv bb zi)) (fun zi => nI (xe_dn ee zi)) (fun zi => nI (xe_dm ee zi)) (xe_df ee) (fun zi => nI (xl_lm ll zi)) (fun zi => nI (xl_lv ll zi)) (fun zi => nI (xl_le ll zi)) (xl_st ll) (fun zi => nI (xk_m kk zi)) (fun zi => nI (xk_v kk zi)) := by
  have p64 := cr_p64 hC
  have hb := cr_b hC
  intro m
  induction m with
  | zero => intro s f d ts ti h; omega
  | succ m ih =>
    intro s f d ts ti hm hs hd hno
    have e1 : (1 : Int32) <<< (nI (xc_nl C) &&& 31) = nI (2 ^ xc_nl C) := bq_pow (by omega)
    by_cases e : s < 2 ^ xc_nl C
    · have nx : ∀ f' d' ts' ti', ds_P C d' → (cr_ini C s → ¬ cr_can C n s) → wX_findTrace_14 post (nI n) m (nI (s + 1)) (nI (xc_ci C)) (nI (xc_cl C)) (nI (xc_cg C)) (nI (xc_N C)) (nI (xc_ni C)) (nI (xc_nl C)) (nI (xc_ng C)) (nI (xc_fx C)) (nI (xc_on C)) (nI (xv_ph (((xv_ph vv, xv_fr vv, xv_cc vv, xv_cm vv, xv_cv vv, ts', ti') : gt_V)))) (nI (xv_fr (((xv_ph vv, xv_fr vv, xv_cc vv, xv_cm vv, xv_cv vv, ts', ti') : gt_V)))) (nI (xv_cc (((xv_ph vv, xv_fr vv, xv_cc vv, xv_cm vv, xv_cv vv, ts', ti') : gt_V)))) (nI (xa_ts aa)) (xa_cf aa) (xa_ch aa) (nI (xa_km aa)) (nI (xa_kv aa)) (nI (xb_bc bb)) (nI (xe_dc ee)) (nI (xo_ss oo)) (nI (xo_si oo)) (nI (xl_lc ll)) (xp_gb pp) (nI (xp_gm pp)) (nI (xp_gv pp)) (nI (xf_m ff)) (nI (xf_v ff)) (nI (xh_m hh)) (nI (xh_v hh)) (fun zi => nI (xc_kind C zi)) (fun zi => nI (xc_idx C zi)) (fun zi => nI (xc_opA C zi)) (fun zi => nI (xc_opB C zi)) (fun zi => nI (xc_inN C zi)) (fun zi => nI (xc_laN C zi)) (fun zi => nI (xc_root C zi)) (fun zi => nI (xv_cm (((xv_ph vv, xv_fr vv, xv_cc vv, xv_cm vv, xv_cv vv, ts', ti') : gt_V)) zi)) (fun zi => nI (xv_cv (((xv_ph vv, xv_fr vv, xv_cc vv, xv_cm vv, xv_cv vv, ts', ti') : gt_V)) zi)) (fun zi => nI (xv_ts (((xv_ph vv, xv_fr vv, xv_cc vv, xv_cm vv, xv_cv vv, ts', ti') : gt_V)) zi)) (fun zi => nI (xv_ti (((xv_ph vv, xv_fr vv, xv_cc vv, xv_cm vv, xv_cv vv, ts', ti') : gt_V)) zi)) d' f' (xa_val aa) (fun zi => nI (xa_tr aa zi)) (fun zi => nI (xb_bm bb zi)) (fun zi => nI (xb_bv bb zi)) (fun zi => nI (xe_dn ee zi)) (fun zi => nI (xe_dm ee zi)) (xe_df ee) (fun zi => nI (xl_lm ll zi)) (fun zi => nI (xl_lv ll zi)) (fun zi => nI (xl_le ll zi)) (xl_st ll) (fun zi => nI (xk_m kk zi)) (fun zi => nI (xk_v kk zi)) := by
        intro f' d' ts' ti' hd' hno'
        exact ih (s + 1) f' d' ts' ti' (by omega) (by omega) hd' (bt_lt.mpr ⟨hno, hno'⟩)
      refine br_f (by rw [e1]; exact nI_ge e (by omega)) ⟨vp_in_nI (by omega) (by omega), ?_⟩
      rw [nI_clamp (by omega)]
      refine br_c (fun hz => br_f (by decide) ?_) (fun hz => br_t rfl (nm_r (nI_1 s) (nx f d ts ti hd (fun _ => ?_))))
      · rw [db_t (by omega)] at hz
        refine xm_si (dd := d) hC e (fun hi => br_f (by decide) ?_) (fun hi => br_t rfl (nm_r (nI_1 s) (nx f d ts ti hd (fun z => absurd z hi))))
        refine xm_et (dd := d) (vv := ((xv_ph vv, xv_fr vv, xv_cc vv, xv_cm vv, xv_cv vv, ts, ti) : gt_V)) hC hn e hd hz (fun f' d' ts' ti' hd' htr e0 => br_f (by decide) ?_) (fun f' d' ts' ti' hd' hnc => br_t rfl (nm_r (nI_1 s) (nx f' d' ts' ti' hd' (fun _ => hnc))))
        exact K1 f' d' ts' ti' hd' htr (by rw [e0]; exact hi) (by rw [e0]; exact hno)
      · rw [db_t (by omega)] at hz
        exact hd n s hn e (ts_nf hz)
    · have es : s = 2 ^ xc_nl C := by omega
      subst es
      refine br_t (by rw [e1]; exact nI_le (Nat.le_refl _) (by omega)) (K0 f d ts ti hd (fun q hq => hno q hq.1 hq))
theorem xm_ft {post : Int32 → SX → Prop} {n : Nat} (hC : cr_OK C) (hn : n < 64) (hd : ds_P C dd)
    (K1 : ∀ f d ts ti, ds_P C d → tr_P C n ts ti → cr_ini C (ts 0) → (∀ s, s < ts 0 → cr_ini C s → ¬ cr_can C n s) → post 1 (mk_X C (((xv_ph vv, xv_fr vv, xv_cc vv, xv_cm vv, xv_cv vv, ts, ti) : gt_V)) d f aa bb ee oo ll pp ff hh kk))
    (K0 : ∀ f d ts ti, ds_P C d → (∀ s, cr_ini C s → ¬ cr_can C n s) → post 0 (mk_X C (((xv_ph vv, xv_fr vv, xv_cc vv, xv_cm vv, xv_cv vv, ts, ti) : gt_V)) d f aa bb ee oo ll pp ff hh kk)) : wpX_findTrace post (mk_X C vv dd sm aa bb ee oo ll pp ff hh kk) (nI n) :=
  br_f (nI_pos (by omega)) (br_t (nI_lt (b := 64) hn (by omega)) ⟨2 ^ xc_nl C + 1, xm_ft14 hC hn K1 K0 (2 ^ xc_nl C + 1) 0 sm dd (xv_ts vv) (xv_ti vv) (Nat.lt_succ_self _) (Nat.zero_le _) hd (fun q hq => absurd hq (by omega))⟩)
end
end
section
/-! walks: leastOpenState, strengthen's loop -/
def op_T (C : gt_C) (v : gt_V) (t s u : Nat) : Prop := (t = 0 → cr_bad C s u = true) ∧ (∀ j, t = j + 1 → cr_leg C s u = true ∧ cu_in (xv_cm v j) (xv_cv v j) (cr_nxt C s u))
def op_N (v : gt_V) (s : Nat) : Prop := ∀ i, i < xv_cc v → ¬ cu_in (xv_cm v i) (xv_cv v i) s
def op_S (C : gt_C) (v : gt_V) (t s : Nat) : Prop := s < 2 ^ xc_nl C ∧ op_N v s ∧ ∃ u, u < 2 ^ xc_ni C ∧ op_T C v t s u
def cl_ok (C : gt_C) (v : gt_V) : Prop := xv_cc v ≤ 64 ∧ ∀ i, i < xv_cc v → cu_ok C (xv_cm v i) (xv_cv v i)
def lo_B (C : gt_C) (v : gt_V) (x : Int32) (t : Nat) : Prop := (x = -1 ∧ ∀ q, q < t → ∀ s, ¬ op_S C v q s) ∨ ∃ b, x = nI b ∧ b < 2 ^ xc_nl C ∧ (∃ q, q < t ∧ op_S C v q b) ∧ ∀ q, q < t → ∀ s, op_S C v q s → b ≤ s
theorem lo_tg (t : Nat) : nI t - 1 + 1 = nI (t + 1) - 1 := by rw [Int32.sub_add_cancel, nI_pred]
section
variable {C : gt_C} {vv : gt_V} {dd : (Nat → Int64)} {sm : (Nat → Int32)} {aa : gt_A} {bb : gt_B} {ee : gt_E} {oo : gt_O} {ll : gt_L} {pp : gt_P} {ff : gt_F} {hh : gt_H} {kk : gt_K}
theorem xm_lo75 {post : Int32 → SX → Prop} {J : (Int32 → Int32 → Int32 → Int32 → Int32 → Int32 → Int32 → Int32 → Int32 → Int32 → Int32 → Int32 → Int32 → Int32 → Int32 → Int32 → Int32 → Int32 → Int32 → Int32 → Int32 → Int32 → Int32 → Int32 → Int32 → Int32 → Int32 → Int32 → Int32 → Int32 → Int32 → (Nat → Int32) → (Nat → Int32) → (Nat → Int32) → (Nat → Int32) → (Nat → Int32) → (Nat → Int32) → (Nat → Int32) → (Nat → Int32) → (Nat → Int32) → (Nat → Int32) → (Nat → Int32) → (Nat → Int64) → (Nat → Int32) → (Nat → Int32) → (Nat → Int32) → (Nat → Int32) → (Nat → Int32) → (Nat → Int32) → (Nat → Int32) → (Nat → Int32) → (Nat → Int32) → (Nat → Int32) → (Nat → Int32) → (Nat → Int32) → (Nat → Int32) → (Nat → Int32) → Prop)} {x1 : Int32} {t : Nat} {P : Nat → Nat → Prop} {Q : Nat → Prop} (hC : cr_OK C) (hx : lo_B C vv x1 t) (hI : qs_I C aa P) (hB : qb_I C bb 64 Q) (hdc : xe_dc ee = 0) (hPQ : ∀ s u, s < 2 ^ xc_nl C → u < 2 ^ xc_ni C → ((P s u ∧ Q s) ↔ (op_N vv s ∧ op_T C vv t s u))) (K : ∀ x a e o, lo_B C vv x (t + 1) → J x (nI (t + 1) - 1) (nI (xc_ci C)) (nI (xc_cl C)) (nI (xc_cg C)) (nI (xc_N C)) (nI (xc_ni C)) (nI (xc_nl C)) (nI (xc_ng C)) (nI (xc_fx C)) (nI (xc_on C)) (nI (xv_ph vv)) (nI (xv_fr vv)) (nI (xv_cc vv)) (nI (xa_ts a)) (xa_cf a) (xa_ch a) (nI (xa_km a)) (nI (xa_kv a)) (nI (xb_bc bb)) (nI (xe_dc e)) (nI (xo_ss o)) (nI (xo_si o)) (nI (xl_lc ll)) (xp_gb pp) (nI (xp_gm pp)) (nI (xp_gv pp)) (nI (xf_m ff)) (nI (xf_v ff)) (nI (xh_m hh)) (nI (xh_v hh)) (fun zi => nI (xc_kind C zi)) (fun zi => nI (xc_idx C zi)) (fun zi => nI (xc_opA C zi)) (fun zi => nI (xc_opB C zi)) (fun zi => nI (xc_inN C zi)) (fun zi => nI (xc_laN C zi)) (fun zi => nI (xc_root C zi)) (fun zi => nI (xv_cm vv zi)) (fun zi => nI (xv_cv vv zi)) (fun zi => nI (xv_ts vv zi)) (fun zi => nI (xv_ti vv zi)) dd sm (xa_val a) (fun zi => nI (xa_tr a zi)) (fun zi => nI (xb_bm bb zi)) (fun zi => nI (xb_bv bb zi)) (fun zi => nI (xe_dn e zi)) (fun zi => nI (xe_dm e zi)) (xe_df e) (fun zi => nI (xl_lm ll zi)) (fun zi => nI (xl_lv ll zi)) (fun zi => nI (xl_le ll zi)) (xl_st ll) (fun zi => nI (xk_m kk zi)) (fun zi => nI (xk_v kk zi))) : wX_leastOpenState_75 post J x1 (nI t - 1) (nI (xc_ci C)) (nI (xc_cl C)) (nI (xc_cg C)) (nI (xc_N C)) (nI (xc_ni C)) (nI (xc_nl C)) (nI (xc_ng C)) (nI (xc_fx C)) (nI (xc_on C)) (nI (xv_ph vv)) (nI (xv_fr vv)) (nI (xv_cc vv)) (nI (xa_ts aa)) (xa_cf aa) (xa_ch aa) (nI (xa_km aa)) (nI (xa_kv aa)) (nI (xb_bc bb)) (nI (xe_dc ee)) (nI (xo_ss oo)) (nI (xo_si oo)) (nI (xl_lc ll)) (xp_gb pp) (nI (xp_gm pp)) (nI (xp_gv pp)) (nI (xf_m ff)) (nI (xf_v ff)) (nI (xh_m hh)) (nI (xh_v hh)) (fun zi => nI (xc_kind C zi)) (fun zi => nI (xc_idx C zi)) (fun zi => nI (xc_opA C zi)) (fun zi => nI (xc_opB C zi)) (fun zi => nI (xc_inN C zi)) (fun zi => nI (xc_laN C zi)) (fun zi => nI (xc_root C zi)) (fun zi => nI (xv_cm vv zi)) (fun zi => nI (xv_cv vv zi)) (fun zi => nI (xv_ts vv zi)) (fun zi => nI (xv_ti vv zi)) dd sm (xa_val aa) (fun zi => nI (xa_tr aa zi)) (fun zi => nI (xb_bm bb zi)) (fun zi => nI (xb_bv bb zi)) (fun zi => nI (xe_dn ee zi)) (fun zi => nI (xe_dm ee zi)) (xe_df ee) (fun zi => nI (xl_lm ll zi)) (fun zi => nI (xl_lv ll zi)) (fun zi => nI (xl_le ll zi)) (xl_st ll) (fun zi => nI (xk_m kk zi)) (fun zi => nI (xk_v kk zi)) := by
  have p64 := cr_p64 hC
  have key : ∀ s u, s < 2 ^ xc_nl C → u < 2 ^ xc_ni C → ((sb_ok bb s ∧ sa_S C aa s u) ↔ (op_N vv s ∧ op_T C vv t s u)) := by
    intro s u hs hu
    rw [hB.2.2 s hs, hI.2.2 s u hs hu, ← hPQ s u hs hu]
    exact ⟨fun z => ⟨z.2, z.1⟩, fun z => ⟨z.2, z.1⟩⟩
  refine xm_solve hC hB.1 (by have := hB.2.1; omega) hI.1 hI.2.1 hdc (fun a e o s1 s2 s3 s4 s5 => br_f (by decide) ?_) (fun a e o hno => br_t rfl (nm_r (lo_tg t) (K x1 a e o ?_)))
  · have hop : op_S C vv t (xo_ss o) := ⟨s1, ((key _ _ s1 s2).mp ⟨s3, s4⟩).1, _, s2, ((key _ _ s1 s2).mp ⟨s3, s4⟩).2⟩
    have hle : ∀ s, op_S C vv t s → xo_ss o ≤ s := by
      intro s ⟨hs, hn, u, hu, ht⟩
      have := (key s u hs hu).mpr ⟨hn, ht⟩
      exact s5 s u hs hu this.1 this.2
    rcases hx with ⟨rfl, hnone⟩ | ⟨b, rfl, hb, hex, hmin⟩
    · refine br_t (by decide) (nm_r (lo_tg t) (K _ a e o (Or.inr ⟨xo_ss o, rfl, s1, ⟨t, by omega, hop⟩, fun q hq s hs => ?_⟩)))
      by_cases eq : q = t
      · subst eq; exact hle s hs
      · exact absurd hs (hnone q (by omega) s)
    · refine br_f (nI_pos (by omega)) (pk_le b (xo_ss o) (fun h => nm_r (lo_tg t) (K _ a e o (Or.inr ⟨b, rfl, hb, ?_, fun q hq s hs => ?_⟩))) (fun h => nm_r (lo_tg t) (K _ a e o (Or.inr ⟨xo_ss o, rfl, s1, ⟨t, by omega, hop⟩, fun q hq s hs => ?_⟩))))
      · obtain ⟨q, hq, ho⟩ := hex
        exact ⟨q, by omega, ho⟩
      · by_cases eq : q = t
        · subst eq; have := hle s hs; omega
        · exact hmin q (by omega) s hs
      · by_cases eq : q = t
        · subst eq; exact hle s hs
        · have := hmin q (by omega) s hs; omega
  · have hn : ∀ s, ¬ op_S C vv t s := by
      intro s ⟨hs, hn, u, hu, ht⟩
      have := (key s u hs hu).mpr ⟨hn, ht⟩
      exact hno s u hs hu this.1 this.2
    rcases hx with ⟨rfl, hnone⟩ | ⟨b, rfl, hb, ⟨q, hq, ho⟩, hmin⟩
    · refine Or.inl ⟨rfl, fun q hq s => ?_⟩
      by_cases eq : q = t
      · subst eq; exact hn s
      · exact hnone q (by omega) s
    · refine Or.inr ⟨b, rfl, hb, ⟨q, by omega, ho⟩, fun q hq s hs => ?_⟩
      by_cases eq : q = t
      · subst eq; exact absurd hs (hn s)
      · exact hmin q (by omega) s hs
theorem xm_lo18 {post : Int32 → SX → Prop} {J : (Int32 → Int32 → Int32 → Int32 → Int32 → Int32 → Int32 → Int32 → Int32 → Int32 → Int32 → Int32 → Int32 → Int32 → Int32 → Int32 → Int32 → Int32 → Int32 → Int32 → Int32 → Int32 → Int32 → Int32 → Int32 → Int32 → Int32 → Int32 → Int32 → Int32 → Int32 → (Nat → Int32) → (Nat → Int32) → (Nat → Int32) → (Nat → Int32) → (Nat → Int32) → (Nat → Int32) → (Nat → Int32) → (Nat → Int32) → (Nat → Int32) → (Nat → Int32) → (Nat → Int32) → (Nat → Int64) → (Nat → Int32) → (Nat → Int32) → (Nat → Int32) → (Nat → Int32) → (Nat → Int32) → (Nat → Int32) → (Nat → Int32) → (Nat → Int32) → (Nat → Int32) → (Nat → Int32) → (Nat → Int32) → (Nat → Int32) → (Nat → Int32) → (Nat → Int32) → Prop)} {x1 : Int32} {t : Nat} (hC : cr_OK C) (hcl : cl_ok C vv) (ht : t ≤ xv_cc vv) (hx : lo_B C vv x1 t) (hI : qs_I C aa (fun _ _ => True)) (hdc : xe_dc ee = 0) (K : ∀ x a b e o, lo_B C vv x (t + 1) → J x (nI (t + 1) - 1) (nI (xc_ci C)) (nI (xc_cl C)) (nI (xc_cg C)) (nI (xc_N C)) (nI (xc_ni C)) (nI (xc_nl C)) (nI (xc_ng C)) (nI (xc_fx C)) (nI (xc_on C)) (nI (xv_ph vv)) (nI (xv_fr vv)) (nI (xv_cc vv)) (nI (xa_ts a)) (xa_cf a) (xa_ch a) (nI (xa_km a)) (nI (xa_kv a)) (nI (xb_bc b)) (nI (xe_dc e)) (nI (xo_ss o)) (nI (xo_si o)) (nI (xl_lc ll)) (xp_gb pp) (nI (xp_gm pp)) (nI (xp_gv pp)) (nI (xf_m ff)) (nI (xf_v ff)) (nI (xh_m hh)) (nI (xh_v hh)) (fun zi => nI (xc_kind C zi)) (fun zi => nI (xc_idx C zi)) (fun zi => nI (xc_opA C zi)) (fun zi => nI (xc_opB C zi)) (fun zi => nI (xc_inN C zi)) (fun zi => nI (xc_laN C zi)) (fun zi => nI (xc_root C zi)) (fun zi => nI (xv_cm vv zi)) (fun zi => nI (xv_cv vv zi)) (fun zi => nI (xv_ts vv zi)) (fun zi => nI (xv_ti vv zi)) dd sm (xa_val a) (fun zi => nI (xa_tr a zi)) (fun zi => nI (xb_bm b zi)) (fun zi => nI (xb_bv b zi)) (fun zi => nI (xe_dn e zi)) (fun zi => nI (xe_dm e zi)) (xe_df e) (fun zi => nI (xl_lm ll zi)) (fun zi => nI (xl_lv ll zi)) (fun zi => nI (xl_le ll zi)) (xl_st ll) (fun zi => nI (xk_m kk zi)) (fun zi => nI (xk_v kk zi))) : ∀ n i b, xv_cc vv - i < n → i ≤ xv_cc vv → qb_I C b i (fun s => ∀ q, q < i → ¬ cu_in (xv_cm vv q) (xv_cv vv q) s) → wX_leastOpenState_18 post J x1 (nI t - 1) n (nI i) (nI (xc_ci C)) (nI (xc_cl C)) (nI (xc_cg C)) (nI (xc_N C)) (nI (xc_ni C)) (nI (xc_nl C)) (nI (xc_ng C)) (nI (xc_fx C)) (nI (xc_on C)) (nI (xv_ph vv)) (nI (xv_fr vv)) (nI (xv_cc vv)) (nI (xa_ts aa)) (xa_cf aa) (xa_ch aa) (nI (xa_km aa)) (nI (xa_kv aa)) (nI (xb_bc b)) (nI (xe_dc ee)) (nI (xo_ss oo)) (nI (xo_si oo)) (nI (xl_lc ll)) (xp_gb pp) (nI (xp_gm pp)) (nI (xp_gv pp)) (nI (xf_m ff)) (nI (xf_v ff)) (nI (xh_m hh)) (nI (xh_v hh)) (fun zi => nI (xc_kind C zi)) (fun zi => nI (xc_idx C zi)) (fun zi => nI (xc_opA C zi)) (fun zi => nI (xc_opB C zi)) (fun zi => nI (xc_inN C zi)) (fun zi => nI (xc_laN C zi)) (fun zi => nI (xc_root C zi)) (fun zi => nI (xv_cm vv zi)) (fun zi => nI (xv_cv vv zi)) (fun zi => nI (xv_ts vv zi)) (fun zi => nI (xv_ti vv zi)) dd sm (xa_val aa) (fun zi => nI (xa_tr aa zi)) (fun zi => nI (xb_bm b zi)) (fun zi => nI (xb_bv b zi)) (fun zi => nI (xe_dn ee zi)) (fun zi => nI (xe_dm ee zi)) (xe_df ee) (fun zi => nI (xl_lm ll zi)) (fun zi => nI (xl_lv ll zi)) (fun zi => nI (xl_le ll zi)) (xl_st ll) (fun zi => nI (xk_m kk zi)) (fun zi => nI (xk_v kk zi)) := by
  have hc64 := hcl.1
  intro n
  induction n with
  | zero => intro i b h; omega
  | succ n ih =>
    intro i b hn hi hB
    by_cases e : i < xv_cc vv
    · have hin : vp_in (nI i) 64 := vp_in_nI (by omega) (by omega)
      refine br_f (nI_ge e (by omega)) ⟨hin, hin, ?_⟩
      rw [nI_clamp (by omega)]
      refine xm_blk (bb := b) (hcl.2 i e) hB (by omega) (fun b' hB' => nm_r (nI_1 i) (ih (i + 1) b' (by omega) (by omega) ?_))
      obtain ⟨i1, i2, i3⟩ := hB'
      refine ⟨i1, i2, fun s hs => (i3 s hs).trans ?_⟩
      dsimp only
      rw [bt_lt]
    · have ei : i = xv_cc vv := by omega
      subst ei
      have hB64 : qb_I C b 64 (fun s => op_N vv s) := ⟨hB.1, by have := hB.2.1; omega, hB.2.2⟩
      refine br_t (nI_le (Nat.le_refl _) (by omega)) ?_
      cases t with
      | zero =>
        refine br_f (by decide) ?_
        refine xm_reqB (bb := b) hC hI (fun a' hI' => ?_)
        refine xm_lo75 (bb := b) hC hx hI' hB64 hdc (fun s u _ _ => ?_) (fun x a e o h => K x a b e o h)
        unfold op_T
        exact ⟨fun z => ⟨z.2, fun _ => z.1.2, fun j y => absurd y (by omega)⟩, fun z => ⟨⟨trivial, z.2.1 rfl⟩, z.1⟩⟩
      | succ t =>
        have hin : vp_in (nI t) 64 := vp_in_nI (by omega) (by omega)
        have hct := hcl.2 t (by omega)
        rw [show nI (t + 1) - 1 = nI t from nI_pred t]
        refine br_t (nI_pos' (by omega)) ⟨hin, hin, ?_⟩
        rw [nI_clamp (by omega)]
        refine xm_reqI (bb := b) (m := xv_cm vv t) (v := xv_cv vv t) hC hI (fun a' hI' => ?_)
        have := xm_lo75 (post := post) (J := J) (C := C) (vv := vv) (dd := dd) (sm := sm) (aa := a') (bb := b) (ee := ee) (oo := oo) (ll := ll) (pp := pp) (ff := ff) (hh := hh) (kk := kk) (x1 := x1) (t := t + 1) hC hx hI' hB64 hdc (fun s u _ _ => by
          unfold op_T
          rw [← cu_inn hct]
          exact ⟨fun z => ⟨z.2, fun y => absurd y (by omega), fun j y => by rw [← Nat.succ.inj y]; exact ⟨z.1.1.2, z.1.2⟩⟩, fun z => ⟨⟨⟨trivial, (z.2.2 t rfl).1⟩, (z.2.2 t rfl).2⟩, z.1⟩⟩) (fun x a e o h => K x a b e o h)
        rw [show nI (t + 1) - 1 = nI t from nI_pred t] at this
        exact this
theorem xm_lo4 {post : Int32 → SX → Prop} (hC : cr_OK C) (hcl : cl_ok C vv) (K : ∀ x a b e o, lo_B C vv x (xv_cc vv + 1) → post x (mk_X C vv dd sm a b e o ll pp ff hh kk)) : ∀ n t x a b e o, xv_cc vv + 1 - t < n → t ≤ xv_cc vv + 1 → lo_B C vv x t → wX_leastOpenState_4 post n x (nI t - 1) (nI (xc_ci C)) (nI (xc_cl C)) (nI (xc_cg C)) (nI (xc_N C)) (nI (xc_ni C)) (nI (xc_nl C)) (nI (xc_ng C)) (nI (xc_fx C)) (nI (xc_on C)) (nI (xv_ph vv)) (nI (xv_fr vv)) (nI (xv_cc vv)) (nI (xa_ts a)) (xa_cf a) (xa_ch a) (nI (xa_km a)) (nI (xa_kv a)) (nI (xb_bc b)) (nI (xe_dc e)) (nI (xo_ss o)) (nI (xo_si o)) (nI (xl_lc ll)) (xp_gb pp) (nI (xp_gm pp)) (nI (xp_gv pp)) (nI (xf_m ff)) (nI (xf_v ff)) (nI (xh_m hh)) (nI (xh_v hh)) (fun zi => nI (xc_kind C zi)) (fun zi => nI (xc_idx C zi)) (fun zi => nI (xc_opA C zi)) (fun zi => nI (xc_opB C zi)) (fun zi => nI (xc_inN C zi)) (fun zi => nI (xc_laN C zi)) (fun zi => nI (xc_root C zi)) (fun zi => nI (xv_cm vv zi)) (fun zi => nI (xv_cv vv zi)) (fun zi => nI (xv_ts vv zi)) (fun zi => nI (xv_ti vv zi)) dd sm (xa_val a) (fun zi => nI (xa_tr a zi)) (fun zi => nI (xb_bm b zi)) (fun zi => nI (xb_bv b zi)) (fun zi => nI (xe_dn e zi)) (fun zi => nI (xe_dm e zi)) (xe_df e) (fun zi => nI (xl_lm ll zi)) (fun zi => nI (xl_lv ll zi)) (fun zi => nI (xl_le ll zi)) (xl_st ll) (fun zi => nI (xk_m kk zi)) (fun zi => nI (xk_v kk zi)) := by
  have hc64 := hcl.1
  intro n
  induction n with
  | zero => intro t x a b e o h; omega
  | succ n ih =>
    intro t x a b e o hn ht hx
    by_cases et : t ≤ xv_cc vv
    · have hlt : ¬ nI (xv_cc vv) ≤ nI t - 1 := by
        cases t with
        | zero =>
          rw [Int32.not_le]
          exact Int32.lt_of_lt_of_le (b := 0) (by decide) (nI_pos' (by omega))
        | succ t => rw [nI_pred]; exact nI_ge (by omega) (by omega)
      refine br_f hlt ?_
      refine xm_bq hC (fun a1 hI1 => ?_)
      refine ⟨xv_cc vv + 1, xm_lo18 (ee := ((0, xe_dn e, xe_dm e, xe_df e) : gt_E)) (oo := o) hC hcl et hx hI1 rfl (fun x' a' b' e' o' h => ih (t + 1) x' a' b' e' o' (by omega) (by omega) h) (xv_cc vv + 1) 0 (((0, xb_bm b, xb_bv b) : gt_B)) (by omega) (by omega) ⟨fun i hi => absurd hi (Nat.not_lt_zero _), Nat.zero_le _, fun s _ => ⟨fun _ q hq => absurd hq (Nat.not_lt_zero _), fun _ i hi => absurd hi (Nat.not_lt_zero _)⟩⟩⟩
    · have et' : t = xv_cc vv + 1 := by omega
      subst et'
      refine br_t (by rw [nI_pred]; exact nI_le (Nat.le_refl _) (by omega)) (K x a b e o hx)
theorem xm_lo {post : Int32 → SX → Prop} (hC : cr_OK C) (hcl : cl_ok C vv) (K : ∀ x a b e o, lo_B C vv x (xv_cc vv + 1) → post x (mk_X C vv dd sm a b e o ll pp ff hh kk)) : wpX_leastOpenState post (mk_X C vv dd sm aa bb ee oo ll pp ff hh kk) :=
  ⟨xv_cc vv + 2, xm_lo4 hC hcl K (xv_cc vv + 2) 0 (-1) aa bb ee oo (by omega) (by omega) (Or.inl ⟨rfl, fun q hq => absurd hq (by omega)⟩)⟩
end
/-- dropping latches while the cube stays out of reach -/
def nr_P (C : gt_C) (m v : Nat) : Prop := ∀ n s, cr_R C n s → ¬ cu_in m v s
noncomputable def sw_f (C : gt_C) (m v : Nat) : Nat → Nat × Nat
  | 0 => (m, v)
  | j + 1 => if bo_b (nr_P C (bq_an (sw_f C m v j).1 (2 ^ j)) (bq_an (sw_f C m v j).2 (2 ^ j))) = true then (bq_an (sw_f C m v j).1 (2 ^ j), bq_an (sw_f C m v j).2 (2 ^ j)) else sw_f C m v j
theorem sw_ok {C : gt_C} {m v : Nat} (h : cu_ok C m v) : ∀ j, cu_ok C (sw_f C m v j).1 (sw_f C m v j).2 ∧ cv_c (sw_f C m v j).1 (sw_f C m v j).2 m v := by
  intro j
  induction j with
  | zero => exact ⟨h, cv_r h.2⟩
  | succ j ih =>
    obtain ⟨a, b⟩ := bq_drop (j := j) ih.1
    unfold sw_f
    split
    · exact ⟨a, cv_t b ih.2⟩
    · exact ih
theorem sw_t {C : gt_C} {m v j : Nat} (h : nr_P C (bq_an (sw_f C m v j).1 (2 ^ j)) (bq_an (sw_f C m v j).2 (2 ^ j))) : sw_f C m v (j + 1) = (bq_an (sw_f C m v j).1 (2 ^ j), bq_an (sw_f C m v j).2 (2 ^ j)) := if_pos (bo_t.mpr h)
theorem sw_n {C : gt_C} {m v j : Nat} (h : ¬ nr_P C (bq_an (sw_f C m v j).1 (2 ^ j)) (bq_an (sw_f C m v j).2 (2 ^ j))) : sw_f C m v (j + 1) = sw_f C m v j := if_neg (fun z => h (bo_t.mp z))
section
variable {C : gt_C} {vv : gt_V} {dd : (Nat → Int64)} {sm : (Nat → Int32)} {aa : gt_A} {bb : gt_B} {ee : gt_E} {oo : gt_O} {ll : gt_L} {pp : gt_P} {ff : gt_F} {hh : gt_H} {kk : gt_K}
theorem xm_st48 {post : Int32 → SX → Prop} {m v : Nat} (hC : cr_OK C) (hm : cu_ok C m v) (hcc : xv_cc vv < 64) (K : ∀ a b e o f g h z l p, fr_I C l → post (nI (xv_ph vv)) (mk_X C (((xv_ph vv, xv_fr vv, xv_cc vv + 1, up_n (xv_cm vv) (xv_cc vv) (sw_f C m v (xc_nl C)).1, up_n (xv_cv vv) (xv_cc vv) (sw_f C m v (xc_nl C)).2, xv_ts vv, xv_ti vv) : gt_V)) dd f a b e o l p g h z)) : ∀ n j a b e o f g h z l p, xc_nl C - j < n → j ≤ xc_nl C → fr_I C l → wX_strengthen_48 post n (nI (sw_f C m v j).1) (nI (sw_f C m v j).2) (nI j) (nI (xc_ci C)) (nI (xc_cl C)) (nI (xc_cg C)) (nI (xc_N C)) (nI (xc_ni C)) (nI (xc_nl C)) (nI (xc_ng C)) (nI (xc_fx C)) (nI (xc_on C)) (nI (xv_ph vv)) (nI (xv_fr vv)) (nI (xv_cc vv)) (nI (xa_ts a)) (xa_cf a) (xa_ch a) (nI (xa_km a)) (nI (xa_kv a)) (nI (xb_bc b)) (nI (xe_dc e)) (nI (xo_ss o)) (nI (xo_si o)) (nI (xl_lc l)) (xp_gb p) (nI (xp_gm p)) (nI (xp_gv p)) (nI (xf_m g)) (nI (xf_v g)) (nI (xh_m h)) (nI (xh_v h)) (fun zi => nI (xc_kind C zi)) (fun zi => nI (xc_idx C zi)) (fun zi => nI (xc_opA C zi)) (fun zi => nI (xc_opB C zi)) (fun zi => nI (xc_inN C zi)) (fun zi => nI (xc_laN C zi)) (fun zi => nI (xc_root C zi)) (fun zi => nI (xv_cm vv zi)) (fun zi => nI (xv_cv vv zi)) (fun zi => nI (xv_ts vv zi)) (fun zi => nI (xv_ti vv zi)) dd f (xa_val a) (fun zi => nI (xa_tr a zi)) (fun zi => nI (xb_bm b zi)) (fun zi => nI (xb_bv b zi)) (fun zi => nI (xe_dn e zi)) (fun zi => nI (xe_dm e zi)) (xe_df e) (fun zi => nI (xl_lm l zi)) (fun zi => nI (xl_lv l zi)) (fun zi => nI (xl_le l zi)) (xl_st l) (fun zi => nI (xk_m z zi)) (fun zi => nI (xk_v z zi)) := by
  have hb := cr_b hC
  intro n
  induction n with
  | zero => intro j a b e o f g h z l p hn; omega
  | succ n ih =>
    intro j a b e o f g h z l p hn hj hI
    by_cases ej : j < xc_nl C
    · obtain ⟨d1, d2⟩ := bq_drop (j := j) (sw_ok hm j).1
      refine br_f (nI_ge ej (by omega)) (nm_r (e' := nI (bq_an (sw_f C m v j).1 (2 ^ j))) (by rw [bq_pow (by omega), bq_anI]) (nm_r (e' := nI (bq_an (sw_f C m v j).2 (2 ^ j))) (by rw [bq_pow (by omega), bq_anI]) ?_))
      refine xm_cd (ll := l) hC d1 hI (fun k a' b' e' o' f' g' h' z' l' p' hk hI' hex hno => br_f ?_ (nm_r (nI_1 j) ?_)) (fun a' b' e' o' f' g' h' z' l' p' hI' hno => br_t rfl (nm_r (nI_1 j) ?_))
      · intro y
        have : (0 : Int32) ≤ nI k := nI_pos' (by omega)
        rw [y] at this
        exact absurd this (by decide)
      · have hnn : ¬ nr_P C (bq_an (sw_f C m v j).1 (2 ^ j)) (bq_an (sw_f C m v j).2 (2 ^ j)) := by
          intro y
          obtain ⟨s, h1, h2⟩ := hex
          exact y k s h1 h2
        have := ih (j + 1) a' b' e' o' f' g' h' z' l' p' (by omega) (by omega) hI'
        rw [sw_n hnn] at this
        exact this
      · have := ih (j + 1) a' b' e' o' f' g' h' z' l' p' (by omega) (by omega) hI'
        rw [sw_t hno] at this
        exact this
    · have ej : j = xc_nl C := by omega
      subst ej
      have hin : vp_in (nI (xv_cc vv)) 64 := vp_in_nI (by omega) (by omega)
      exact br_t (nI_le (Nat.le_refl _) (by omega)) ⟨hin, nm_r (up_I (by omega)) ⟨hin, nm_r (up_I (by omega)) (nm_r (nI_1 _) (K a b e o f g h z l p hI))⟩⟩
end
end
section
/-! the reference's walks: values, successor, badPair, cubes, initial states -/
def b2_n (b : Bool) : Nat := if b = true then 1 else 0
theorem b2_01 (b : Bool) : b2_n b ≤ 1 := by cases b <;> decide
theorem b2_bit {m j : Nat} (hj : j < 32) : (nI m >>> (nI j &&& 31)) &&& 1 = nI (b2_n (m.testBit j)) := by
  rw [bq_bit hj]; cases m.testBit j <;> rfl
theorem b2_and (a b : Bool) : nI (b2_n a) &&& nI (b2_n b) = nI (b2_n (a && b)) := by cases a <;> cases b <;> decide
theorem b2_or (a b : Bool) : nI (b2_n a) ||| nI (b2_n b) = nI (b2_n (a || b)) := by cases a <;> cases b <;> decide
theorem b2_xor (a b : Bool) : nI (b2_n a) ^^^ nI (b2_n b) = nI (b2_n (a ^^ b)) := by cases a <;> cases b <;> decide
theorem b2_0 (b : Bool) : nI (b2_n b) = 0 ↔ b = false := by cases b <;> decide
theorem b2_1 (b : Bool) : nI (b2_n b) = 1 ↔ b = true := by cases b <;> decide
/-- the reference's kinds -/
def yk_k (k : Nat) : Nat := if k = 0 then 5 else if k = 1 then 3 else if k = 2 then 4 else k - 3
def rl_C (C : gt_C) (D : gu_C) : Prop :=
  (yc_ci D = xc_ci C ∧ yc_cl D = xc_cl C ∧ yc_cg D = xc_cg C ∧ yc_N D = xc_N C ∧ yc_ni D = xc_ni C ∧ yc_nl D = xc_nl C ∧ yc_ng D = xc_ng C) ∧
  (∀ n, n < xc_N C → yc_kind D n = yk_k (xc_kind C n)) ∧
  (∀ n, n < xc_N C → (xc_kind C n = 1 ∨ xc_kind C n = 2) → yc_fst D n = xc_idx C n) ∧
  (∀ n, n < xc_N C → 3 ≤ xc_kind C n → yc_fst D n = xc_opA C n ∧ yc_snd D n = xc_opB C n) ∧
  (∀ j, j < xc_nl C → yc_ini D j ≤ 2 ∧ (xc_fx C).testBit j = !decide (yc_ini D j = 2) ∧ (xc_on C).testBit j = decide (yc_ini D j = 1)) ∧
  yc_root D = xc_root C
section
variable {C : gt_C}
variable {D : gu_C} {ww : gu_V} {tt : gu_T} {nv : (Nat → Nat)} {ds : (Nat → Int32)} {fi : (Nat → Int32)}
theorem ym_lv {post : Int32 → Prop} {x s u : Nat} (hC : cr_OK C) (hx : x < 2 * xc_N C) (hv : nv (x / 2) = b2_n (cr_ev C s u (x / 2))) (K : post (nI (b2_n (cr_lit C s u x)))) : wpY_literalValue post (mk_Y D ww tt nv ds fi) (nI x) := by
  have hb := cr_b hC
  have hh : nI x >>> ((1 : Int32) &&& 31) = nI (x / 2) := bq_half (by omega)
  refine ⟨by rw [hh]; exact vp_in_nI (by omega) (by omega), ?_⟩
  have e : (fun i => nI (nv i)) (nI x >>> ((1 : Int32) &&& 31)).toNatClampNeg ^^^ (nI x &&& 1) = nI (b2_n (cr_lit C s u x)) := by
    rw [hh, nI_clamp (by omega), bq_low (by omega)]
    show nI (nv (x / 2)) ^^^ nI (x % 2) = _
    rw [hv, show x % 2 = b2_n (decide (x % 2 = 1)) from by
      rcases Nat.mod_two_eq_zero_or_one x with z | z <;> rw [z] <;> rfl, b2_xor]
    rfl
  show post ((fun i => nI (nv i)) (nI x >>> ((1 : Int32) &&& 31)).toNatClampNeg ^^^ (nI x &&& 1))
  rw [e]
  exact K
theorem ym_co2 {post : SY → Prop} {s u : Nat} (hC : cr_OK C) (hD : rl_C C D) (K : ∀ f, (∀ n, n < xc_N C → f n = b2_n (cr_ev C s u n)) → post (mk_Y D ww tt f ds fi)) : ∀ n i (f : Nat → Nat), xc_N C - i < n → i ≤ xc_N C → (∀ j, j < i → f j = b2_n (cr_ev C s u j)) → wY_compute_2 post (nI s) (nI u) (nI (yc_ci D)) (nI (yc_cl D)) (nI (yc_cg D)) (nI (yc_N D)) (nI (yc_ni D)) (nI (yc_nl D)) (nI (yc_ng D)) (nI (yv_fr ww)) (nI (yv_cc ww)) (nI (yv_ph ww)) n (nI i) (fun zi => nI (yc_kind D zi)) (fun zi => nI (yc_fst D zi)) (fun zi => nI (yc_snd D zi)) (fun zi => nI (f zi)) (fun zi => nI (yc_ini D zi)) (fun zi => nI (yc_root D zi)) (fun zi => nI (yv_cm ww zi)) (fun zi => nI (yv_cv ww zi)) (fun zi => nI (yt_ts tt zi)) (fun zi => nI (yt_ti tt zi)) ds fi := by
  have hb := cr_b hC
  obtain ⟨⟨_, _, _, eN, _, _, _⟩, hk, h12, h3, _, _⟩ := hD
  intro n
  induction n with
  | zero => intro i f h; omega
  | succ n ih =>
    intro i f hn hi hf
    by_cases e : i < xc_N C
    · have hin : vp_in (nI i) 29 := vp_in_nI (by omega) (by omega)
      have hcl : (nI i).toNatClampNeg = i := nI_clamp (by omega)
      have ki := hk i e
      have k5 : xc_kind C i ≤ 5 := by
        rcases Nat.eq_zero_or_pos i with z | z
        · rw [z, cr_k0 hC]; omega
        · exact (cr_kp hC e z).2
      have yk5 : yc_kind D i ≤ 5 := by rw [ki]; unfold yk_k; split <;> (try split) <;> (try split) <;> omega
      have ev := cr_ev_eq hC (s := s) (u := u) e
      have nx : ∀ b : Bool, cr_ev C s u i = b → wY_compute_2 post (nI s) (nI u) (nI (yc_ci D)) (nI (yc_cl D)) (nI (yc_cg D)) (nI (yc_N D)) (nI (yc_ni D)) (nI (yc_nl D)) (nI (yc_ng D)) (nI (yv_fr ww)) (nI (yv_cc ww)) (nI (yv_ph ww)) n (nI (i + 1)) (fun zi => nI (yc_kind D zi)) (fun zi => nI (yc_fst D zi)) (fun zi => nI (yc_snd D zi)) (fun zi => nI ((up_n f i (b2_n b)) zi)) (fun zi => nI (yc_ini D zi)) (fun zi => nI (yc_root D zi)) (fun zi => nI (yv_cm ww zi)) (fun zi => nI (yv_cv ww zi)) (fun zi => nI (yt_ts tt zi)) (fun zi => nI (yt_ti tt zi)) ds fi := by
        intro b hb'
        refine ih (i + 1) (up_n f i (b2_n b)) (by omega) (by omega) (fun j hj => ?_)
        by_cases ej : j = i
        · subst ej; rw [up_s, hb']
        · rw [up_o ej]; exact hf j (by omega)
      have hkk : (fun x => nI (yc_kind D x)) (nI i).toNatClampNeg = nI (yc_kind D i) := by rw [hcl]
      refine br_f (by rw [eN]; exact nI_ge e (by omega)) ⟨hin, nm_r (e' := nI (yc_fst D i)) (by rw [hcl]) ⟨hin, nm_r (e' := nI (yc_snd D i)) (by rw [hcl]) ⟨hin, ?_⟩⟩⟩
      rw [hcl]
      have up : ∀ b : Bool, upd (fun x => nI (f x)) i (nI (b2_n b)) = (fun x => nI (up_n f i (b2_n b) x)) := fun b => up_L
      refine pk_eq (yc_kind D i) 3 (fun y3 => ?_) (fun y3 => ⟨hin, pk_eq (yc_kind D i) 4 (fun y4 => ?_) (fun y4 => ⟨hin, pk_lt 2 (yc_kind D i) (fun y5 => ?_) (fun y2 => ?_)⟩)⟩)
      · have xk : xc_kind C i = 1 := by
          rw [ki] at y3; unfold yk_k at y3; split at y3 <;> (try split at y3) <;> (try split at y3) <;> omega
        have hix := (cr_ki hC e xk).1
        refine nm_r (e' := nI (b2_n (u.testBit (xc_idx C i)))) (by rw [h12 i e (Or.inl xk)]; exact b2_bit (by omega)) ⟨hin, nm_r (up _) (nm_r (nI_1 i) (nx _ ?_))⟩
        rw [ev]; unfold cr_gate; rw [if_pos xk]
      · have xk : xc_kind C i = 2 := by
          rw [ki] at y4; unfold yk_k at y4; split at y4 <;> (try split at y4) <;> (try split at y4) <;> omega
        have hix := (cr_kl hC e xk).1
        refine nm_r (e' := nI (b2_n (s.testBit (xc_idx C i)))) (by rw [h12 i e (Or.inr xk)]; exact b2_bit (by omega)) ⟨hin, nm_r (up _) (nm_r (nI_1 i) (nx _ ?_))⟩
        rw [ev]; unfold cr_gate; rw [if_neg (by omega), if_pos xk]
      · have xk : xc_kind C i = 0 := by
          rw [ki] at y3 y4 y5; unfold yk_k at y3 y4 y5
          by_cases z : xc_kind C i = 0
          · exact z
          · rw [if_neg z] at y3 y4 y5
            by_cases z1 : xc_kind C i = 1
            · rw [if_pos z1] at y3; omega
            · rw [if_neg z1] at y3 y4 y5
              by_cases z2 : xc_kind C i = 2
              · rw [if_pos z2] at y4; omega
              · rw [if_neg z2] at y3 y4 y5; omega
        refine ⟨hin, nm_r (up false) (nm_r (nI_1 i) (nx false ?_))⟩
        rw [ev]; unfold cr_gate
        rw [if_neg (by omega), if_neg (by omega), if_neg (by omega), if_neg (by omega), if_neg (by omega)]
      · have xk : 3 ≤ xc_kind C i ∧ yc_kind D i = xc_kind C i - 3 := by
          rw [ki] at y3 y4 y2 ⊢; unfold yk_k at y3 y4 y2 ⊢
          by_cases z : xc_kind C i = 0
          · rw [if_pos z] at y2; omega
          · rw [if_neg z] at y3 y4 y2 ⊢
            by_cases z1 : xc_kind C i = 1
            · rw [if_pos z1] at y3; omega
            · rw [if_neg z1] at y3 y4 y2 ⊢
              by_cases z2 : xc_kind C i = 2
              · rw [if_pos z2] at y4; omega
              · rw [if_neg z2] at y3 y4 y2 ⊢; omega
        obtain ⟨oa, ob⟩ := cr_kg hC e xk.1
        obtain ⟨fa, fb⟩ := h3 i e xk.1
        rw [fa, fb]
        refine ym_lv (C := C) (D := D) (ww := ww) (tt := tt) (nv := f) (ds := ds) (fi := fi) (s := s) (u := u) hC (by omega) (hf _ (by omega)) (ym_lv (C := C) (D := D) (ww := ww) (tt := tt) (nv := f) (ds := ds) (fi := fi) (s := s) (u := u) hC (by omega) (hf _ (by omega)) ⟨hin, ?_⟩)
        have w130 : ∀ x6 : Int32, (yc_kind D i = 2 → True) → (yc_kind D i ≠ 2 → x6 = nI (b2_n (cr_ev C s u i))) → wY_compute_130 post (wY_compute_2 post (nI s) (nI u) (nI (yc_ci D)) (nI (yc_cl D)) (nI (yc_cg D)) (nI (yc_N D)) (nI (yc_ni D)) (nI (yc_nl D)) (nI (yc_ng D)) (nI (yv_fr ww)) (nI (yv_cc ww)) (nI (yv_ph ww)) n) (nI s) (nI u) (nI i) x6 (nI (b2_n (cr_lit C s u (xc_opA C i)))) (nI (b2_n (cr_lit C s u (xc_opB C i)))) (nI (yc_ci D)) (nI (yc_cl D)) (nI (yc_cg D)) (nI (yc_N D)) (nI (yc_ni D)) (nI (yc_nl D)) (nI (yc_ng D)) (nI (yv_fr ww)) (nI (yv_cc ww)) (nI (yv_ph ww)) (fun zi => nI (yc_kind D zi)) (fun zi => nI (yc_fst D zi)) (fun zi => nI (yc_snd D zi)) (fun zi => nI (f zi)) (fun zi => nI (yc_ini D zi)) (fun zi => nI (yc_root D zi)) (fun zi => nI (yv_cm ww zi)) (fun zi => nI (yv_cv ww zi)) (fun zi => nI (yt_ts tt zi)) (fun zi => nI (yt_ti tt zi)) ds fi := by
          intro x6 _ h6
          refine ⟨hin, ?_⟩
          rw [hcl]
          refine pk_eq (yc_kind D i) 2 (fun y => ?_) (fun y => ?_)
          · refine nm_r (b2_xor _ _) ⟨hin, nm_r (up _) (nm_r (nI_1 i) (nx _ ?_))⟩
            rw [ev]; unfold cr_gate
            rw [if_neg (by omega), if_neg (by omega), if_neg (by omega), if_neg (by omega), if_pos (by omega)]; rfl
          · rw [h6 y]
            exact ⟨hin, nm_r (up _) (nm_r (nI_1 i) (nx _ rfl))⟩
        have w113 : ∀ x6 : Int32, (yc_kind D i = 0 → x6 = nI (b2_n (cr_ev C s u i))) → wY_compute_113 post (wY_compute_2 post (nI s) (nI u) (nI (yc_ci D)) (nI (yc_cl D)) (nI (yc_cg D)) (nI (yc_N D)) (nI (yc_ni D)) (nI (yc_nl D)) (nI (yc_ng D)) (nI (yv_fr ww)) (nI (yv_cc ww)) (nI (yv_ph ww)) n) (nI s) (nI u) (nI i) x6 (nI (b2_n (cr_lit C s u (xc_opA C i)))) (nI (b2_n (cr_lit C s u (xc_opB C i)))) (nI (yc_ci D)) (nI (yc_cl D)) (nI (yc_cg D)) (nI (yc_N D)) (nI (yc_ni D)) (nI (yc_nl D)) (nI (yc_ng D)) (nI (yv_fr ww)) (nI (yv_cc ww)) (nI (yv_ph ww)) (fun zi => nI (yc_kind D zi)) (fun zi => nI (yc_fst D zi)) (fun zi => nI (yc_snd D zi)) (fun zi => nI (f zi)) (fun zi => nI (yc_ini D zi)) (fun zi => nI (yc_root D zi)) (fun zi => nI (yv_cm ww zi)) (fun zi => nI (yv_cv ww zi)) (fun zi => nI (yt_ts tt zi)) (fun zi => nI (yt_ti tt zi)) ds fi := by
          intro x6 h6
          refine ⟨hin, ?_⟩
          rw [hcl]
          refine pk_eq (yc_kind D i) 1 (fun y => ?_) (fun y => ?_)
          · refine nm_r (b2_or _ _) (w130 _ (fun _ => trivial) (fun _ => ?_))
            rw [ev]; unfold cr_gate
            rw [if_neg (by omega), if_neg (by omega), if_neg (by omega), if_pos (by omega)]; rfl
          · exact w130 _ (fun _ => trivial) (fun y2 => h6 (by omega))
        refine pk_eq (yc_kind D i) 0 (fun y => ?_) (fun y => ?_)
        · refine nm_r (b2_and _ _) (w113 _ (fun _ => ?_))
          rw [ev]; unfold cr_gate
          rw [if_neg (by omega), if_neg (by omega), if_pos (by omega)]; rfl
        · exact w113 _ (fun z => absurd z y)
    · have ei : i = xc_N C := by omega
      subst ei
      exact br_t (by rw [eN]; exact nI_le (Nat.le_refl _) (by omega)) (K f hf)
theorem ym_comp {post : SY → Prop} {s u : Nat} (hC : cr_OK C) (hD : rl_C C D) (K : ∀ f, (∀ n, n < xc_N C → f n = b2_n (cr_ev C s u n)) → post (mk_Y D ww tt f ds fi)) : wpY_compute post (mk_Y D ww tt nv ds fi) (nI s) (nI u) :=
  ⟨xc_N C + 1, ym_co2 hC hD K (xc_N C + 1) 0 nv (by omega) (by omega) (fun j hj => absurd hj (by omega))⟩
theorem ym_su30 {post : Int32 → SY → Prop} {s u : Nat} (hC : cr_OK C) (hD : rl_C C D) (hf : ∀ n, n < xc_N C → nv n = b2_n (cr_ev C s u n)) (K : post (nI (cr_nxt C s u)) (mk_Y D ww tt nv ds fi)) : ∀ n j, xc_nl C - j < n → j ≤ xc_nl C → wY_successor_30 post (nI (yc_ci D)) (nI (yc_cl D)) (nI (yc_cg D)) (nI (yc_N D)) (nI (yc_ni D)) (nI (yc_nl D)) (nI (yc_ng D)) (nI (yv_fr ww)) (nI (yv_cc ww)) (nI (yv_ph ww)) (fun zi => nI (yc_kind D zi)) (fun zi => nI (yc_fst D zi)) (fun zi => nI (yc_snd D zi)) (fun zi => nI (nv zi)) (fun zi => nI (yc_ini D zi)) (fun zi => nI (yc_root D zi)) (fun zi => nI (yv_cm ww zi)) (fun zi => nI (yv_cv ww zi)) (fun zi => nI (yt_ts tt zi)) (fun zi => nI (yt_ti tt zi)) ds fi n (nI (cr_nxj C s u j)) (nI j) := by
  have hb := cr_b hC
  obtain ⟨⟨_, _, _, _, _, eL, _⟩, _, _, _, _, eR⟩ := hD
  intro n
  induction n with
  | zero => intro j h; omega
  | succ n ih =>
    intro j hn hj
    by_cases e : j < xc_nl C
    · have e2 : (2 : Int32) + nI j = nI (2 + j) := nI_add 2 j
      have hr := cr_ro hC (j := 2 + j) (by omega)
      refine br_f (by rw [eL]; exact nI_ge e (by omega)) ⟨by rw [e2]; exact vp_in_nI (by omega) (by omega), ?_⟩
      rw [e2, nI_clamp (by omega)]
      refine ym_lv (C := C) (D := D) (ww := ww) (tt := tt) (nv := nv) (ds := ds) (fi := fi) (s := s) (u := u) (x := yc_root D (2 + j)) hC (by rw [eR]; exact hr) (hf _ (by rw [eR]; omega)) ?_
      rw [congrFun eR (2 + j)]
      have := ih (j + 1) (by omega) (by omega)
      unfold cr_nxj at this
      cases hl : cr_lit C s u (xc_root C (2 + j))
      · rw [hl, if_neg (by decide)] at this
        refine nm_r (e' := nI (cr_nxj C s u j)) ?_ (nm_r (nI_1 j) this)
        rw [show nI (b2_n false) <<< (nI j &&& 31) = nI (0 * 2 ^ j) from pk_shlN (n := 0) _ j (s_l j (by omega)) (by omega), bq_or, Nat.zero_mul, Nat.or_zero]
      · rw [hl, if_pos rfl] at this
        refine nm_r (e' := nI (cr_nxj C s u j ||| 2 ^ j)) ?_ (nm_r (nI_1 j) this)
        rw [show nI (b2_n true) <<< (nI j &&& 31) = nI (2 ^ j) from bq_pow (by omega), bq_or]
    · have ej : j = xc_nl C := by omega
      subst ej
      exact br_t (by rw [eL]; exact nI_le (Nat.le_refl _) (by omega)) K
theorem ym_succ {post : Int32 → SY → Prop} {s u : Nat} (hC : cr_OK C) (hD : rl_C C D) (K1 : ∀ f, cr_leg C s u = true → post (nI (cr_nxt C s u)) (mk_Y D ww tt f ds fi)) (K0 : ∀ f, cr_leg C s u = false → post (-2) (mk_Y D ww tt f ds fi)) : wpY_successor post (mk_Y D ww tt nv ds fi) (nI s) (nI u) := by
  have hb := cr_b hC
  have eR := hD.2.2.2.2.2
  unfold wpY_successor
  refine ym_comp (D := D) (ww := ww) (tt := tt) (nv := nv) (ds := ds) (fi := fi) hC hD (fun f hf => ?_)
  have hr := cr_ro hC (j := 1) (by omega)
  have q := ym_lv (C := C) (D := D) (ww := ww) (tt := tt) (nv := f) (ds := ds) (fi := fi) (s := s) (u := u) (x := xc_root C 1) (post := fun r_24 => ((r_24 = 0 → post (-2) (mk_Y D ww tt f ds fi)) ∧ (¬ r_24 = 0 → (∃ n30 : Nat, wY_successor_30 post (nI (yc_ci D)) (nI (yc_cl D)) (nI (yc_cg D)) (nI (yc_N D)) (nI (yc_ni D)) (nI (yc_nl D)) (nI (yc_ng D)) (nI (yv_fr ww)) (nI (yv_cc ww)) (nI (yv_ph ww)) (fun zi => nI (yc_kind D zi)) (fun zi => nI (yc_fst D zi)) (fun zi => nI (yc_snd D zi)) (fun zi => nI (f zi)) (fun zi => nI (yc_ini D zi)) (fun zi => nI (yc_root D zi)) (fun zi => nI (yv_cm ww zi)) (fun zi => nI (yv_cv ww zi)) (fun zi => nI (yt_ts tt zi)) (fun zi => nI (yt_ti tt zi)) ds fi n30 0 0)))) hC hr (hf _ (by omega)) (br_c (fun hz => K0 f ((b2_0 _).mp hz)) (fun hz => ⟨xc_nl C + 1, ym_su30 hC hD hf (K1 f (ts_nf (fun y => hz ((b2_0 _).mpr y)))) (xc_nl C + 1) 0 (by omega) (by omega)⟩))
  rw [← eR] at q
  exact q
theorem ym_badP {post : Int32 → SY → Prop} {s u : Nat} (hC : cr_OK C) (hD : rl_C C D) (K1 : ∀ f, cr_bad C s u = true → post 1 (mk_Y D ww tt f ds fi)) (K0 : ∀ f, cr_bad C s u = false → post 0 (mk_Y D ww tt f ds fi)) : wpY_badPair post (mk_Y D ww tt nv ds fi) (nI s) (nI u) := by
  have hb := cr_b hC
  have eR := hD.2.2.2.2.2
  unfold wpY_badPair
  refine ym_comp (D := D) (ww := ww) (tt := tt) (nv := nv) (ds := ds) (fi := fi) hC hD (fun f hf => ?_)
  have hr := cr_ro hC (j := 1) (by omega)
  have hr0 := cr_ro hC (j := 0) (by omega)
  have q := ym_lv (C := C) (D := D) (ww := ww) (tt := tt) (nv := f) (ds := ds) (fi := fi) (s := s) (u := u) (x := xc_root C 0) (post := fun r_24 => wpY_literalValue (fun r_47 => (r_24 = 1 → ((r_47 = 1 → post 1 (mk_Y D ww tt f ds fi)) ∧ (¬ r_47 = 1 → post 0 (mk_Y D ww tt f ds fi)))) ∧ (¬ r_24 = 1 → post 0 (mk_Y D ww tt f ds fi))) (mk_Y D ww tt f ds fi) (nI (xc_root C 1))) hC hr0 (hf _ (by omega)) (ym_lv (C := C) (D := D) (ww := ww) (tt := tt) (nv := f) (ds := ds) (fi := fi) (s := s) (u := u) (x := xc_root C 1) hC hr (hf _ (by omega)) (br_c (fun h0 => br_c (fun h1 => K1 f ?_) (fun h1 => K0 f ?_)) (fun h0 => K0 f ?_)))
  · rw [← eR] at q
    exact q
  · unfold cr_bad cr_leg; rw [(b2_1 _).mp h0, (b2_1 _).mp h1]; rfl
  · unfold cr_bad cr_leg; rw [ts_nt (fun y => h1 ((b2_1 _).mpr y))]; rfl
  · unfold cr_bad; rw [ts_nt (fun y => h0 ((b2_1 _).mpr y)), Bool.and_false]
theorem ym_vs {post : Int32 → Prop} {p : Int32} (hC : cr_OK C) (hD : rl_C C D) (K1 : ∀ s, s < 2 ^ xc_nl C → p = nI s → post 1) (K0 : (∀ s, s < 2 ^ xc_nl C → p ≠ nI s) → post 0) : wpY_validState post (mk_Y D ww tt nv ds fi) p := by
  have hb := cr_b hC
  have p64 := cr_p64 hC
  have eL := hD.1.2.2.2.2.2.1
  have e1 : (1 : Int32) <<< (nI (yc_nl D) &&& 31) = nI (2 ^ xc_nl C) := by rw [eL]; exact bq_pow (by omega)
  refine br_c (fun h => K0 (fun s hs e => ?_)) (fun h => ?_)
  · rw [e] at h; exact absurd h (nI_pos (by omega))
  · obtain ⟨j, hj, rfl⟩ := nI_of h
    show (((1 : Int32) <<< (nI (yc_nl D) &&& 31)) ≤ nI j → post 0) ∧ (¬ ((1 : Int32) <<< (nI (yc_nl D) &&& 31)) ≤ nI j → post 1)
    rw [e1]
    refine pk_le (2 ^ xc_nl C) j (fun h2 => K0 (fun s hs e => ?_)) (fun h2 => K1 j h2 rfl)
    rw [nI_eq hj (by omega)] at e
    omega
theorem ym_vi {post : Int32 → Prop} {p : Int32} (hC : cr_OK C) (hD : rl_C C D) (K1 : ∀ s, s < 2 ^ xc_ni C → p = nI s → post 1) (K0 : (∀ s, s < 2 ^ xc_ni C → p ≠ nI s) → post 0) : wpY_validInput post (mk_Y D ww tt nv ds fi) p := by
  have hb := cr_b hC
  have p4 := cr_p4 hC
  have eL := hD.1.2.2.2.2.1
  have e1 : (1 : Int32) <<< (nI (yc_ni D) &&& 31) = nI (2 ^ xc_ni C) := by rw [eL]; exact bq_pow (by omega)
  refine br_c (fun h => K0 (fun s hs e => ?_)) (fun h => ?_)
  · rw [e] at h; exact absurd h (nI_pos (by omega))
  · obtain ⟨j, hj, rfl⟩ := nI_of h
    show (((1 : Int32) <<< (nI (yc_ni D) &&& 31)) ≤ nI j → post 0) ∧ (¬ ((1 : Int32) <<< (nI (yc_ni D) &&& 31)) ≤ nI j → post 1)
    rw [e1]
    refine pk_le (2 ^ xc_ni C) j (fun h2 => K0 (fun s hs e => ?_)) (fun h2 => K1 j h2 rfl)
    rw [nI_eq hj (by omega)] at e
    omega
theorem ym_ii12 {post : Int32 → Prop} {s : Nat} (hC : cr_OK C) (hD : rl_C C D) (hs : s < 2 ^ xc_nl C) (K1 : cr_ini C s → post 1) (K0 : ¬ cr_ini C s → post 0) : ∀ n j, xc_nl C - j < n → j ≤ xc_nl C → (∀ i, i < j → (xc_fx C).testBit i = true → s.testBit i = (xc_on C).testBit i) → wY_isInitial_12 post (nI s) (nI (yc_ci D)) (nI (yc_cl D)) (nI (yc_cg D)) (nI (yc_N D)) (nI (yc_ni D)) (nI (yc_nl D)) (nI (yc_ng D)) (nI (yv_fr ww)) (nI (yv_cc ww)) (nI (yv_ph ww)) (fun zi => nI (yc_kind D zi)) (fun zi => nI (yc_fst D zi)) (fun zi => nI (yc_snd D zi)) (fun zi => nI (nv zi)) (fun zi => nI (yc_ini D zi)) (fun zi => nI (yc_root D zi)) (fun zi => nI (yv_cm ww zi)) (fun zi => nI (yv_cv ww zi)) (fun zi => nI (yt_ts tt zi)) (fun zi => nI (yt_ti tt zi)) ds fi n (nI j) := by
  have hb := cr_b hC
  obtain ⟨⟨_, _, _, _, _, eL, _⟩, _, _, _, hini, _⟩ := hD
  intro n
  induction n with
  | zero => intro j h; omega
  | succ n ih =>
    intro j hn hj h
    by_cases e : j < xc_nl C
    · have hin : vp_in (nI j) 6 := vp_in_nI (by omega) (by omega)
      have hcl : (nI j).toNatClampNeg = j := nI_clamp (by omega)
      obtain ⟨i1, i2, i3⟩ := hini j e
      have nx : ((xc_fx C).testBit j = true → s.testBit j = (xc_on C).testBit j) → wY_isInitial_12 post (nI s) (nI (yc_ci D)) (nI (yc_cl D)) (nI (yc_cg D)) (nI (yc_N D)) (nI (yc_ni D)) (nI (yc_nl D)) (nI (yc_ng D)) (nI (yv_fr ww)) (nI (yv_cc ww)) (nI (yv_ph ww)) (fun zi => nI (yc_kind D zi)) (fun zi => nI (yc_fst D zi)) (fun zi => nI (yc_snd D zi)) (fun zi => nI (nv zi)) (fun zi => nI (yc_ini D zi)) (fun zi => nI (yc_root D zi)) (fun zi => nI (yv_cm ww zi)) (fun zi => nI (yv_cv ww zi)) (fun zi => nI (yt_ts tt zi)) (fun zi => nI (yt_ti tt zi)) ds fi n (nI (j + 1)) := fun hq => ih (j + 1) (by omega) (by omega) (bt_lt.mpr ⟨h, hq⟩)
      have no : (xc_fx C).testBit j = true → s.testBit j ≠ (xc_on C).testBit j → post 0 := fun a b => K0 (fun hi => b ((cu_ini hC hs).mp hi j e a))
      have w41 : (yc_ini D j = 0 → s.testBit j = false) → wY_isInitial_41 post (wY_isInitial_12 post (nI s) (nI (yc_ci D)) (nI (yc_cl D)) (nI (yc_cg D)) (nI (yc_N D)) (nI (yc_ni D)) (nI (yc_nl D)) (nI (yc_ng D)) (nI (yv_fr ww)) (nI (yv_cc ww)) (nI (yv_ph ww)) (fun zi => nI (yc_kind D zi)) (fun zi => nI (yc_fst D zi)) (fun zi => nI (yc_snd D zi)) (fun zi => nI (nv zi)) (fun zi => nI (yc_ini D zi)) (fun zi => nI (yc_root D zi)) (fun zi => nI (yv_cm ww zi)) (fun zi => nI (yv_cv ww zi)) (fun zi => nI (yt_ts tt zi)) (fun zi => nI (yt_ti tt zi)) ds fi n) (nI s) (nI j) (nI (b2_n (s.testBit j))) (nI (yc_ci D)) (nI (yc_cl D)) (nI (yc_cg D)) (nI (yc_N D)) (nI (yc_ni D)) (nI (yc_nl D)) (nI (yc_ng D)) (nI (yv_fr ww)) (nI (yv_cc ww)) (nI (yv_ph ww)) (fun zi => nI (yc_kind D zi)) (fun zi => nI (yc_fst D zi)) (fun zi => nI (yc_snd D zi)) (fun zi => nI (nv zi)) (fun zi => nI (yc_ini D zi)) (fun zi => nI (yc_root D zi)) (fun zi => nI (yv_cm ww zi)) (fun zi => nI (yv_cv ww zi)) (fun zi => nI (yt_ts tt zi)) (fun zi => nI (yt_ti tt zi)) ds fi := by
        intro h0
        refine ⟨hin, ?_⟩
        rw [hcl]
        refine pk_eq (yc_ini D j) 1 (fun y => br_c (fun h1 => nm_r (nI_1 j) (nx (fun _ => ?_))) (fun h1 => no ?_ ?_)) (fun y => nm_r (nI_1 j) (nx (fun hf => ?_)))
        · rw [(b2_1 _).mp h1, i3, y]; rfl
        · rw [i2, y]; rfl
        · intro z
          rw [i3, y] at z
          exact h1 ((b2_1 _).mpr z)
        · rw [i2] at hf
          have y2 : yc_ini D j ≠ 2 := fun z => by rw [z] at hf; exact absurd hf (by decide)
          have y0 : yc_ini D j = 0 := by omega
          rw [h0 y0, i3, y0]; rfl
      refine br_f (by rw [eL]; exact nI_ge e (by omega)) (nm_r (b2_bit (by omega)) ⟨hin, ?_⟩)
      rw [hcl]
      refine pk_eq (yc_ini D j) 0 (fun y => br_c (fun h1 => w41 (fun _ => (b2_0 _).mp h1)) (fun h1 => no ?_ ?_)) (fun y => w41 (fun z => absurd z y))
      · rw [i2, y]; rfl
      · intro z
        rw [i3, y] at z
        exact h1 ((b2_0 _).mpr z)
    · have ej : j = xc_nl C := by omega
      subst ej
      exact br_t (by rw [eL]; exact nI_le (Nat.le_refl _) (by omega)) (K1 ((cu_ini hC hs).mpr h))
theorem ym_ii {post : Int32 → Prop} {s : Nat} (hC : cr_OK C) (hD : rl_C C D) (hs : s < 2 ^ xc_nl C) (K1 : cr_ini C s → post 1) (K0 : ¬ cr_ini C s → post 0) : wpY_isInitial post (mk_Y D ww tt nv ds fi) (nI s) := by
  unfold wpY_isInitial
  refine ym_vs (C := C) (D := D) (ww := ww) (tt := tt) (nv := nv) (ds := ds) (fi := fi) hC hD (fun q _ _ => br_f (by decide) ⟨xc_nl C + 1, ym_ii12 hC hD hs K1 K0 (xc_nl C + 1) 0 (by omega) (by omega) (fun i hi => absurd hi (by omega))⟩) (fun h => absurd rfl (h s hs))
theorem ym_ic2 {post : Int32 → Prop} {s : Nat} (hs : s < 64) (hcc : yv_cc ww ≤ 64) (hcv : ∀ i, i < yv_cc ww → yv_cv ww i < 64) (K1 : (∃ i, i < yv_cc ww ∧ cu_in (yv_cm ww i) (yv_cv ww i) s) → post 1) (K0 : (∀ i, i < yv_cc ww → ¬ cu_in (yv_cm ww i) (yv_cv ww i) s) → post 0) : ∀ n i, yv_cc ww - i < n → i ≤ yv_cc ww → (∀ q, q < i → ¬ cu_in (yv_cm ww q) (yv_cv ww q) s) → wY_inSomeCube_2 post (nI s) (nI (yc_ci D)) (nI (yc_cl D)) (nI (yc_cg D)) (nI (yc_N D)) (nI (yc_ni D)) (nI (yc_nl D)) (nI (yc_ng D)) (nI (yv_fr ww)) (nI (yv_cc ww)) (nI (yv_ph ww)) (fun zi => nI (yc_kind D zi)) (fun zi => nI (yc_fst D zi)) (fun zi => nI (yc_snd D zi)) (fun zi => nI (nv zi)) (fun zi => nI (yc_ini D zi)) (fun zi => nI (yc_root D zi)) (fun zi => nI (yv_cm ww zi)) (fun zi => nI (yv_cv ww zi)) (fun zi => nI (yt_ts tt zi)) (fun zi => nI (yt_ti tt zi)) ds fi n (nI i) := by
  intro n
  induction n with
  | zero => intro i h; omega
  | succ n ih =>
    intro i hn hi h
    by_cases e : i < yv_cc ww
    · have hin : vp_in (nI i) 64 := vp_in_nI (by omega) (by omega)
      have hcl : (nI i).toNatClampNeg = i := nI_clamp (by omega)
      have hv := hcv i e
      refine br_f (nI_ge e (by omega)) ⟨hin, hin, ?_⟩
      rw [hcl]
      have e1 : (nI s &&& nI (yv_cm ww i) = nI (yv_cv ww i)) ↔ cu_in (yv_cm ww i) (yv_cv ww i) s := by
        rw [nx_and, nI_eq (by have := bq_andlt (b := yv_cm ww i) hs; omega) (by omega)]; exact Iff.rfl
      refine br_c (fun hz => K1 ⟨i, e, e1.mp hz⟩) (fun hz => nm_r (nI_1 i) (ih (i + 1) (by omega) (by omega) (bt_lt.mpr ⟨h, fun y => hz (e1.mpr y)⟩)))
    · have ei : i = yv_cc ww := by omega
      subst ei
      exact br_t (nI_le (Nat.le_refl _) (by omega)) (K0 h)
theorem ym_ic {post : Int32 → Prop} {s : Nat} (hs : s < 64) (hcc : yv_cc ww ≤ 64) (hcv : ∀ i, i < yv_cc ww → yv_cv ww i < 64) (K1 : (∃ i, i < yv_cc ww ∧ cu_in (yv_cm ww i) (yv_cv ww i) s) → post 1) (K0 : (∀ i, i < yv_cc ww → ¬ cu_in (yv_cm ww i) (yv_cv ww i) s) → post 0) : wpY_inSomeCube post (mk_Y D ww tt nv ds fi) (nI s) :=
  ⟨yv_cc ww + 1, ym_ic2 hs hcc hcv K1 K0 (yv_cc ww + 1) 0 (by omega) (by omega) (fun q hq => absurd hq (by omega))⟩
end
end
section
/-! the reference's walks: fillFinish, findTrace -/
def fb_b (x : Int32) (p : Prop) : Prop := (x = 0 ∧ ¬ p) ∨ (x = 1 ∧ p)
theorem fb_c {x : Int32} {p q : Prop} (e : p ↔ q) (h : fb_b x p) : fb_b x q := by
  rcases h with ⟨a, b⟩ | ⟨a, b⟩
  · exact Or.inl ⟨a, fun z => b (e.mpr z)⟩
  · exact Or.inr ⟨a, e.mp b⟩
theorem fb_0 {x : Int32} {p : Prop} (h : fb_b x p) : x = 0 ↔ ¬ p := by
  rcases h with ⟨a, b⟩ | ⟨a, b⟩
  · exact ⟨fun _ => b, fun _ => a⟩
  · exact ⟨fun z => by rw [a] at z; exact absurd z (by decide), fun z => absurd b z⟩
theorem fb_nar {x : Int32} {p : Prop} (h : fb_b x p) : vp_nar .boolean x = x := by
  rcases h with ⟨a, _⟩ | ⟨a, _⟩ <;> rw [a] <;> rfl
theorem ix_64 (m s : Nat) : nI m * 64 + nI s = nI (m * 64 + s) := by
  rw [show nI m * 64 = nI (m * 64) from pk_mul m 64, nI_add]
def ff_ok (C : gt_C) (k : Nat) (fi : Nat → Int32) : Prop := ∀ m s, m < k → s < 2 ^ xc_nl C → fb_b (fi (m * 64 + s)) (cr_can C m s)
theorem go_s {C : gt_C} {m s w : Nat} : (∃ q, q < w + 1 ∧ cr_go C m s q) ↔ ((∃ q, q < w ∧ cr_go C m s q) ∨ cr_go C m s w) := by
  constructor
  · intro ⟨q, hq, h⟩
    by_cases e : q = w
    · rw [e] at h; exact Or.inr h
    · exact Or.inl ⟨q, by omega, h⟩
  · rintro (⟨q, hq, h⟩ | h)
    · exact ⟨q, by omega, h⟩
    · exact ⟨w, by omega, h⟩
section
variable {C : gt_C}
variable {D : gu_C} {ww : gu_V} {tt : gu_T} {nv : (Nat → Nat)} {ds : (Nat → Int32)} {fi : (Nat → Int32)}
theorem ym_ff38 {post : SY → Prop} {J17 J26 : (Int32 → Int32 → Int32 → Int32 → Int32 → Int32 → Int32 → Int32 → Int32 → Int32 → Int32 → (Nat → Int32) → (Nat → Int32) → (Nat → Int32) → (Nat → Int32) → (Nat → Int32) → (Nat → Int32) → (Nat → Int32) → (Nat → Int32) → (Nat → Int32) → (Nat → Int32) → (Nat → Int32) → (Nat → Int32) → Prop)} {x1 x2 : Int32} {m s : Nat} (hC : cr_OK C) (hD : rl_C C D) (hm : m < 64) (hs : s < 2 ^ xc_nl C) (hprev : ∀ q, m = q + 1 → ∀ t, t < 2 ^ xc_nl C → fb_b (fi (q * 64 + t)) (cr_can C q t)) (K : ∀ (f : Nat → Nat) x, fb_b x (cr_can C m s) → J26 (nI (s + 1)) (nI (yc_ci D)) (nI (yc_cl D)) (nI (yc_cg D)) (nI (yc_N D)) (nI (yc_ni D)) (nI (yc_nl D)) (nI (yc_ng D)) (nI (yv_fr ww)) (nI (yv_cc ww)) (nI (yv_ph ww)) (fun zi => nI (yc_kind D zi)) (fun zi => nI (yc_fst D zi)) (fun zi => nI (yc_snd D zi)) (fun zi => nI (f zi)) (fun zi => nI (yc_ini D zi)) (fun zi => nI (yc_root D zi)) (fun zi => nI (yv_cm ww zi)) (fun zi => nI (yv_cv ww zi)) (fun zi => nI (yt_ts tt zi)) (fun zi => nI (yt_ti tt zi)) ds (upd fi (m * 64 + s) x)) : ∀ n w x (f : Nat → Nat), 2 ^ xc_ni C - w < n → w ≤ 2 ^ xc_ni C → fb_b x (∃ q, q < w ∧ cr_go C m s q) → wY_fillFinish_38 post J17 J26 x1 x2 (nI (2 ^ xc_ni C)) (nI m) (nI s) n x (nI w) (nI (yc_ci D)) (nI (yc_cl D)) (nI (yc_cg D)) (nI (yc_N D)) (nI (yc_ni D)) (nI (yc_nl D)) (nI (yc_ng D)) (nI (yv_fr ww)) (nI (yv_cc ww)) (nI (yv_ph ww)) (fun zi => nI (yc_kind D zi)) (fun zi => nI (yc_fst D zi)) (fun zi => nI (yc_snd D zi)) (fun zi => nI (f zi)) (fun zi => nI (yc_ini D zi)) (fun zi => nI (yc_root D zi)) (fun zi => nI (yv_cm ww zi)) (fun zi => nI (yv_cv ww zi)) (fun zi => nI (yt_ts tt zi)) (fun zi => nI (yt_ti tt zi)) ds fi := by
  have p64 := cr_p64 hC
  have p4 := cr_p4 hC
  intro n
  induction n with
  | zero => intro w x f h; omega
  | succ n ih =>
    intro w x f hn hw hx
    by_cases e : w < 2 ^ xc_ni C
    · have yes : ∀ f' : Nat → Nat, cr_go C m s w → wY_fillFinish_38 post J17 J26 x1 x2 (nI (2 ^ xc_ni C)) (nI m) (nI s) n 1 (nI (w + 1)) (nI (yc_ci D)) (nI (yc_cl D)) (nI (yc_cg D)) (nI (yc_N D)) (nI (yc_ni D)) (nI (yc_nl D)) (nI (yc_ng D)) (nI (yv_fr ww)) (nI (yv_cc ww)) (nI (yv_ph ww)) (fun zi => nI (yc_kind D zi)) (fun zi => nI (yc_fst D zi)) (fun zi => nI (yc_snd D zi)) (fun zi => nI (f' zi)) (fun zi => nI (yc_ini D zi)) (fun zi => nI (yc_root D zi)) (fun zi => nI (yv_cm ww zi)) (fun zi => nI (yv_cv ww zi)) (fun zi => nI (yt_ts tt zi)) (fun zi => nI (yt_ti tt zi)) ds fi := fun f' hg => ih (w + 1) 1 f' (by omega) (by omega) (Or.inr ⟨rfl, go_s.mpr (Or.inr hg)⟩)
      have no : ∀ f' : Nat → Nat, ¬ cr_go C m s w → wY_fillFinish_38 post J17 J26 x1 x2 (nI (2 ^ xc_ni C)) (nI m) (nI s) n x (nI (w + 1)) (nI (yc_ci D)) (nI (yc_cl D)) (nI (yc_cg D)) (nI (yc_N D)) (nI (yc_ni D)) (nI (yc_nl D)) (nI (yc_ng D)) (nI (yv_fr ww)) (nI (yv_cc ww)) (nI (yv_ph ww)) (fun zi => nI (yc_kind D zi)) (fun zi => nI (yc_fst D zi)) (fun zi => nI (yc_snd D zi)) (fun zi => nI (f' zi)) (fun zi => nI (yc_ini D zi)) (fun zi => nI (yc_root D zi)) (fun zi => nI (yv_cm ww zi)) (fun zi => nI (yv_cv ww zi)) (fun zi => nI (yt_ts tt zi)) (fun zi => nI (yt_ti tt zi)) ds fi := fun f' hg => ih (w + 1) x f' (by omega) (by omega) (fb_c ⟨fun z => go_s.mpr (Or.inl z), fun z => (go_s.mp z).resolve_right hg⟩ hx)
      refine br_f (nI_ge e (by omega)) ?_
      cases m with
      | zero =>
        refine br_t rfl ?_
        refine ym_badP (C := C) (D := D) (ww := ww) (tt := tt) (nv := f) (ds := ds) (fi := fi) hC hD (fun f' hb => br_f (by decide) (nm_r (nI_1 w) (yes f' hb))) (fun f' hb => br_t rfl (nm_r (nI_1 w) (no f' (fun z => ?_))))
        have z' : cr_bad C s w = true := z
        rw [hb] at z'
        exact absurd z' (by decide)
      | succ m =>
        refine br_f (nI_ne0 (by omega) (by omega)) ?_
        refine ym_succ (C := C) (D := D) (ww := ww) (tt := tt) (nv := f) (ds := ds) (fi := fi) hC hD (fun f' hl => ?_) (fun f' hl => br_t (by decide) (nm_r (nI_1 w) (no f' (fun z => ?_))))
        · have hnl := cr_nxt_lt C s w
          have e1 : (nI (m + 1) - 1) * 64 + nI (cr_nxt C s w) = nI (m * 64 + cr_nxt C s w) := by rw [nI_pred, ix_64]
          have hfb := hprev m rfl (cr_nxt C s w) hnl
          refine br_f (nI_pos (by omega)) ⟨by rw [e1]; exact vp_in_nI (by omega) (by omega), ?_⟩
          rw [e1, nI_clamp (by omega)]
          refine br_c (fun hz => nm_r (nI_1 w) (no f' (fun z => (fb_0 hfb).mp hz z.2))) (fun hz => nm_r (nI_1 w) (yes f' ⟨hl, ?_⟩))
          rcases hfb with ⟨a, _⟩ | ⟨_, b⟩
          · exact absurd a hz
          · exact b
        · have := z.1
          rw [hl] at this
          exact absurd this (by decide)
    · have ew : w = 2 ^ xc_ni C := by omega
      subst ew
      have hfin : fb_b x (cr_can C m s) := fb_c (by rw [cr_can_go]; exact ⟨fun z => ⟨hs, z⟩, fun z => z.2⟩) hx
      refine br_t (nI_le (Nat.le_refl _) (by omega)) ⟨by rw [ix_64]; exact vp_in_nI (by omega) (by omega), nm_r (e' := upd fi (m * 64 + s) x) ?_ (nm_r (nI_1 s) (K f x hfin))⟩
      rw [ix_64, nI_clamp (by omega), fb_nar hx]
theorem ym_ff26 {post : SY → Prop} {J17 : (Int32 → Int32 → Int32 → Int32 → Int32 → Int32 → Int32 → Int32 → Int32 → Int32 → Int32 → (Nat → Int32) → (Nat → Int32) → (Nat → Int32) → (Nat → Int32) → (Nat → Int32) → (Nat → Int32) → (Nat → Int32) → (Nat → Int32) → (Nat → Int32) → (Nat → Int32) → (Nat → Int32) → (Nat → Int32) → Prop)} {x1 : Int32} {m : Nat} (hC : cr_OK C) (hD : rl_C C D) (hm : m < 64) (K : ∀ (f : Nat → Nat) g, ff_ok C (m + 1) g → J17 (nI (m + 1)) (nI (yc_ci D)) (nI (yc_cl D)) (nI (yc_cg D)) (nI (yc_N D)) (nI (yc_ni D)) (nI (yc_nl D)) (nI (yc_ng D)) (nI (yv_fr ww)) (nI (yv_cc ww)) (nI (yv_ph ww)) (fun zi => nI (yc_kind D zi)) (fun zi => nI (yc_fst D zi)) (fun zi => nI (yc_snd D zi)) (fun zi => nI (f zi)) (fun zi => nI (yc_ini D zi)) (fun zi => nI (yc_root D zi)) (fun zi => nI (yv_cm ww zi)) (fun zi => nI (yv_cv ww zi)) (fun zi => nI (yt_ts tt zi)) (fun zi => nI (yt_ti tt zi)) ds g) : ∀ n s (f : Nat → Nat) g, 2 ^ xc_nl C - s < n → s ≤ 2 ^ xc_nl C → ff_ok C m g → (∀ t, t < s → fb_b (g (m * 64 + t)) (cr_can C m t)) → wY_fillFinish_26 post J17 x1 (nI (2 ^ xc_nl C)) (nI (2 ^ xc_ni C)) (nI m) n (nI s) (nI (yc_ci D)) (nI (yc_cl D)) (nI (yc_cg D)) (nI (yc_N D)) (nI (yc_ni D)) (nI (yc_nl D)) (nI (yc_ng D)) (nI (yv_fr ww)) (nI (yv_cc ww)) (nI (yv_ph ww)) (fun zi => nI (yc_kind D zi)) (fun zi => nI (yc_fst D zi)) (fun zi => nI (yc_snd D zi)) (fun zi => nI (f zi)) (fun zi => nI (yc_ini D zi)) (fun zi => nI (yc_root D zi)) (fun zi => nI (yv_cm ww zi)) (fun zi => nI (yv_cv ww zi)) (fun zi => nI (yt_ts tt zi)) (fun zi => nI (yt_ti tt zi)) ds g := by
  have p64 := cr_p64 hC
  have p4 := cr_p4 hC
  intro n
  induction n with
  | zero => intro s f g h; omega
  | succ n ih =>
    intro s f g hn hs hok hrow
    by_cases e : s < 2 ^ xc_nl C
    · refine br_f (nI_ge e (by omega)) ⟨2 ^ xc_ni C + 1, ym_ff38 (D := D) (ww := ww) (tt := tt) (ds := ds) (fi := g) hC hD hm e (fun q hq t ht => hok q t (by omega) ht) (fun f' x hx => ?_) (2 ^ xc_ni C + 1) 0 0 f (Nat.lt_succ_self _) (Nat.zero_le _) (Or.inl ⟨rfl, fun ⟨q, hq, _⟩ => absurd hq (by omega)⟩)⟩
      refine ih (s + 1) f' (upd g (m * 64 + s) x) (by omega) (by omega) (fun q t hq ht => ?_) (fun t ht => ?_)
      · rw [pk_un (by omega)]; exact hok q t hq ht
      · by_cases et : t = s
        · subst et; rw [pk_us]; exact hx
        · rw [pk_un (by omega)]; exact hrow t (by omega)
    · have es : s = 2 ^ xc_nl C := by omega
      subst es
      refine br_t (nI_le (Nat.le_refl _) (by omega)) (nm_r (nI_1 m) (K f g (fun q t hq ht => ?_)))
      by_cases eq : q = m
      · subst eq; exact hrow t ht
      · exact hok q t (by omega) ht
theorem ym_ff17 {post : SY → Prop} {k : Nat} (hC : cr_OK C) (hD : rl_C C D) (hk : k < 64) (K : ∀ (f : Nat → Nat) g, ff_ok C (k + 1) g → post (mk_Y D ww tt f ds g)) : ∀ n m (f : Nat → Nat) g, k + 1 - m < n → m ≤ k + 1 → ff_ok C m g → wY_fillFinish_17 post (nI k) (nI (2 ^ xc_nl C)) (nI (2 ^ xc_ni C)) n (nI m) (nI (yc_ci D)) (nI (yc_cl D)) (nI (yc_cg D)) (nI (yc_N D)) (nI (yc_ni D)) (nI (yc_nl D)) (nI (yc_ng D)) (nI (yv_fr ww)) (nI (yv_cc ww)) (nI (yv_ph ww)) (fun zi => nI (yc_kind D zi)) (fun zi => nI (yc_fst D zi)) (fun zi => nI (yc_snd D zi)) (fun zi => nI (f zi)) (fun zi => nI (yc_ini D zi)) (fun zi => nI (yc_root D zi)) (fun zi => nI (yv_cm ww zi)) (fun zi => nI (yv_cv ww zi)) (fun zi => nI (yt_ts tt zi)) (fun zi => nI (yt_ti tt zi)) ds g := by
  intro n
  induction n with
  | zero => intro m f g h; omega
  | succ n ih =>
    intro m f g hn hm hok
    refine pk_lt k m (fun h => ?_) (fun h => ⟨2 ^ xc_nl C + 1, ym_ff26 (D := D) (ww := ww) (tt := tt) (ds := ds) hC hD (by omega) (fun f' g' hok' => ih (m + 1) f' g' (by omega) (by omega) hok') (2 ^ xc_nl C + 1) 0 f g (Nat.lt_succ_self _) (Nat.zero_le _) hok (fun t ht => absurd ht (by omega))⟩)
    have em : m = k + 1 := by omega
    subst em
    exact K f g hok
theorem ym_ff {post : SY → Prop} {k : Nat} (hC : cr_OK C) (hD : rl_C C D) (hk : k < 64) (K : ∀ (f : Nat → Nat) g, ff_ok C (k + 1) g → post (mk_Y D ww tt f ds g)) : wpY_fillFinish post (mk_Y D ww tt nv ds fi) (nI k) := by
  have hb := cr_b hC
  have eL := hD.1.2.2.2.2.2.1
  have eI := hD.1.2.2.2.2.1
  refine nm_r (e' := nI (2 ^ xc_nl C)) (by rw [eL]; exact bq_pow (by omega)) (nm_r (e' := nI (2 ^ xc_ni C)) (by rw [eI]; exact bq_pow (by omega)) ⟨k + 2, ym_ff17 hC hD hk K (k + 2) 0 nv fi (by omega) (by omega) (fun m s hm => absurd hm (by omega))⟩)
theorem ym_ft96 {post : Int32 → SY → Prop} {J : (Int32 → Int32 → Int32 → Int32 → Int32 → Int32 → Int32 → Int32 → Int32 → Int32 → Int32 → Int32 → (Nat → Int32) → (Nat → Int32) → (Nat → Int32) → (Nat → Int32) → (Nat → Int32) → (Nat → Int32) → (Nat → Int32) → (Nat → Int32) → (Nat → Int32) → (Nat → Int32) → (Nat → Int32) → (Nat → Int32) → Prop)} {n i s : Nat} (hC : cr_OK C) (hD : rl_C C D) (hn : n < 64) (hi : i ≤ n) (hs : s < 2 ^ xc_nl C) (hok : ff_ok C (n + 1) fi) (hc : cr_can C (n - i) s) (K : ∀ (f : Nat → Nat) c t, c < 2 ^ xc_ni C → cr_go C (n - i) s c → (∀ w, w < c → ¬ cr_go C (n - i) s w) → (i < n → t = cr_nxt C s c) → t < 2 ^ xc_nl C → J (nI t) (nI (i + 1)) (nI (yc_ci D)) (nI (yc_cl D)) (nI (yc_cg D)) (nI (yc_N D)) (nI (yc_ni D)) (nI (yc_nl D)) (nI (yc_ng D)) (nI (yv_fr ww)) (nI (yv_cc ww)) (nI (yv_ph ww)) (fun zi => nI (yc_kind D zi)) (fun zi => nI (yc_fst D zi)) (fun zi => nI (yc_snd D zi)) (fun zi => nI (f zi)) (fun zi => nI (yc_ini D zi)) (fun zi => nI (yc_root D zi)) (fun zi => nI (yv_cm ww zi)) (fun zi => nI (yv_cv ww zi)) (fun zi => nI (yt_ts ((up_n (yt_ts tt) i s, up_n (yt_ti tt) i c)) zi)) (fun zi => nI (yt_ti ((up_n (yt_ts tt) i s, up_n (yt_ti tt) i c)) zi)) ds fi) : ∀ q w x6 x7 (f : Nat → Nat), 2 ^ xc_ni C - w < q → w ≤ 2 ^ xc_ni C → ((x6 = -1 ∧ x7 = nI s ∧ ∀ z, z < w → ¬ cr_go C (n - i) s z) ∨ (∃ c t, c < w ∧ x6 = nI c ∧ x7 = nI t ∧ t < 2 ^ xc_nl C ∧ cr_go C (n - i) s c ∧ (∀ z, z < c → ¬ cr_go C (n - i) s z) ∧ (i < n → t = cr_nxt C s c))) → wY_findTrace_96 post J (nI n) (nI (2 ^ xc_ni C)) (nI s) (nI i) q x6 x7 (nI w) (nI (yc_ci D)) (nI (yc_cl D)) (nI (yc_cg D)) (nI (yc_N D)) (nI (yc_ni D)) (nI (yc_nl D)) (nI (yc_ng D)) (nI (yv_fr ww)) (nI (yv_cc ww)) (nI (yv_ph ww)) (fun zi => nI (yc_kind D zi)) (fun zi => nI (yc_fst D zi)) (fun zi => nI (yc_snd D zi)) (fun zi => nI (f zi)) (fun zi => nI (yc_ini D zi)) (fun zi => nI (yc_root D zi)) (fun zi => nI (yv_cm ww zi)) (fun zi => nI (yv_cv ww zi)) (fun zi => nI (yt_ts tt zi)) (fun zi => nI (yt_ti tt zi)) ds fi := by
  have p64 := cr_p64 hC
  have p4 := cr_p4 hC
  intro q
  induction q with
  | zero => intro w x6 x7 f h; omega
  | succ q ih =>
    intro w x6 x7 f hq hw hx
    by_cases e : w < 2 ^ xc_ni C
    · refine br_f (nI_ge e (by omega)) ?_
      rcases hx with ⟨rfl, rfl, hno⟩ | ⟨c, t, c1, rfl, rfl, c2, c3, c4, c5⟩
      · have no : ∀ f' : Nat → Nat, ¬ cr_go C (n - i) s w → wY_findTrace_96 post J (nI n) (nI (2 ^ xc_ni C)) (nI s) (nI i) q (-1) (nI s) (nI (w + 1)) (nI (yc_ci D)) (nI (yc_cl D)) (nI (yc_cg D)) (nI (yc_N D)) (nI (yc_ni D)) (nI (yc_nl D)) (nI (yc_ng D)) (nI (yv_fr ww)) (nI (yv_cc ww)) (nI (yv_ph ww)) (fun zi => nI (yc_kind D zi)) (fun zi => nI (yc_fst D zi)) (fun zi => nI (yc_snd D zi)) (fun zi => nI (f' zi)) (fun zi => nI (yc_ini D zi)) (fun zi => nI (yc_root D zi)) (fun zi => nI (yv_cm ww zi)) (fun zi => nI (yv_cv ww zi)) (fun zi => nI (yt_ts tt zi)) (fun zi => nI (yt_ti tt zi)) ds fi := fun f' hg => ih (w + 1) _ _ f' (by omega) (by omega) (Or.inl ⟨rfl, rfl, bt_lt.mpr ⟨hno, hg⟩⟩)
        refine br_f (by decide) (pk_eq i n (fun hin => ?_) (fun hin => ?_))
        · subst hin
          have e0 : i - i = 0 := Nat.sub_self i
          refine ym_badP (C := C) (D := D) (ww := ww) (tt := tt) (nv := f) (ds := ds) (fi := fi) hC hD (fun f' hb => br_f (by decide) (nm_r (nI_1 w) (ih (w + 1) _ _ f' (by omega) (by omega) (Or.inr ⟨w, s, by omega, rfl, rfl, hs, ?_, hno, fun z => absurd z (by omega)⟩)))) (fun f' hb => br_t rfl (nm_r (nI_1 w) (no f' (fun z => ?_))))
          · rw [e0]; exact hb
          · rw [e0] at z
            have z' : cr_bad C s w = true := z
            rw [hb] at z'
            exact absurd z' (by decide)
        · obtain ⟨m, em⟩ : ∃ m, n - i = m + 1 := ⟨n - i - 1, by omega⟩
          refine ym_succ (C := C) (D := D) (ww := ww) (tt := tt) (nv := f) (ds := ds) (fi := fi) hC hD (fun f' hl => ?_) (fun f' hl => br_t (by decide) (nm_r (nI_1 w) (no f' (fun z => ?_))))
          · have hnl := cr_nxt_lt C s w
            have e1 : (nI n - nI i - 1) * 64 + nI (cr_nxt C s w) = nI (m * 64 + cr_nxt C s w) := by rw [pk_sub (by omega), em, nI_pred, ix_64]
            have hfb := hok m (cr_nxt C s w) (by omega) hnl
            refine br_f (nI_pos (by omega)) ⟨by rw [e1]; exact vp_in_nI (by omega) (by omega), ?_⟩
            rw [e1, nI_clamp (by omega)]
            refine br_c (fun hz => nm_r (nI_1 w) (no f' (fun z => ?_))) (fun hz => nm_r (nI_1 w) (ih (w + 1) _ _ f' (by omega) (by omega) (Or.inr ⟨w, cr_nxt C s w, by omega, rfl, rfl, hnl, ?_, hno, fun _ => rfl⟩)))
            · rw [em] at z
              exact (fb_0 hfb).mp hz z.2
            · rw [em]
              refine ⟨hl, ?_⟩
              rcases hfb with ⟨a, _⟩ | ⟨_, b⟩
              · exact absurd a hz
              · exact b
          · rw [em] at z
            have := z.1
            rw [hl] at this
            exact absurd this (by decide)
      · exact br_t (nI_pos' (by omega)) (nm_r (nI_1 w) (ih (w + 1) _ _ f (by omega) (by omega) (Or.inr ⟨c, t, by omega, rfl, rfl, c2, c3, c4, c5⟩)))
    · have ew : w = 2 ^ xc_ni C := by omega
      subst ew
      have hin : vp_in (nI i) 64 := vp_in_nI (by omega) (by omega)
      rcases hx with ⟨rfl, rfl, hno⟩ | ⟨c, t, c1, rfl, rfl, c2, c3, c4, c5⟩
      · exfalso
        obtain ⟨_, z, hz, hg⟩ := cr_can_go.mp hc
        exact hno z hz hg
      · exact br_t (nI_le (Nat.le_refl _) (by omega)) ⟨hin, nm_r (up_I (by omega)) ⟨hin, nm_r (up_I (by omega)) (nm_r (nI_1 i) (K f c t c1 c3 c4 c5 c2))⟩⟩
def tr_H (C : gt_C) (n s0 : Nat) (t : gu_T) (i s : Nat) : Prop := (∀ k, k < i → yt_ti t k < 2 ^ xc_ni C ∧ cr_go C (n - k) (yt_ts t k) (yt_ti t k) ∧ (∀ w, w < yt_ti t k → ¬ cr_go C (n - k) (yt_ts t k) w) ∧ (k + 1 < i → yt_ts t (k + 1) = cr_nxt C (yt_ts t k) (yt_ti t k)) ∧ (k + 1 = i → k < n → s = cr_nxt C (yt_ts t k) (yt_ti t k))) ∧ s < 2 ^ xc_nl C ∧ (i ≤ n → cr_can C (n - i) s) ∧ (i = 0 → s = s0) ∧ (0 < i → yt_ts t 0 = s0)
theorem ym_ft80 {post : Int32 → SY → Prop} {n s0 : Nat} (hC : cr_OK C) (hD : rl_C C D) (hn : n < 64) (hok : ff_ok C (n + 1) fi) (K : ∀ (f : Nat → Nat) t, tr_P C n (yt_ts t) (yt_ti t) → yt_ts t 0 = s0 → post 1 (mk_Y D ww t f ds fi)) : ∀ q i s (f : Nat → Nat) t, n + 1 - i < q → i ≤ n + 1 → tr_H C n s0 t i s → wY_findTrace_80 post (nI n) (nI (2 ^ xc_ni C)) q (nI s) (nI i) (nI (yc_ci D)) (nI (yc_cl D)) (nI (yc_cg D)) (nI (yc_N D)) (nI (yc_ni D)) (nI (yc_nl D)) (nI (yc_ng D)) (nI (yv_fr ww)) (nI (yv_cc ww)) (nI (yv_ph ww)) (fun zi => nI (yc_kind D zi)) (fun zi => nI (yc_fst D zi)) (fun zi => nI (yc_snd D zi)) (fun zi => nI (f zi)) (fun zi => nI (yc_ini D zi)) (fun zi => nI (yc_root D zi)) (fun zi => nI (yv_cm ww zi)) (fun zi => nI (yv_cv ww zi)) (fun zi => nI (yt_ts t zi)) (fun zi => nI (yt_ti t zi)) ds fi := by
  intro q
  induction q with
  | zero => intro i s f t h; omega
  | succ q ih =>
    intro i s f t hq hi ⟨h1, h2, h3, h4, h5⟩
    refine pk_lt n i (fun h => K f t (fun k hk => ?_) (h5 (by omega))) (fun h => ?_)
    · obtain ⟨a, b, c, d, e⟩ := h1 k (by omega)
      exact ⟨a, b, c, fun y => d (by omega)⟩
    · refine ⟨2 ^ xc_ni C + 1, ym_ft96 (D := D) (ww := ww) (tt := t) (ds := ds) (fi := fi) hC hD hn h h2 hok (h3 h) (fun f' c t' c1 c2 c3 c4 c5 => ?_) (2 ^ xc_ni C + 1) 0 (-1) (nI s) f (Nat.lt_succ_self _) (Nat.zero_le _) (Or.inl ⟨rfl, rfl, fun z hz => absurd hz (by omega)⟩)⟩
      refine ih (i + 1) t' f' _ (by omega) (by omega) ⟨fun k hk => ?_, c5, fun hin => ?_, fun y => absurd y (by omega), fun _ => ?_⟩
      · show up_n (yt_ti t) i c k < 2 ^ xc_ni C ∧ cr_go C (n - k) (up_n (yt_ts t) i s k) (up_n (yt_ti t) i c k) ∧ (∀ w, w < up_n (yt_ti t) i c k → ¬ cr_go C (n - k) (up_n (yt_ts t) i s k) w) ∧ (k + 1 < i + 1 → up_n (yt_ts t) i s (k + 1) = cr_nxt C (up_n (yt_ts t) i s k) (up_n (yt_ti t) i c k)) ∧ (k + 1 = i + 1 → k < n → t' = cr_nxt C (up_n (yt_ts t) i s k) (up_n (yt_ti t) i c k))
        by_cases ek : k = i
        · subst ek
          rw [up_s, up_s]
          exact ⟨c1, c2, c3, fun y => absurd y (by omega), fun _ y => c4 y⟩
        · obtain ⟨a, b, c', d, e⟩ := h1 k (by omega)
          rw [up_o ek, up_o ek]
          refine ⟨a, b, c', fun y => ?_, fun y => absurd y (by omega)⟩
          by_cases ek2 : k + 1 = i
          · rw [ek2, up_s]; exact e ek2 (by omega)
          · rw [up_o ek2]; exact d (by omega)
      · obtain ⟨m, em⟩ : ∃ m, n - i = m + 1 := ⟨n - i - 1, by omega⟩
        rw [em] at c2
        rw [c4 (by omega), show n - (i + 1) = m by omega]
        exact c2.2
      · show up_n (yt_ts t) i s 0 = s0
        by_cases e0 : i = 0
        · subst e0; rw [up_s]; exact h4 rfl
        · rw [up_o (by omega)]; exact h5 (by omega)
theorem ym_ft20 {post : Int32 → SY → Prop} {n : Nat} (hC : cr_OK C) (hD : rl_C C D) (hn : n < 64) (hok : ff_ok C (n + 1) fi) (K1 : ∀ (f : Nat → Nat) t, tr_P C n (yt_ts t) (yt_ti t) → cr_ini C (yt_ts t 0) → (∀ s, s < yt_ts t 0 → cr_ini C s → ¬ cr_can C n s) → post 1 (mk_Y D ww t f ds fi)) (K0 : (∀ s, cr_ini C s → ¬ cr_can C n s) → post 0 (mk_Y D ww tt nv ds fi)) : ∀ q c x4, 2 ^ xc_nl C - c < q → c ≤ 2 ^ xc_nl C → ((x4 = -1 ∧ ∀ s, s < c → cr_ini C s → ¬ cr_can C n s) ∨ ∃ s, s < c ∧ x4 = nI s ∧ cr_ini C s ∧ cr_can C n s ∧ ∀ z, z < s → cr_ini C z → ¬ cr_can C n z) → wY_findTrace_20 post (nI n) (nI (2 ^ xc_nl C)) (nI (2 ^ xc_ni C)) (nI (yc_ci D)) (nI (yc_cl D)) (nI (yc_cg D)) (nI (yc_N D)) (nI (yc_ni D)) (nI (yc_nl D)) (nI (yc_ng D)) (nI (yv_fr ww)) (nI (yv_cc ww)) (nI (yv_ph ww)) (fun zi => nI (yc_kind D zi)) (fun zi => nI (yc_fst D zi)) (fun zi => nI (yc_snd D zi)) (fun zi => nI (nv zi)) (fun zi => nI (yc_ini D zi)) (fun zi => nI (yc_root D zi)) (fun zi => nI (yv_cm ww zi)) (fun zi => nI (yv_cv ww zi)) (fun zi => nI (yt_ts tt zi)) (fun zi => nI (yt_ti tt zi)) ds fi q x4 (nI c) := by
  have p64 := cr_p64 hC
  intro q
  induction q with
  | zero => intro c x4 h; omega
  | succ q ih =>
    intro c x4 hq hc hx
    by_cases e : c < 2 ^ xc_nl C
    · refine br_f (nI_ge e (by omega)) ?_
      have hfb := hok n c (by omega) e
      rcases hx with ⟨rfl, hno⟩ | ⟨s, s1, rfl, s2, s3, s4⟩
      · have no : ¬ (cr_ini C c ∧ cr_can C n c) → wY_findTrace_20 post (nI n) (nI (2 ^ xc_nl C)) (nI (2 ^ xc_ni C)) (nI (yc_ci D)) (nI (yc_cl D)) (nI (yc_cg D)) (nI (yc_N D)) (nI (yc_ni D)) (nI (yc_nl D)) (nI (yc_ng D)) (nI (yv_fr ww)) (nI (yv_cc ww)) (nI (yv_ph ww)) (fun zi => nI (yc_kind D zi)) (fun zi => nI (yc_fst D zi)) (fun zi => nI (yc_snd D zi)) (fun zi => nI (nv zi)) (fun zi => nI (yc_ini D zi)) (fun zi => nI (yc_root D zi)) (fun zi => nI (yv_cm ww zi)) (fun zi => nI (yv_cv ww zi)) (fun zi => nI (yt_ts tt zi)) (fun zi => nI (yt_ti tt zi)) ds fi q (-1) (nI (c + 1)) := fun h => ih (c + 1) (-1) (by omega) (by omega) (Or.inl ⟨rfl, bt_lt.mpr ⟨hno, fun a b => h ⟨a, b⟩⟩⟩)
        refine ym_ii (C := C) (D := D) (ww := ww) (tt := tt) (nv := nv) (ds := ds) (fi := fi) hC hD e (fun hini => br_f (by decide) (br_t rfl ⟨by rw [ix_64]; exact vp_in_nI (by omega) (by omega), ?_⟩)) (fun hini => br_f (by decide) (br_f (by decide) (nm_r (nI_1 c) (no (fun z => hini z.1)))))
        rw [ix_64, nI_clamp (by omega)]
        refine br_c (fun hz => nm_r (nI_1 c) (no (fun z => (fb_0 hfb).mp hz z.2))) (fun hz => nm_r (nI_1 c) (ih (c + 1) _ (by omega) (by omega) (Or.inr ⟨c, by omega, rfl, hini, ?_, hno⟩)))
        rcases hfb with ⟨a, _⟩ | ⟨_, b⟩
        · exact absurd a hz
        · exact b
      · exact ym_ii (C := C) (D := D) (ww := ww) (tt := tt) (nv := nv) (ds := ds) (fi := fi) hC hD e (fun _ => br_t (nI_pos' (by omega)) (nm_r (nI_1 c) (ih (c + 1) _ (by omega) (by omega) (Or.inr ⟨s, by omega, rfl, s2, s3, s4⟩)))) (fun _ => br_t (nI_pos' (by omega)) (nm_r (nI_1 c) (ih (c + 1) _ (by omega) (by omega) (Or.inr ⟨s, by omega, rfl, s2, s3, s4⟩))))
    · have ec : c = 2 ^ xc_nl C := by omega
      subst ec
      refine br_t (nI_le (Nat.le_refl _) (by omega)) ?_
      rcases hx with ⟨rfl, hno⟩ | ⟨s, s1, rfl, s2, s3, s4⟩
      · exact br_f (by decide) (K0 (fun s hs => hno s hs.1 hs))
      · refine br_t (nI_pos' (by omega)) ⟨n + 2, ym_ft80 (s0 := s) hC hD hn hok (fun f t htr e0 => K1 f t htr (by rw [e0]; exact s2) (by rw [e0]; exact s4)) (n + 2) 0 s nv tt (by omega) (by omega) ⟨fun k hk => absurd hk (by omega), s2.1, fun _ => s3, fun _ => rfl, fun y => absurd y (by omega)⟩⟩
theorem ym_ft {post : Int32 → SY → Prop} {n : Nat} (hC : cr_OK C) (hD : rl_C C D) (hn : n < 64) (hok : ff_ok C (n + 1) fi) (K1 : ∀ (f : Nat → Nat) t, tr_P C n (yt_ts t) (yt_ti t) → cr_ini C (yt_ts t 0) → (∀ s, s < yt_ts t 0 → cr_ini C s → ¬ cr_can C n s) → post 1 (mk_Y D ww t f ds fi)) (K0 : (∀ s, cr_ini C s → ¬ cr_can C n s) → post 0 (mk_Y D ww tt nv ds fi)) : wpY_findTrace post (mk_Y D ww tt nv ds fi) (nI n) := by
  have hb := cr_b hC
  have eL := hD.1.2.2.2.2.2.1
  have eI := hD.1.2.2.2.2.1
  refine nm_r (e' := nI (2 ^ xc_nl C)) (by rw [eL]; exact bq_pow (by omega)) (nm_r (e' := nI (2 ^ xc_ni C)) (by rw [eI]; exact bq_pow (by omega)) ⟨2 ^ xc_nl C + 1, ym_ft20 hC hD hn hok K1 K0 (2 ^ xc_nl C + 1) 0 (-1) (Nat.lt_succ_self _) (Nat.zero_le _) (Or.inl ⟨rfl, fun s hs => absurd hs (by omega)⟩)⟩)
end
end
section
/-! the reference's walks: fillDistances, cubeDistance, strengthen -/
def dd_ok (C : gt_C) (n : Nat) (g : Nat → Int32) : Prop := ∀ t, t < 2 ^ xc_nl C → (g t = -2 ∧ ∀ d, d ≤ n → ¬ cr_R C d t) ∨ ∃ d, d ≤ n ∧ g t = nI d ∧ cr_md C d t
def dm_ok (C : gt_C) (n : Nat) (g : Nat → Int32) (Pr : Nat → Nat → Prop) : Prop := ∀ t, t < 2 ^ xc_nl C → (g t = -2 ∧ (∀ d, d ≤ n → ¬ cr_R C d t) ∧ ∀ s u, Pr s u → cr_md C n s → cr_leg C s u = true → cr_nxt C s u ≠ t) ∨ ∃ d, d ≤ n + 1 ∧ g t = nI d ∧ cr_md C d t
theorem nI_m2 {d : Nat} (h : d < 2 ^ 31) : nI d ≠ -2 := by
  intro y
  have : (0 : Int32) ≤ nI d := nI_pos' h
  rw [y] at this
  exact absurd this (by decide)
theorem dm_md {C : gt_C} {n : Nat} {g : Nat → Int32} {Pr : Nat → Nat → Prop} {s : Nat} (hn : n < 64) (h : dm_ok C n g Pr) (hs : s < 2 ^ xc_nl C) : g s = nI n ↔ cr_md C n s := by
  rcases h s hs with ⟨a, b, _⟩ | ⟨d, d1, d2, d3⟩
  · rw [a]
    exact ⟨fun z => absurd z.symm (nI_m2 (by omega)), fun z => absurd z.1 (b n (Nat.le_refl _))⟩
  · rw [d2, nI_eq (by omega) (by omega)]
    exact ⟨fun z => by rw [← z]; exact d3, fun z => cr_md_u d3 z⟩
theorem dm_0 {C : gt_C} {n : Nat} {g : Nat → Int32} (h : dd_ok C n g) : dm_ok C n g (fun _ _ => False) := by
  intro t ht
  rcases h t ht with ⟨a, b⟩ | ⟨d, d1, d2, d3⟩
  · exact Or.inl ⟨a, b, fun _ _ z => absurd z id⟩
  · exact Or.inr ⟨d, by omega, d2, d3⟩
theorem dm_c {C : gt_C} {n : Nat} {g : Nat → Int32} {P Q : Nat → Nat → Prop} (h : dm_ok C n g P) (k : ∀ s u, Q s u → cr_md C n s → P s u) : dm_ok C n g Q := by
  intro t ht
  rcases h t ht with ⟨a, b, c⟩ | z
  · exact Or.inl ⟨a, b, fun s u hq hm hl => c s u (k s u hq hm) hm hl⟩
  · exact Or.inr z
theorem dm_f {C : gt_C} {n : Nat} {g : Nat → Int32} (h : dm_ok C n g (fun s u => s < 2 ^ xc_nl C ∧ u < 2 ^ xc_ni C)) : dd_ok C (n + 1) g := by
  intro t ht
  rcases h t ht with ⟨a, b, c⟩ | z
  · refine Or.inl ⟨a, fun d hd hR => ?_⟩
    by_cases e : d = n + 1
    · subst e
      obtain ⟨s, hs, hsl, u, hu, hl, en⟩ := hR
      obtain ⟨k, hk, hmd⟩ := cr_R_md n s hs
      by_cases ek : k = n
      · subst ek; exact c s u ⟨hsl, hu⟩ hmd hl en
      · exact b (k + 1) (by omega) ⟨s, hmd.1, hsl, u, hu, hl, en⟩
    · exact b d (by omega) hR
  · exact Or.inr z
/-- a pair is looked at -/
theorem dm_s {C : gt_C} {n : Nat} {g : Nat → Int32} {P : Nat → Nat → Prop} {s w : Nat} (hn : n < 64) (hs : s < 2 ^ xc_nl C) (hw : w < 2 ^ xc_ni C) (hl : cr_leg C s w = true) (hm : cr_md C n s) (h : dm_ok C n g P) : (g (cr_nxt C s w) = -2 → dm_ok C n (upd g (cr_nxt C s w) (nI (n + 1))) (fun q u => P q u ∨ (q = s ∧ u = w))) ∧ (g (cr_nxt C s w) ≠ -2 → dm_ok C n g (fun q u => P q u ∨ (q = s ∧ u = w))) := by
  constructor
  · intro e t ht
    by_cases et : t = cr_nxt C s w
    · subst et
      refine Or.inr ⟨n + 1, Nat.le_refl _, pk_us, ⟨s, hm.1, hs, w, hw, hl, rfl⟩, fun k hk => ?_⟩
      rcases h _ ht with ⟨a, b, c⟩ | ⟨d, d1, d2, d3⟩
      · exact b k (by omega)
      · exfalso
        rw [e] at d2
        exact nI_m2 (by omega) d2.symm
    · rw [pk_un et]
      rcases h t ht with ⟨a, b, c⟩ | z
      · refine Or.inl ⟨a, b, fun q u hq hmd hl' => ?_⟩
        rcases hq with hq | ⟨rfl, rfl⟩
        · exact c q u hq hmd hl'
        · exact fun z => et z.symm
      · exact Or.inr z
  · intro e t ht
    rcases h t ht with ⟨a, b, c⟩ | z
    · refine Or.inl ⟨a, b, fun q u hq hmd hl' => ?_⟩
      rcases hq with hq | ⟨rfl, rfl⟩
      · exact c q u hq hmd hl'
      · exact fun z => e (by rw [z]; exact a)
    · exact Or.inr z
section
variable {C : gt_C}
variable {D : gu_C} {ww : gu_V} {tt : gu_T} {nv : (Nat → Nat)} {ds : (Nat → Int32)} {fi : (Nat → Int32)}
theorem ym_fd83 {post : SY → Prop} {J54 J63 : (Int32 → Int32 → Int32 → Int32 → Int32 → Int32 → Int32 → Int32 → Int32 → Int32 → Int32 → (Nat → Int32) → (Nat → Int32) → (Nat → Int32) → (Nat → Int32) → (Nat → Int32) → (Nat → Int32) → (Nat → Int32) → (Nat → Int32) → (Nat → Int32) → (Nat → Int32) → (Nat → Int32) → (Nat → Int32) → Prop)} {x1 : Int32} {n s : Nat} (hC : cr_OK C) (hD : rl_C C D) (hn : n < 63) (hs : s < 2 ^ xc_nl C) (hm : cr_md C n s) (K : ∀ (f : Nat → Nat) g, dm_ok C n g (fun q u => q < s + 1 ∧ u < 2 ^ xc_ni C) → J63 (nI (s + 1)) (nI (yc_ci D)) (nI (yc_cl D)) (nI (yc_cg D)) (nI (yc_N D)) (nI (yc_ni D)) (nI (yc_nl D)) (nI (yc_ng D)) (nI (yv_fr ww)) (nI (yv_cc ww)) (nI (yv_ph ww)) (fun zi => nI (yc_kind D zi)) (fun zi => nI (yc_fst D zi)) (fun zi => nI (yc_snd D zi)) (fun zi => nI (f zi)) (fun zi => nI (yc_ini D zi)) (fun zi => nI (yc_root D zi)) (fun zi => nI (yv_cm ww zi)) (fun zi => nI (yv_cv ww zi)) (fun zi => nI (yt_ts tt zi)) (fun zi => nI (yt_ti tt zi)) g fi) : ∀ q w (f : Nat → Nat) g, 2 ^ xc_ni C - w < q → w ≤ 2 ^ xc_ni C → dm_ok C n g (fun p u => (p < s ∧ u < 2 ^ xc_ni C) ∨ (p = s ∧ u < w)) → wY_fillDistances_83 post J54 J63 x1 (nI (2 ^ xc_ni C)) (nI n) (nI s) q (nI w) (nI (yc_ci D)) (nI (yc_cl D)) (nI (yc_cg D)) (nI (yc_N D)) (nI (yc_ni D)) (nI (yc_nl D)) (nI (yc_ng D)) (nI (yv_fr ww)) (nI (yv_cc ww)) (nI (yv_ph ww)) (fun zi => nI (yc_kind D zi)) (fun zi => nI (yc_fst D zi)) (fun zi => nI (yc_snd D zi)) (fun zi => nI (f zi)) (fun zi => nI (yc_ini D zi)) (fun zi => nI (yc_root D zi)) (fun zi => nI (yv_cm ww zi)) (fun zi => nI (yv_cv ww zi)) (fun zi => nI (yt_ts tt zi)) (fun zi => nI (yt_ti tt zi)) g fi := by
  have p64 := cr_p64 hC
  have p4 := cr_p4 hC
  intro q
  induction q with
  | zero => intro w f g h; omega
  | succ q ih =>
    intro w f g hq hw hok
    by_cases e : w < 2 ^ xc_ni C
    · refine br_f (nI_ge e (by omega)) ?_
      refine ym_succ (C := C) (D := D) (ww := ww) (tt := tt) (nv := f) (ds := g) (fi := fi) hC hD (fun f' hl => ?_) (fun f' hl => br_t (by decide) (nm_r (nI_1 w) (ih (w + 1) f' g (by omega) (by omega) ?_)))
      · have hnl := cr_nxt_lt C s w
        obtain ⟨a1, a2⟩ := dm_s (by omega) hs e hl hm hok
        have cv : ∀ p u, ((p < s ∧ u < 2 ^ xc_ni C) ∨ (p = s ∧ u < w + 1)) → cr_md C n p → (((p < s ∧ u < 2 ^ xc_ni C) ∨ (p = s ∧ u < w)) ∨ (p = s ∧ u = w)) := by
          intro p u h _
          rcases h with h | ⟨h1, h2⟩
          · exact Or.inl (Or.inl h)
          · by_cases eu : u = w
            · exact Or.inr ⟨h1, eu⟩
            · exact Or.inl (Or.inr ⟨h1, by omega⟩)
        refine br_f (nI_pos (by omega)) ⟨vp_in_nI (by omega) (by omega), ?_⟩
        rw [nI_clamp (by omega)]
        refine br_c (fun hz => ⟨vp_in_nI (by omega) (by omega), nm_r (e' := upd g (cr_nxt C s w) (nI (n + 1))) (by rw [nI_1]) (nm_r (nI_1 w) (ih (w + 1) f' _ (by omega) (by omega) (dm_c (a1 hz) cv)))⟩) (fun hz => nm_r (nI_1 w) (ih (w + 1) f' g (by omega) (by omega) (dm_c (a2 hz) cv)))
      · intro t ht
        rcases hok t ht with ⟨a, b, c⟩ | z
        · refine Or.inl ⟨a, b, fun p u hp hmd hl' => ?_⟩
          rcases hp with h | ⟨h1, h2⟩
          · exact c p u (Or.inl h) hmd hl'
          · by_cases eu : u = w
            · rw [h1, eu, hl] at hl'; exact absurd hl' (by decide)
            · exact c p u (Or.inr ⟨h1, by omega⟩) hmd hl'
        · exact Or.inr z
    · have ew : w = 2 ^ xc_ni C := by omega
      subst ew
      refine br_t (nI_le (Nat.le_refl _) (by omega)) (nm_r (nI_1 s) (K f g (dm_c hok (fun p u h _ => ?_))))
      by_cases ep : p = s
      · exact Or.inr ⟨ep, h.2⟩
      · exact Or.inl ⟨by omega, h.2⟩
theorem ym_fd63 {post : SY → Prop} {J54 : (Int32 → Int32 → Int32 → Int32 → Int32 → Int32 → Int32 → Int32 → Int32 → Int32 → Int32 → (Nat → Int32) → (Nat → Int32) → (Nat → Int32) → (Nat → Int32) → (Nat → Int32) → (Nat → Int32) → (Nat → Int32) → (Nat → Int32) → (Nat → Int32) → (Nat → Int32) → (Nat → Int32) → (Nat → Int32) → Prop)} {n : Nat} (hC : cr_OK C) (hD : rl_C C D) (hn : n < 63) (K : ∀ (f : Nat → Nat) g, dd_ok C (n + 1) g → J54 (nI (n + 1)) (nI (yc_ci D)) (nI (yc_cl D)) (nI (yc_cg D)) (nI (yc_N D)) (nI (yc_ni D)) (nI (yc_nl D)) (nI (yc_ng D)) (nI (yv_fr ww)) (nI (yv_cc ww)) (nI (yv_ph ww)) (fun zi => nI (yc_kind D zi)) (fun zi => nI (yc_fst D zi)) (fun zi => nI (yc_snd D zi)) (fun zi => nI (f zi)) (fun zi => nI (yc_ini D zi)) (fun zi => nI (yc_root D zi)) (fun zi => nI (yv_cm ww zi)) (fun zi => nI (yv_cv ww zi)) (fun zi => nI (yt_ts tt zi)) (fun zi => nI (yt_ti tt zi)) g fi) : ∀ q s (f : Nat → Nat) g, 2 ^ xc_nl C - s < q → s ≤ 2 ^ xc_nl C → dm_ok C n g (fun p u => p < s ∧ u < 2 ^ xc_ni C) → wY_fillDistances_63 post J54 (nI (2 ^ xc_nl C)) (nI (2 ^ xc_ni C)) (nI n) q (nI s) (nI (yc_ci D)) (nI (yc_cl D)) (nI (yc_cg D)) (nI (yc_N D)) (nI (yc_ni D)) (nI (yc_nl D)) (nI (yc_ng D)) (nI (yv_fr ww)) (nI (yv_cc ww)) (nI (yv_ph ww)) (fun zi => nI (yc_kind D zi)) (fun zi => nI (yc_fst D zi)) (fun zi => nI (yc_snd D zi)) (fun zi => nI (f zi)) (fun zi => nI (yc_ini D zi)) (fun zi => nI (yc_root D zi)) (fun zi => nI (yv_cm ww zi)) (fun zi => nI (yv_cv ww zi)) (fun zi => nI (yt_ts tt zi)) (fun zi => nI (yt_ti tt zi)) g fi := by
  have p64 := cr_p64 hC
  intro q
  induction q with
  | zero => intro s f g h; omega
  | succ q ih =>
    intro s f g hq hs hok
    by_cases e : s < 2 ^ xc_nl C
    · refine br_f (nI_ge e (by omega)) ⟨vp_in_nI (by omega) (by omega), ?_⟩
      rw [nI_clamp (by omega)]
      have hmd := dm_md (by omega) hok e
      refine br_c (fun hz => ⟨2 ^ xc_ni C + 1, ym_fd83 (D := D) (ww := ww) (tt := tt) (fi := fi) hC hD hn e (hmd.mp hz) (fun f' g' hok' => ih (s + 1) f' g' (by omega) (by omega) hok') (2 ^ xc_ni C + 1) 0 f g (Nat.lt_succ_self _) (Nat.zero_le _) (dm_c hok (fun p u h _ => ?_))⟩) (fun hz => nm_r (nI_1 s) (ih (s + 1) f g (by omega) (by omega) (dm_c hok (fun p u h hm => ?_))))
      · rcases h with h | ⟨_, h⟩
        · exact h
        · exact absurd h (by omega)
      · by_cases ep : p = s
        · rw [ep] at hm; exact absurd (hmd.mpr hm) hz
        · exact ⟨by omega, h.2⟩
    · have es : s = 2 ^ xc_nl C := by omega
      subst es
      exact br_t (nI_le (Nat.le_refl _) (by omega)) (nm_r (nI_1 n) (K f g (dm_f hok)))
theorem ym_fd54 {post : SY → Prop} (hC : cr_OK C) (hD : rl_C C D) (K : ∀ (f : Nat → Nat) g, dd_ok C 63 g → post (mk_Y D ww tt f g fi)) : ∀ q n (f : Nat → Nat) g, 63 - n < q → n ≤ 63 → dd_ok C n g → wY_fillDistances_54 post (nI (2 ^ xc_nl C)) (nI (2 ^ xc_ni C)) q (nI n) (nI (yc_ci D)) (nI (yc_cl D)) (nI (yc_cg D)) (nI (yc_N D)) (nI (yc_ni D)) (nI (yc_nl D)) (nI (yc_ng D)) (nI (yv_fr ww)) (nI (yv_cc ww)) (nI (yv_ph ww)) (fun zi => nI (yc_kind D zi)) (fun zi => nI (yc_fst D zi)) (fun zi => nI (yc_snd D zi)) (fun zi => nI (f zi)) (fun zi => nI (yc_ini D zi)) (fun zi => nI (yc_root D zi)) (fun zi => nI (yv_cm ww zi)) (fun zi => nI (yv_cv ww zi)) (fun zi => nI (yt_ts tt zi)) (fun zi => nI (yt_ti tt zi)) g fi := by
  intro q
  induction q with
  | zero => intro n f g h; omega
  | succ q ih =>
    intro n f g hq hn hok
    refine pk_le 63 n (fun h => ?_) (fun h => ⟨2 ^ xc_nl C + 1, ym_fd63 (D := D) (ww := ww) (tt := tt) (fi := fi) hC hD h (fun f' g' hok' => ih (n + 1) f' g' (by omega) (by omega) hok') (2 ^ xc_nl C + 1) 0 f g (Nat.lt_succ_self _) (Nat.zero_le _) (dm_c (dm_0 hok) (fun p u z _ => absurd z.1 (by omega)))⟩)
    have en : n = 63 := by omega
    subst en
    exact K f g hok
theorem ym_fd16 {post : SY → Prop} (hC : cr_OK C) (hD : rl_C C D) (K : ∀ (f : Nat → Nat) g, dd_ok C 63 g → post (mk_Y D ww tt f g fi)) : ∀ q s g, 2 ^ xc_nl C - s < q → s ≤ 2 ^ xc_nl C → (∀ t, t < s → (g t = 0 ∧ cr_ini C t) ∨ (g t = -2 ∧ ¬ cr_ini C t)) → wY_fillDistances_16 post (nI (2 ^ xc_nl C)) (nI (2 ^ xc_ni C)) (nI (yc_ci D)) (nI (yc_cl D)) (nI (yc_cg D)) (nI (yc_N D)) (nI (yc_ni D)) (nI (yc_nl D)) (nI (yc_ng D)) (nI (yv_fr ww)) (nI (yv_cc ww)) (nI (yv_ph ww)) q (nI s) (fun zi => nI (yc_kind D zi)) (fun zi => nI (yc_fst D zi)) (fun zi => nI (yc_snd D zi)) (fun zi => nI (nv zi)) (fun zi => nI (yc_ini D zi)) (fun zi => nI (yc_root D zi)) (fun zi => nI (yv_cm ww zi)) (fun zi => nI (yv_cv ww zi)) (fun zi => nI (yt_ts tt zi)) (fun zi => nI (yt_ti tt zi)) g fi := by
  have p64 := cr_p64 hC
  intro q
  induction q with
  | zero => intro s g h; omega
  | succ q ih =>
    intro s g hq hs hok
    by_cases e : s < 2 ^ xc_nl C
    · have hin : vp_in (nI s) 64 := vp_in_nI (by omega) (by omega)
      refine br_f (nI_ge e (by omega)) ?_
      refine ym_ii (C := C) (D := D) (ww := ww) (tt := tt) (nv := nv) (ds := g) (fi := fi) hC hD e (fun hi => br_t rfl ⟨hin, nm_r (up_R (by omega)) (nm_r (nI_1 s) (ih (s + 1) _ (by omega) (by omega) (fun t ht => ?_)))⟩) (fun hi => br_f (by decide) ⟨hin, nm_r (up_R (by omega)) (nm_r (nI_1 s) (ih (s + 1) _ (by omega) (by omega) (fun t ht => ?_)))⟩)
      · by_cases et : t = s
        · subst et; rw [pk_us]; exact Or.inl ⟨rfl, hi⟩
        · rw [pk_un et]; exact hok t (by omega)
      · by_cases et : t = s
        · subst et; rw [pk_us]; exact Or.inr ⟨rfl, hi⟩
        · rw [pk_un et]; exact hok t (by omega)
    · have es : s = 2 ^ xc_nl C := by omega
      subst es
      refine br_t (nI_le (Nat.le_refl _) (by omega)) ⟨64, ym_fd54 hC hD K 64 0 nv g (by omega) (by omega) (fun t ht => ?_)⟩
      rcases hok t ht with ⟨a, b⟩ | ⟨a, b⟩
      · exact Or.inr ⟨0, Nat.le_refl _, a, b, fun k hk => absurd hk (by omega)⟩
      · exact Or.inl ⟨a, fun d hd => by rw [show d = 0 by omega]; exact b⟩
theorem ym_fd {post : SY → Prop} (hC : cr_OK C) (hD : rl_C C D) (K : ∀ (f : Nat → Nat) g, dd_ok C 63 g → post (mk_Y D ww tt f g fi)) : wpY_fillDistances post (mk_Y D ww tt nv ds fi) := by
  have hb := cr_b hC
  have eL := hD.1.2.2.2.2.2.1
  have eI := hD.1.2.2.2.2.1
  refine nm_r (e' := nI (2 ^ xc_nl C)) (by rw [eL]; exact bq_pow (by omega)) (nm_r (e' := nI (2 ^ xc_ni C)) (by rw [eI]; exact bq_pow (by omega)) ⟨2 ^ xc_nl C + 1, ym_fd16 hC hD K (2 ^ xc_nl C + 1) 0 ds (Nat.lt_succ_self _) (Nat.zero_le _) (fun t ht => absurd ht (by omega))⟩)
def cd_I (C : gt_C) (m v c : Nat) (x : Int32) : Prop := (x = -2 ∧ ∀ s, s < c → cu_in m v s → ∀ d, ¬ cr_R C d s) ∨ ∃ k, k < 64 ∧ x = nI k ∧ (∃ s, s < c ∧ cu_in m v s ∧ cr_R C k s) ∧ ∀ s, s < c → cu_in m v s → ∀ d, cr_R C d s → k ≤ d
theorem ym_cd14 {post : Int32 → Prop} {m v : Nat} (hC : cr_OK C) (hv : v < 64) (hok : dd_ok C 63 ds) (K : ∀ x, cd_I C m v (2 ^ xc_nl C) x → post x) : ∀ q c x, 2 ^ xc_nl C - c < q → c ≤ 2 ^ xc_nl C → cd_I C m v c x → wY_cubeDistance_14 post (nI m) (nI v) (nI (2 ^ xc_nl C)) (nI (yc_ci D)) (nI (yc_cl D)) (nI (yc_cg D)) (nI (yc_N D)) (nI (yc_ni D)) (nI (yc_nl D)) (nI (yc_ng D)) (nI (yv_fr ww)) (nI (yv_cc ww)) (nI (yv_ph ww)) (fun zi => nI (yc_kind D zi)) (fun zi => nI (yc_fst D zi)) (fun zi => nI (yc_snd D zi)) (fun zi => nI (nv zi)) (fun zi => nI (yc_ini D zi)) (fun zi => nI (yc_root D zi)) (fun zi => nI (yv_cm ww zi)) (fun zi => nI (yv_cv ww zi)) (fun zi => nI (yt_ts tt zi)) (fun zi => nI (yt_ti tt zi)) ds fi q x (nI c) := by
  have p64 := cr_p64 hC
  intro q
  induction q with
  | zero => intro c x h; omega
  | succ q ih =>
    intro c x hq hc hx
    by_cases e : c < 2 ^ xc_nl C
    · have hin : vp_in (nI c) 64 := vp_in_nI (by omega) (by omega)
      have e1 : (nI c &&& nI m = nI v) ↔ cu_in m v c := by
        rw [nx_and, nI_eq (by have := bq_andlt (b := m) e; omega) (by omega)]; exact Iff.rfl
      have hcl : (nI c).toNatClampNeg = c := nI_clamp (by omega)
      have keep : (cu_in m v c → ∀ d, ¬ cr_R C d c) → cd_I C m v (c + 1) x := by
        intro hno
        rcases hx with ⟨a, b⟩ | ⟨k, k1, k2, ⟨s, s1, s2⟩, k3⟩
        · exact Or.inl ⟨a, bt_lt.mpr ⟨b, hno⟩⟩
        · exact Or.inr ⟨k, k1, k2, ⟨s, by omega, s2⟩, bt_lt.mpr ⟨k3, fun y d hd => absurd hd (hno y d)⟩⟩
      refine br_f (nI_ge e (by omega)) (br_c (fun hz => ⟨hin, ?_⟩) (fun hz => nm_r (nI_1 c) (ih (c + 1) x (by omega) (by omega) (keep (fun y => absurd (e1.mpr y) hz)))))
      have hcu := e1.mp hz
      rw [hcl]
      rcases hok c e with ⟨a, b⟩ | ⟨d, d1, d2, d3⟩
      · have hnone : ∀ d, ¬ cr_R C d c := by
          intro d hd
          obtain ⟨k, hk, hmd⟩ := cr_R_md d c hd
          have := cr_md_lt hC hmd
          exact b k (by omega) hmd.1
        rw [a]
        exact br_t (by decide) (nm_r (nI_1 c) (ih (c + 1) x (by omega) (by omega) (keep (fun _ => hnone))))
      · have hmin : ∀ j, cr_R C j c → d ≤ j := by
          intro j hj
          rcases Nat.lt_or_ge j d with l | l
          · exact absurd hj (d3.2 j l)
          · exact l
        rw [d2]
        refine br_f (nI_pos (by omega)) ?_
        rcases hx with ⟨rfl, b⟩ | ⟨k, k1, rfl, ⟨s, s1, s2⟩, k3⟩
        · refine br_t rfl ⟨hin, nm_e (nm_r (nI_1 c) (ih (c + 1) _ (by omega) (by omega) (Or.inr ⟨d, by omega, rfl, ⟨c, by omega, hcu, d3.1⟩, bt_lt.mpr ⟨fun s hs hi j hj => absurd hj (b s hs hi j), fun _ => hmin⟩⟩)))⟩
        · refine br_f (nI_m2 (by omega)) ⟨hin, pk_le k d (fun h => nm_r (nI_1 c) (ih (c + 1) _ (by omega) (by omega) (Or.inr ⟨k, k1, rfl, ⟨s, by omega, s2⟩, bt_lt.mpr ⟨k3, fun _ j hj => Nat.le_trans h (hmin j hj)⟩⟩))) (fun h => ⟨hin, nm_e (nm_r (nI_1 c) (ih (c + 1) _ (by omega) (by omega) (Or.inr ⟨d, by omega, rfl, ⟨c, by omega, hcu, d3.1⟩, bt_lt.mpr ⟨fun s hs hi j hj => ?_, fun _ => hmin⟩⟩)))⟩)⟩
          have := k3 s hs hi j hj
          omega
    · have ec : c = 2 ^ xc_nl C := by omega
      subst ec
      exact br_t (nI_le (Nat.le_refl _) (by omega)) (K x hx)
theorem ym_cd {post : Int32 → Prop} {m v : Nat} (hC : cr_OK C) (hD : rl_C C D) (hv : v < 64) (hok : dd_ok C 63 ds) (K1 : ∀ k, k < 64 → (∃ s, cr_R C k s ∧ cu_in m v s) → (∀ j, j < k → ∀ s, cr_R C j s → ¬ cu_in m v s) → post (nI k)) (K0 : nr_P C m v → post (-2)) : wpY_cubeDistance post (mk_Y D ww tt nv ds fi) (nI m) (nI v) := by
  have hb := cr_b hC
  have eL := hD.1.2.2.2.2.2.1
  refine nm_r (e' := nI (2 ^ xc_nl C)) (by rw [eL]; exact bq_pow (by omega)) ⟨2 ^ xc_nl C + 1, ym_cd14 hC hv hok (fun x hx => ?_) (2 ^ xc_nl C + 1) 0 (-2) (Nat.lt_succ_self _) (Nat.zero_le _) (Or.inl ⟨rfl, fun s hs => absurd hs (by omega)⟩)⟩
  rcases hx with ⟨rfl, b⟩ | ⟨k, k1, rfl, ⟨s, s1, s2, s3⟩, k3⟩
  · exact K0 (fun n s hs hi => b s (cr_R_lt hs) hi n hs)
  · exact K1 k k1 ⟨s, s3, s2⟩ (fun j hj t ht hi => by have := k3 t (cr_R_lt ht) hi j ht; omega)
/-- strengthen -/
def yo_1 (C : gt_C) (w : gu_V) (s u : Nat) : Prop := cr_bad C s u = true ∨ (cr_leg C s u = true ∧ ∃ i, i < yv_cc w ∧ cu_in (yv_cm w i) (yv_cv w i) (cr_nxt C s u))
def yo_N (w : gu_V) (s : Nat) : Prop := ∀ i, i < yv_cc w → ¬ cu_in (yv_cm w i) (yv_cv w i) s
def yo_S (C : gt_C) (w : gu_V) (s : Nat) : Prop := s < 2 ^ xc_nl C ∧ yo_N w s ∧ ∃ u, u < 2 ^ xc_ni C ∧ yo_1 C w s u
theorem ym_st144 {post : Int32 → SY → Prop} {m v : Nat} (hC : cr_OK C) (hD : rl_C C D) (hm : cu_ok C m v) (hcc : yv_cc ww < 64) (hok : dd_ok C 63 ds) (K : post 2 (mk_Y D (((yv_fr ww, yv_cc ww + 1, yv_ph ww, up_n (yv_cm ww) (yv_cc ww) (sw_f C m v (xc_nl C)).1, up_n (yv_cv ww) (yv_cc ww) (sw_f C m v (xc_nl C)).2) : gu_V)) tt nv ds fi)) : ∀ q j, xc_nl C - j < q → j ≤ xc_nl C → wY_strengthen_144 post (nI (yc_ci D)) (nI (yc_cl D)) (nI (yc_cg D)) (nI (yc_N D)) (nI (yc_ni D)) (nI (yc_nl D)) (nI (yc_ng D)) (nI (yv_fr ww)) (nI (yv_cc ww)) (nI (yv_ph ww)) (fun zi => nI (yc_kind D zi)) (fun zi => nI (yc_fst D zi)) (fun zi => nI (yc_snd D zi)) (fun zi => nI (nv zi)) (fun zi => nI (yc_ini D zi)) (fun zi => nI (yc_root D zi)) (fun zi => nI (yv_cm ww zi)) (fun zi => nI (yv_cv ww zi)) (fun zi => nI (yt_ts tt zi)) (fun zi => nI (yt_ti tt zi)) ds fi q (nI (sw_f C m v j).1) (nI (sw_f C m v j).2) (nI j) := by
  have hb := cr_b hC
  have p64 := cr_p64 hC
  have eL := hD.1.2.2.2.2.2.1
  intro q
  induction q with
  | zero => intro j h; omega
  | succ q ih =>
    intro j hq hj
    by_cases ej : j < xc_nl C
    · obtain ⟨d1, d2⟩ := bq_drop (j := j) (sw_ok hm j).1
      have dv := cu_vlt d1
      refine br_f (by rw [eL]; exact nI_ge ej (by omega)) (nm_r (e' := nI (bq_an (sw_f C m v j).1 (2 ^ j))) (by rw [bq_pow (by omega), bq_anI]) (nm_r (e' := nI (bq_an (sw_f C m v j).2 (2 ^ j))) (by rw [bq_pow (by omega), bq_anI]) ?_))
      have nx := ih (j + 1) (by omega) (by omega)
      refine ym_cd (C := C) (D := D) (ww := ww) (tt := tt) (nv := nv) (ds := ds) (fi := fi) hC hD (by omega) hok (fun k hk hex hno => br_f (nI_m2 (by omega)) (nm_r (nI_1 j) ?_)) (fun hno => br_t rfl (nm_r (nI_1 j) ?_))
      · have hnn : ¬ nr_P C (bq_an (sw_f C m v j).1 (2 ^ j)) (bq_an (sw_f C m v j).2 (2 ^ j)) := by
          intro y
          obtain ⟨s, h1, h2⟩ := hex
          exact y k s h1 h2
        rw [sw_n hnn] at nx
        exact nx
      · rw [sw_t hno] at nx
        exact nx
    · have ej : j = xc_nl C := by omega
      subst ej
      have hin : vp_in (nI (yv_cc ww)) 64 := vp_in_nI (by omega) (by omega)
      exact br_t (by rw [eL]; exact nI_le (Nat.le_refl _) (by omega)) ⟨hin, nm_r (up_I (by omega)) ⟨hin, nm_r (up_I (by omega)) (nm_r (nI_1 _) K)⟩⟩
theorem ym_st55 {post : Int32 → SY → Prop} {J29 : (Int32 → Int32 → Int32 → Int32 → Int32 → Int32 → Int32 → Int32 → Int32 → Int32 → Int32 → Int32 → (Nat → Int32) → (Nat → Int32) → (Nat → Int32) → (Nat → Int32) → (Nat → Int32) → (Nat → Int32) → (Nat → Int32) → (Nat → Int32) → (Nat → Int32) → (Nat → Int32) → (Nat → Int32) → (Nat → Int32) → Prop)} {x1 : Int32} {s : Nat} (hC : cr_OK C) (hD : rl_C C D) (hs : s < 2 ^ xc_nl C) (hcc : yv_cc ww ≤ 64) (hcv : ∀ i, i < yv_cc ww → yv_cv ww i < 64) (K1 : ∀ f : Nat → Nat, (∃ u, u < 2 ^ xc_ni C ∧ yo_1 C ww s u) → J29 (nI s) (nI (s + 1)) (nI (yc_ci D)) (nI (yc_cl D)) (nI (yc_cg D)) (nI (yc_N D)) (nI (yc_ni D)) (nI (yc_nl D)) (nI (yc_ng D)) (nI (yv_fr ww)) (nI (yv_cc ww)) (nI (yv_ph ww)) (fun zi => nI (yc_kind D zi)) (fun zi => nI (yc_fst D zi)) (fun zi => nI (yc_snd D zi)) (fun zi => nI (f zi)) (fun zi => nI (yc_ini D zi)) (fun zi => nI (yc_root D zi)) (fun zi => nI (yv_cm ww zi)) (fun zi => nI (yv_cv ww zi)) (fun zi => nI (yt_ts tt zi)) (fun zi => nI (yt_ti tt zi)) ds fi) (K0 : ∀ f : Nat → Nat, (∀ u, u < 2 ^ xc_ni C → ¬ yo_1 C ww s u) → J29 (-1) (nI (s + 1)) (nI (yc_ci D)) (nI (yc_cl D)) (nI (yc_cg D)) (nI (yc_N D)) (nI (yc_ni D)) (nI (yc_nl D)) (nI (yc_ng D)) (nI (yv_fr ww)) (nI (yv_cc ww)) (nI (yv_ph ww)) (fun zi => nI (yc_kind D zi)) (fun zi => nI (yc_fst D zi)) (fun zi => nI (yc_snd D zi)) (fun zi => nI (f zi)) (fun zi => nI (yc_ini D zi)) (fun zi => nI (yc_root D zi)) (fun zi => nI (yv_cm ww zi)) (fun zi => nI (yv_cv ww zi)) (fun zi => nI (yt_ts tt zi)) (fun zi => nI (yt_ti tt zi)) ds fi) : ∀ q w x3 (f : Nat → Nat), 2 ^ xc_ni C - w < q → w ≤ 2 ^ xc_ni C → ((x3 = -1 ∧ ∀ u, u < w → ¬ yo_1 C ww s u) ∨ (x3 = nI s ∧ ∃ u, u < w ∧ yo_1 C ww s u)) → wY_strengthen_55 post J29 x1 (nI (2 ^ xc_ni C)) (nI s) q x3 (nI w) (nI (yc_ci D)) (nI (yc_cl D)) (nI (yc_cg D)) (nI (yc_N D)) (nI (yc_ni D)) (nI (yc_nl D)) (nI (yc_ng D)) (nI (yv_fr ww)) (nI (yv_cc ww)) (nI (yv_ph ww)) (fun zi => nI (yc_kind D zi)) (fun zi => nI (yc_fst D zi)) (fun zi => nI (yc_snd D zi)) (fun zi => nI (f zi)) (fun zi => nI (yc_ini D zi)) (fun zi => nI (yc_root D zi)) (fun zi => nI (yv_cm ww zi)) (fun zi => nI (yv_cv ww zi)) (fun zi => nI (yt_ts tt zi)) (fun zi => nI (yt_ti tt zi)) ds fi := by
  have p64 := cr_p64 hC
  have p4 := cr_p4 hC
  intro q
  induction q with
  | zero => intro w x3 f h; omega
  | succ q ih =>
    intro w x3 f hq hw hx
    by_cases e : w < 2 ^ xc_ni C
    · have yes : ∀ f' : Nat → Nat, yo_1 C ww s w → wY_strengthen_55 post J29 x1 (nI (2 ^ xc_ni C)) (nI s) q (nI s) (nI (w + 1)) (nI (yc_ci D)) (nI (yc_cl D)) (nI (yc_cg D)) (nI (yc_N D)) (nI (yc_ni D)) (nI (yc_nl D)) (nI (yc_ng D)) (nI (yv_fr ww)) (nI (yv_cc ww)) (nI (yv_ph ww)) (fun zi => nI (yc_kind D zi)) (fun zi => nI (yc_fst D zi)) (fun zi => nI (yc_snd D zi)) (fun zi => nI (f' zi)) (fun zi => nI (yc_ini D zi)) (fun zi => nI (yc_root D zi)) (fun zi => nI (yv_cm ww zi)) (fun zi => nI (yv_cv ww zi)) (fun zi => nI (yt_ts tt zi)) (fun zi => nI (yt_ti tt zi)) ds fi := fun f' h => ih (w + 1) _ f' (by omega) (by omega) (Or.inr ⟨rfl, w, by omega, h⟩)
      have no : ∀ f' : Nat → Nat, ¬ yo_1 C ww s w → wY_strengthen_55 post J29 x1 (nI (2 ^ xc_ni C)) (nI s) q x3 (nI (w + 1)) (nI (yc_ci D)) (nI (yc_cl D)) (nI (yc_cg D)) (nI (yc_N D)) (nI (yc_ni D)) (nI (yc_nl D)) (nI (yc_ng D)) (nI (yv_fr ww)) (nI (yv_cc ww)) (nI (yv_ph ww)) (fun zi => nI (yc_kind D zi)) (fun zi => nI (yc_fst D zi)) (fun zi => nI (yc_snd D zi)) (fun zi => nI (f' zi)) (fun zi => nI (yc_ini D zi)) (fun zi => nI (yc_root D zi)) (fun zi => nI (yv_cm ww zi)) (fun zi => nI (yv_cv ww zi)) (fun zi => nI (yt_ts tt zi)) (fun zi => nI (yt_ti tt zi)) ds fi := by
        intro f' h
        refine ih (w + 1) _ f' (by omega) (by omega) ?_
        rcases hx with ⟨a, b⟩ | ⟨a, u, u1, u2⟩
        · exact Or.inl ⟨a, bt_lt.mpr ⟨b, h⟩⟩
        · exact Or.inr ⟨a, u, by omega, u2⟩
      refine br_f (nI_ge e (by omega)) ?_
      have tail : ∀ (f' : Nat → Nat) (x8 : Int32), ((x8 = -2 ∧ cr_leg C s w = false) ∨ (x8 = nI (cr_nxt C s w) ∧ cr_leg C s w = true)) → (cr_bad C s w = true → wY_strengthen_89 post J29 (wY_strengthen_55 post J29 x1 (nI (2 ^ xc_ni C)) (nI s) q) x1 (nI (2 ^ xc_ni C)) (nI s) (nI s) (nI w) x8 (nI (yc_ci D)) (nI (yc_cl D)) (nI (yc_cg D)) (nI (yc_N D)) (nI (yc_ni D)) (nI (yc_nl D)) (nI (yc_ng D)) (nI (yv_fr ww)) (nI (yv_cc ww)) (nI (yv_ph ww)) (fun zi => nI (yc_kind D zi)) (fun zi => nI (yc_fst D zi)) (fun zi => nI (yc_snd D zi)) (fun zi => nI (f' zi)) (fun zi => nI (yc_ini D zi)) (fun zi => nI (yc_root D zi)) (fun zi => nI (yv_cm ww zi)) (fun zi => nI (yv_cv ww zi)) (fun zi => nI (yt_ts tt zi)) (fun zi => nI (yt_ti tt zi)) ds fi) ∧ (cr_bad C s w = false → wY_strengthen_89 post J29 (wY_strengthen_55 post J29 x1 (nI (2 ^ xc_ni C)) (nI s) q) x1 (nI (2 ^ xc_ni C)) x3 (nI s) (nI w) x8 (nI (yc_ci D)) (nI (yc_cl D)) (nI (yc_cg D)) (nI (yc_N D)) (nI (yc_ni D)) (nI (yc_nl D)) (nI (yc_ng D)) (nI (yv_fr ww)) (nI (yv_cc ww)) (nI (yv_ph ww)) (fun zi => nI (yc_kind D zi)) (fun zi => nI (yc_fst D zi)) (fun zi => nI (yc_snd D zi)) (fun zi => nI (f' zi)) (fun zi => nI (yc_ini D zi)) (fun zi => nI (yc_root D zi)) (fun zi => nI (yv_cm ww zi)) (fun zi => nI (yv_cv ww zi)) (fun zi => nI (yt_ts tt zi)) (fun zi => nI (yt_ti tt zi)) ds fi) := by
        intro f' x8 h8
        rcases h8 with ⟨rfl, hl⟩ | ⟨rfl, hl⟩
        · refine ⟨fun hb => br_t (by decide) (nm_r (nI_1 w) (yes f' (Or.inl hb))), fun hb => br_t (by decide) (nm_r (nI_1 w) (no f' ?_))⟩
          rintro (z | ⟨z, _⟩)
          · rw [hb] at z; exact absurd z (by decide)
          · rw [hl] at z; exact absurd z (by decide)
        · have hnl := cr_nxt_lt C s w
          refine ⟨fun hb => br_f (nI_pos (by omega)) ?_, fun hb => br_f (nI_pos (by omega)) ?_⟩
          · exact ym_ic (D := D) (ww := ww) (tt := tt) (nv := f') (ds := ds) (fi := fi) (by omega) hcc hcv (fun _ => br_f (by decide) (nm_r (nI_1 w) (yes f' (Or.inl hb)))) (fun _ => br_t rfl (nm_r (nI_1 w) (yes f' (Or.inl hb))))
          · refine ym_ic (D := D) (ww := ww) (tt := tt) (nv := f') (ds := ds) (fi := fi) (by omega) hcc hcv (fun h => br_f (by decide) (nm_r (nI_1 w) (yes f' (Or.inr ⟨hl, h⟩)))) (fun h => br_t rfl (nm_r (nI_1 w) (no f' ?_)))
            rintro (z | ⟨_, i, i1, i2⟩)
            · rw [hb] at z; exact absurd z (by decide)
            · exact h i i1 i2
      refine ym_badP (C := C) (D := D) (ww := ww) (tt := tt) (nv := f) (ds := ds) (fi := fi) hC hD (fun f' hb => ?_) (fun f' hb => ?_)
      · exact ym_succ (C := C) (D := D) (ww := ww) (tt := tt) (nv := f') (ds := ds) (fi := fi) hC hD (fun f2 hl => br_f (by decide) ((tail f2 _ (Or.inr ⟨rfl, hl⟩)).1 hb)) (fun f2 hl => br_f (by decide) ((tail f2 _ (Or.inl ⟨rfl, hl⟩)).1 hb))
      · exact ym_succ (C := C) (D := D) (ww := ww) (tt := tt) (nv := f') (ds := ds) (fi := fi) hC hD (fun f2 hl => br_t rfl ((tail f2 _ (Or.inr ⟨rfl, hl⟩)).2 hb)) (fun f2 hl => br_t rfl ((tail f2 _ (Or.inl ⟨rfl, hl⟩)).2 hb))
    · have ew : w = 2 ^ xc_ni C := by omega
      subst ew
      refine br_t (nI_le (Nat.le_refl _) (by omega)) (nm_r (nI_1 s) ?_)
      rcases hx with ⟨rfl, b⟩ | ⟨rfl, b⟩
      · exact K0 f b
      · exact K1 f b
theorem ym_st29 {post : Int32 → SY → Prop} (hC : cr_OK C) (hD : rl_C C D) (hcc : yv_cc ww ≤ 64) (hcv : ∀ i, i < yv_cc ww → yv_cv ww i < 64) (K1 : ∀ (f : Nat → Nat) g s, yo_S C ww s → (∀ z, z < s → ¬ yo_S C ww z) → dd_ok C 63 g → ∃ q, wY_strengthen_144 post (nI (yc_ci D)) (nI (yc_cl D)) (nI (yc_cg D)) (nI (yc_N D)) (nI (yc_ni D)) (nI (yc_nl D)) (nI (yc_ng D)) (nI (yv_fr ww)) (nI (yv_cc ww)) (nI (yv_ph ww)) (fun zi => nI (yc_kind D zi)) (fun zi => nI (yc_fst D zi)) (fun zi => nI (yc_snd D zi)) (fun zi => nI (f zi)) (fun zi => nI (yc_ini D zi)) (fun zi => nI (yc_root D zi)) (fun zi => nI (yv_cm ww zi)) (fun zi => nI (yv_cv ww zi)) (fun zi => nI (yt_ts tt zi)) (fun zi => nI (yt_ti tt zi)) g fi q (nI (2 ^ xc_nl C - 1)) (nI s) 0) (K0 : ∀ f : Nat → Nat, (∀ s, ¬ yo_S C ww s) → post 4 (mk_Y D (((yv_fr ww, yv_cc ww, 4, yv_cm ww, yv_cv ww) : gu_V)) tt f ds fi)) : ∀ q c x3 (f : Nat → Nat), 2 ^ xc_nl C - c < q → c ≤ 2 ^ xc_nl C → ((x3 = -1 ∧ ∀ s, s < c → ¬ yo_S C ww s) ∨ ∃ s, s < c ∧ x3 = nI s ∧ yo_S C ww s ∧ ∀ z, z < s → ¬ yo_S C ww z) → wY_strengthen_29 post (nI (2 ^ xc_nl C)) (nI (2 ^ xc_ni C)) q x3 (nI c) (nI (yc_ci D)) (nI (yc_cl D)) (nI (yc_cg D)) (nI (yc_N D)) (nI (yc_ni D)) (nI (yc_nl D)) (nI (yc_ng D)) (nI (yv_fr ww)) (nI (yv_cc ww)) (nI (yv_ph ww)) (fun zi => nI (yc_kind D zi)) (fun zi => nI (yc_fst D zi)) (fun zi => nI (yc_snd D zi)) (fun zi => nI (f zi)) (fun zi => nI (yc_ini D zi)) (fun zi => nI (yc_root D zi)) (fun zi => nI (yv_cm ww zi)) (fun zi => nI (yv_cv ww zi)) (fun zi => nI (yt_ts tt zi)) (fun zi => nI (yt_ti tt zi)) ds fi := by
  have p64 := cr_p64 hC
  have pp := Nat.two_pow_pos (xc_nl C)
  intro q
  induction q with
  | zero => intro c x3 f h; omega
  | succ q ih =>
    intro c x3 f hq hc hx
    by_cases e : c < 2 ^ xc_nl C
    · refine br_f (nI_ge e (by omega)) ?_
      rcases hx with ⟨rfl, hno⟩ | ⟨s, s1, rfl, s2, s3⟩
      · have no : ∀ f' : Nat → Nat, ¬ yo_S C ww c → wY_strengthen_29 post (nI (2 ^ xc_nl C)) (nI (2 ^ xc_ni C)) q (-1) (nI (c + 1)) (nI (yc_ci D)) (nI (yc_cl D)) (nI (yc_cg D)) (nI (yc_N D)) (nI (yc_ni D)) (nI (yc_nl D)) (nI (yc_ng D)) (nI (yv_fr ww)) (nI (yv_cc ww)) (nI (yv_ph ww)) (fun zi => nI (yc_kind D zi)) (fun zi => nI (yc_fst D zi)) (fun zi => nI (yc_snd D zi)) (fun zi => nI (f' zi)) (fun zi => nI (yc_ini D zi)) (fun zi => nI (yc_root D zi)) (fun zi => nI (yv_cm ww zi)) (fun zi => nI (yv_cv ww zi)) (fun zi => nI (yt_ts tt zi)) (fun zi => nI (yt_ti tt zi)) ds fi := fun f' h => ih (c + 1) _ f' (by omega) (by omega) (Or.inl ⟨rfl, bt_lt.mpr ⟨hno, h⟩⟩)
        refine ym_ic (D := D) (ww := ww) (tt := tt) (nv := f) (ds := ds) (fi := fi) (by omega) hcc hcv (fun h => br_f (by decide) (br_f (by decide) (nm_r (nI_1 c) (no f ?_)))) (fun h => br_f (by decide) (br_t rfl ⟨2 ^ xc_ni C + 1, ym_st55 (D := D) (ww := ww) (tt := tt) (ds := ds) (fi := fi) hC hD e hcc hcv (fun f' hy => ?_) (fun f' hy => no f' ?_) (2 ^ xc_ni C + 1) 0 (-1) f (Nat.lt_succ_self _) (Nat.zero_le _) (Or.inl ⟨rfl, fun u hu => absurd hu (by omega)⟩)⟩))
        · obtain ⟨i, i1, i2⟩ := h
          exact fun z => z.2.1 i i1 i2
        · exact ih (c + 1) _ f' (by omega) (by omega) (Or.inr ⟨c, by omega, rfl, ⟨e, h, hy⟩, hno⟩)
        · intro ⟨_, _, u, hu, z⟩
          exact hy u hu z
      · exact ym_ic (D := D) (ww := ww) (tt := tt) (nv := f) (ds := ds) (fi := fi) (by omega) hcc hcv (fun h => br_t (nI_pos' (by omega)) (nm_r (nI_1 c) (ih (c + 1) _ f (by omega) (by omega) (Or.inr ⟨s, by omega, rfl, s2, s3⟩)))) (fun h => br_t (nI_pos' (by omega)) (nm_r (nI_1 c) (ih (c + 1) _ f (by omega) (by omega) (Or.inr ⟨s, by omega, rfl, s2, s3⟩))))
    · have ec : c = 2 ^ xc_nl C := by omega
      subst ec
      refine br_t (nI_le (Nat.le_refl _) (by omega)) ?_
      rcases hx with ⟨rfl, hno⟩ | ⟨s, s1, rfl, s2, s3⟩
      · exact br_f (by decide) (K0 f (fun s hs => hno s hs.1 hs))
      · refine br_t (nI_pos' (by omega)) (ym_fd (C := C) (D := D) (ww := ww) (tt := tt) (nv := f) (ds := ds) (fi := fi) hC hD (fun f' g hg => nm_r (e' := nI (2 ^ xc_nl C - 1)) (pk_sub (b := 1) (by omega)) (K1 f' g s s2 s3 hg)))
end
end
section
/-! the relation, and what building does to the circuit -/
abbrev ry_D (C : gt_C) (yk yf ys yi : Nat → Nat) : gu_C := (xc_ci C, xc_cl C, xc_cg C, xc_N C, xc_ni C, xc_nl C, xc_ng C, yk, yf, ys, yi, xc_root C)
abbrev ry_W (v : gt_V) : gu_V := (xv_fr v, xv_cc v, xv_ph v, xv_cm v, xv_cv v)
noncomputable def ex_n (v : gt_V) : Nat := ct_n (fun s => bo_b (¬ op_N v s)) 64
def rl_I (C : gt_C) (vv : gt_V) (dd : Nat → Int64) (ll : gt_L) (yk yf ys yi : Nat → Nat) (tt : gu_T) : Prop :=
  cr_OK C ∧ rl_C C (ry_D C yk yf ys yi) ∧ (xv_ph vv ≤ 4 ∧ xv_fr vv ≤ 64) ∧ cl_ok C vv ∧ xv_cc vv ≤ ex_n vv ∧ (xv_ph vv = 0 → xv_cc vv = 0) ∧ (xv_ph vv ≠ 0 → ds_P C dd ∧ fr_I C ll) ∧
  (xv_ph vv = 3 → xv_fr vv < 64 ∧ ∀ i, i ≤ xv_fr vv → xv_ts vv i = yt_ts tt i ∧ xv_ti vv i = yt_ti tt i)
def i_Rel (k : Nat) (u : SX) (v : SY) : Prop := ∃ (C : gt_C) (vv : gt_V) (dd : Nat → Int64) (sm : Nat → Int32) (aa : gt_A) (bb : gt_B) (ee : gt_E) (oo : gt_O) (ll : gt_L) (pp : gt_P) (ff : gt_F) (hh : gt_H) (kk : gt_K) (yk yf ys yi : Nat → Nat) (tt : gu_T) (nv : Nat → Nat) (ds fi : Nat → Int32), u = (mk_X C vv dd sm aa bb ee oo ll pp ff hh kk) ∧ v = (mk_Y (ry_D C yk yf ys yi) (ry_W vv) tt nv ds fi) ∧ rl_I C vv dd ll yk yf ys yi tt
theorem i_up {k : Nat} {u : SX} {v : SY} (h : i_Rel k u v) : i_Rel (k + 4) u v := h
theorem re_el {k : Nat} {u : SX} {v : SY} {P : SX → SY → Prop} (h : ∀ (C : gt_C) (vv : gt_V) (dd : Nat → Int64) (sm : Nat → Int32) (aa : gt_A) (bb : gt_B) (ee : gt_E) (oo : gt_O) (ll : gt_L) (pp : gt_P) (ff : gt_F) (hh : gt_H) (kk : gt_K) (yk yf ys yi : Nat → Nat) (tt : gu_T) (nv : Nat → Nat) (ds fi : Nat → Int32), rl_I C vv dd ll yk yf ys yi tt → P (mk_X C vv dd sm aa bb ee oo ll pp ff hh kk) (mk_Y (ry_D C yk yf ys yi) (ry_W vv) tt nv ds fi)) (I : i_Rel k u v) : P u v := by
  obtain ⟨C, vv, dd, sm, aa, bb, ee, oo, ll, pp, ff, hh, kk, yk, yf, ys, yi, tt, nv, ds, fi, rfl, rfl, hI⟩ := I
  exact h C vv dd sm aa bb ee oo ll pp ff hh kk yk yf ys yi tt nv ds fi hI
theorem re_in {k : Nat} {C : gt_C} {vv : gt_V} {dd : Nat → Int64} {sm : Nat → Int32} {aa : gt_A} {bb : gt_B} {ee : gt_E} {oo : gt_O} {ll : gt_L} {pp : gt_P} {ff : gt_F} {hh : gt_H} {kk : gt_K} {yk yf ys yi : Nat → Nat} {tt : gu_T} {nv : Nat → Nat} {ds fi : Nat → Int32} (h : rl_I C vv dd ll yk yf ys yi tt) : i_Rel k (mk_X C vv dd sm aa bb ee oo ll pp ff hh kk) (mk_Y (ry_D C yk yf ys yi) (ry_W vv) tt nv ds fi) :=
  ⟨C, vv, dd, sm, aa, bb, ee, oo, ll, pp, ff, hh, kk, yk, yf, ys, yi, tt, nv, ds, fi, rfl, rfl, h⟩
/-- an input -/
theorem ok_in {C : gt_C} {yk yf ys yi : Nat → Nat} (h : cr_OK C) (hr : rl_C C (ry_D C yk yf ys yi)) (hlt : xc_ni C < xc_ci C) : cr_OK (((xc_ci C, xc_cl C, xc_cg C, xc_N C + 1, xc_ni C + 1, xc_nl C, xc_ng C, xc_fx C, xc_on C, up_n (xc_kind C) (xc_N C) 1, up_n (xc_idx C) (xc_N C) (xc_ni C), xc_opA C, xc_opB C, up_n (xc_inN C) (xc_ni C) (xc_N C), xc_laN C, xc_root C) : gt_C)) ∧ rl_C (((xc_ci C, xc_cl C, xc_cg C, xc_N C + 1, xc_ni C + 1, xc_nl C, xc_ng C, xc_fx C, xc_on C, up_n (xc_kind C) (xc_N C) 1, up_n (xc_idx C) (xc_N C) (xc_ni C), xc_opA C, xc_opB C, up_n (xc_inN C) (xc_ni C) (xc_N C), xc_laN C, xc_root C) : gt_C)) (ry_D (((xc_ci C, xc_cl C, xc_cg C, xc_N C + 1, xc_ni C + 1, xc_nl C, xc_ng C, xc_fx C, xc_on C, up_n (xc_kind C) (xc_N C) 1, up_n (xc_idx C) (xc_N C) (xc_ni C), xc_opA C, xc_opB C, up_n (xc_inN C) (xc_ni C) (xc_N C), xc_laN C, xc_root C) : gt_C)) (up_n yk (xc_N C) 3) (up_n yf (xc_N C) (xc_ni C)) (up_n ys (xc_N C) 0) yi) := by
  have hb := cr_b h
  obtain ⟨⟨a1, a2, a3, a4, a5, a6, a7⟩, ⟨b1, b2⟩, c, d, e, f, g, hro, fo⟩ := h
  obtain ⟨_, r1, r2, r3, r4, _⟩ := hr
  refine ⟨⟨⟨by show xc_N C + 1 = 1 + (xc_ni C + 1) + xc_nl C + xc_ng C; omega, a2, a3, a4, by show xc_ni C + 1 ≤ xc_ci C; omega, a6, a7⟩, ⟨?_, fun n hn h0 => ?_⟩, fun n hn hk => ?_, fun n hn hk => ?_, fun n hn hk => ?_, fun j hj => ?_, fun j hj => ?_, fun j hj => ?_, fo⟩, ⟨⟨rfl, rfl, rfl, rfl, rfl, rfl, rfl⟩, fun n hn => ?_, fun n hn hk => ?_, fun n hn hk => ?_, r4, rfl⟩⟩
  · show up_n (xc_kind C) (xc_N C) 1 0 = 0
    rw [up_o (by omega)]; exact b1
  · have hn' : n < xc_N C + 1 := hn
    show 1 ≤ up_n (xc_kind C) (xc_N C) 1 n ∧ up_n (xc_kind C) (xc_N C) 1 n ≤ 5
    by_cases en : n = xc_N C
    · subst en; rw [up_s]; omega
    · rw [up_o en]; exact b2 n (by omega) h0
  · have hn' : n < xc_N C + 1 := hn
    have hk' : up_n (xc_kind C) (xc_N C) 1 n = 1 := hk
    show up_n (xc_idx C) (xc_N C) (xc_ni C) n < xc_ni C + 1 ∧ up_n (xc_inN C) (xc_ni C) (xc_N C) (up_n (xc_idx C) (xc_N C) (xc_ni C) n) = n
    by_cases en : n = xc_N C
    · subst en; rw [up_s, up_s]; exact ⟨by omega, rfl⟩
    · rw [up_o en] at hk'
      obtain ⟨x, y⟩ := c n (by omega) hk'
      rw [up_o en, up_o (by omega)]
      exact ⟨by omega, y⟩
  · have hn' : n < xc_N C + 1 := hn
    have hk' : up_n (xc_kind C) (xc_N C) 1 n = 2 := hk
    show up_n (xc_idx C) (xc_N C) (xc_ni C) n < xc_nl C ∧ xc_laN C (up_n (xc_idx C) (xc_N C) (xc_ni C) n) = n
    by_cases en : n = xc_N C
    · subst en; rw [up_s] at hk'; omega
    · rw [up_o en] at hk' ⊢; exact d n (by omega) hk'
  · have hn' : n < xc_N C + 1 := hn
    have hk' : 3 ≤ up_n (xc_kind C) (xc_N C) 1 n := hk
    by_cases en : n = xc_N C
    · subst en; rw [up_s] at hk'; omega
    · rw [up_o en] at hk'; exact e n (by omega) hk'
  · have hj' : j < xc_ni C + 1 := hj
    show up_n (xc_inN C) (xc_ni C) (xc_N C) j < xc_N C + 1 ∧ up_n (xc_kind C) (xc_N C) 1 (up_n (xc_inN C) (xc_ni C) (xc_N C) j) = 1 ∧ up_n (xc_idx C) (xc_N C) (xc_ni C) (up_n (xc_inN C) (xc_ni C) (xc_N C) j) = j
    by_cases ej : j = xc_ni C
    · subst ej; rw [up_s, up_s, up_s]; exact ⟨by omega, rfl, rfl⟩
    · obtain ⟨x, y, z⟩ := f j (by omega)
      rw [up_o ej, up_o (by omega), up_o (by omega)]
      exact ⟨by omega, y, z⟩
  · obtain ⟨x, y, z⟩ := g j hj
    show xc_laN C j < xc_N C + 1 ∧ up_n (xc_kind C) (xc_N C) 1 (xc_laN C j) = 2 ∧ up_n (xc_idx C) (xc_N C) (xc_ni C) (xc_laN C j) = j
    rw [up_o (by omega), up_o (by omega)]
    exact ⟨by omega, y, z⟩
  · have := hro j hj
    show xc_root C j < 2 * (xc_N C + 1)
    omega
  · have hn' : n < xc_N C + 1 := hn
    show up_n yk (xc_N C) 3 n = yk_k (up_n (xc_kind C) (xc_N C) 1 n)
    by_cases en : n = xc_N C
    · subst en; rw [up_s, up_s]; rfl
    · rw [up_o en, up_o en]; exact r1 n (by omega)
  · have hn' : n < xc_N C + 1 := hn
    have hk' : up_n (xc_kind C) (xc_N C) 1 n = 1 ∨ up_n (xc_kind C) (xc_N C) 1 n = 2 := hk
    show up_n yf (xc_N C) (xc_ni C) n = up_n (xc_idx C) (xc_N C) (xc_ni C) n
    by_cases en : n = xc_N C
    · subst en; rw [up_s, up_s]
    · rw [up_o en] at hk'; rw [up_o en, up_o en]; exact r2 n (by omega) hk'
  · have hn' : n < xc_N C + 1 := hn
    have hk' : 3 ≤ up_n (xc_kind C) (xc_N C) 1 n := hk
    show up_n yf (xc_N C) (xc_ni C) n = xc_opA C n ∧ up_n ys (xc_N C) 0 n = xc_opB C n
    by_cases en : n = xc_N C
    · subst en; rw [up_s] at hk'; omega
    · rw [up_o en] at hk'; rw [up_o en, up_o en]; exact r3 n (by omega) hk'
/-- a gate -/
theorem ok_ga {C : gt_C} {yk yf ys yi : Nat → Nat} {k a b : Nat} (h : cr_OK C) (hr : rl_C C (ry_D C yk yf ys yi)) (hlt : xc_ng C < xc_cg C) (hk2 : k ≤ 2) (ha : a < 2 * xc_N C) (hbb : b < 2 * xc_N C) : cr_OK (((xc_ci C, xc_cl C, xc_cg C, xc_N C + 1, xc_ni C, xc_nl C, xc_ng C + 1, xc_fx C, xc_on C, up_n (xc_kind C) (xc_N C) (3 + k), up_n (xc_idx C) (xc_N C) (xc_ng C), up_n (xc_opA C) (xc_N C) a, up_n (xc_opB C) (xc_N C) b, xc_inN C, xc_laN C, xc_root C) : gt_C)) ∧ rl_C (((xc_ci C, xc_cl C, xc_cg C, xc_N C + 1, xc_ni C, xc_nl C, xc_ng C + 1, xc_fx C, xc_on C, up_n (xc_kind C) (xc_N C) (3 + k), up_n (xc_idx C) (xc_N C) (xc_ng C), up_n (xc_opA C) (xc_N C) a, up_n (xc_opB C) (xc_N C) b, xc_inN C, xc_laN C, xc_root C) : gt_C)) (ry_D (((xc_ci C, xc_cl C, xc_cg C, xc_N C + 1, xc_ni C, xc_nl C, xc_ng C + 1, xc_fx C, xc_on C, up_n (xc_kind C) (xc_N C) (3 + k), up_n (xc_idx C) (xc_N C) (xc_ng C), up_n (xc_opA C) (xc_N C) a, up_n (xc_opB C) (xc_N C) b, xc_inN C, xc_laN C, xc_root C) : gt_C)) (up_n yk (xc_N C) k) (up_n yf (xc_N C) a) (up_n ys (xc_N C) b) yi) := by
  have hb := cr_b h
  obtain ⟨⟨a1, a2, a3, a4, a5, a6, a7⟩, ⟨b1, b2⟩, c, d, e, f, g, hro, fo⟩ := h
  obtain ⟨_, r1, r2, r3, r4, _⟩ := hr
  refine ⟨⟨⟨by show xc_N C + 1 = 1 + xc_ni C + xc_nl C + (xc_ng C + 1); omega, a2, a3, a4, a5, a6, by show xc_ng C + 1 ≤ xc_cg C; omega⟩, ⟨?_, fun n hn h0 => ?_⟩, fun n hn hk => ?_, fun n hn hk => ?_, fun n hn hk => ?_, fun j hj => ?_, fun j hj => ?_, fun j hj => ?_, fo⟩, ⟨⟨rfl, rfl, rfl, rfl, rfl, rfl, rfl⟩, fun n hn => ?_, fun n hn hk => ?_, fun n hn hk => ?_, r4, rfl⟩⟩
  · show up_n (xc_kind C) (xc_N C) (3 + k) 0 = 0
    rw [up_o (by omega)]; exact b1
  · have hn' : n < xc_N C + 1 := hn
    show 1 ≤ up_n (xc_kind C) (xc_N C) (3 + k) n ∧ up_n (xc_kind C) (xc_N C) (3 + k) n ≤ 5
    by_cases en : n = xc_N C
    · subst en; rw [up_s]; omega
    · rw [up_o en]; exact b2 n (by omega) h0
  · have hn' : n < xc_N C + 1 := hn
    have hk' : up_n (xc_kind C) (xc_N C) (3 + k) n = 1 := hk
    show up_n (xc_idx C) (xc_N C) (xc_ng C) n < xc_ni C ∧ xc_inN C (up_n (xc_idx C) (xc_N C) (xc_ng C) n) = n
    by_cases en : n = xc_N C
    · subst en; rw [up_s] at hk'; omega
    · rw [up_o en] at hk' ⊢; exact c n (by omega) hk'
  · have hn' : n < xc_N C + 1 := hn
    have hk' : up_n (xc_kind C) (xc_N C) (3 + k) n = 2 := hk
    show up_n (xc_idx C) (xc_N C) (xc_ng C) n < xc_nl C ∧ xc_laN C (up_n (xc_idx C) (xc_N C) (xc_ng C) n) = n
    by_cases en : n = xc_N C
    · subst en; rw [up_s] at hk'; omega
    · rw [up_o en] at hk' ⊢; exact d n (by omega) hk'
  · have hn' : n < xc_N C + 1 := hn
    have hk' : 3 ≤ up_n (xc_kind C) (xc_N C) (3 + k) n := hk
    show up_n (xc_opA C) (xc_N C) a n < 2 * n ∧ up_n (xc_opB C) (xc_N C) b n < 2 * n
    by_cases en : n = xc_N C
    · subst en; rw [up_s, up_s]; exact ⟨ha, hbb⟩
    · rw [up_o en] at hk'; rw [up_o en, up_o en]; exact e n (by omega) hk'
  · obtain ⟨x, y, z⟩ := f j hj
    show xc_inN C j < xc_N C + 1 ∧ up_n (xc_kind C) (xc_N C) (3 + k) (xc_inN C j) = 1 ∧ up_n (xc_idx C) (xc_N C) (xc_ng C) (xc_inN C j) = j
    rw [up_o (by omega), up_o (by omega)]
    exact ⟨by omega, y, z⟩
  · obtain ⟨x, y, z⟩ := g j hj
    show xc_laN C j < xc_N C + 1 ∧ up_n (xc_kind C) (xc_N C) (3 + k) (xc_laN C j) = 2 ∧ up_n (xc_idx C) (xc_N C) (xc_ng C) (xc_laN C j) = j
    rw [up_o (by omega), up_o (by omega)]
    exact ⟨by omega, y, z⟩
  · have := hro j hj
    show xc_root C j < 2 * (xc_N C + 1)
    omega
  · have hn' : n < xc_N C + 1 := hn
    show up_n yk (xc_N C) k n = yk_k (up_n (xc_kind C) (xc_N C) (3 + k) n)
    by_cases en : n = xc_N C
    · subst en; rw [up_s, up_s]; unfold yk_k; rw [if_neg (by omega), if_neg (by omega), if_neg (by omega)]; omega
    · rw [up_o en, up_o en]; exact r1 n (by omega)
  · have hn' : n < xc_N C + 1 := hn
    have hk' : up_n (xc_kind C) (xc_N C) (3 + k) n = 1 ∨ up_n (xc_kind C) (xc_N C) (3 + k) n = 2 := hk
    show up_n yf (xc_N C) a n = up_n (xc_idx C) (xc_N C) (xc_ng C) n
    by_cases en : n = xc_N C
    · subst en; rw [up_s] at hk'; omega
    · rw [up_o en] at hk'; rw [up_o en, up_o en]; exact r2 n (by omega) hk'
  · have hn' : n < xc_N C + 1 := hn
    have hk' : 3 ≤ up_n (xc_kind C) (xc_N C) (3 + k) n := hk
    show up_n yf (xc_N C) a n = up_n (xc_opA C) (xc_N C) a n ∧ up_n ys (xc_N C) b n = up_n (xc_opB C) (xc_N C) b n
    by_cases en : n = xc_N C
    · subst en; rw [up_s, up_s, up_s, up_s]; exact ⟨rfl, rfl⟩
    · rw [up_o en] at hk'; rw [up_o en, up_o en, up_o en, up_o en]; exact r3 n (by omega) hk'
/-- a root -/
theorem ok_ro {C : gt_C} {yk yf ys yi : Nat → Nat} {w x : Nat} (h : cr_OK C) (hr : rl_C C (ry_D C yk yf ys yi)) (hx : x < 2 * xc_N C) : cr_OK (((xc_ci C, xc_cl C, xc_cg C, xc_N C, xc_ni C, xc_nl C, xc_ng C, xc_fx C, xc_on C, xc_kind C, xc_idx C, xc_opA C, xc_opB C, xc_inN C, xc_laN C, up_n (xc_root C) w x) : gt_C)) ∧ rl_C (((xc_ci C, xc_cl C, xc_cg C, xc_N C, xc_ni C, xc_nl C, xc_ng C, xc_fx C, xc_on C, xc_kind C, xc_idx C, xc_opA C, xc_opB C, xc_inN C, xc_laN C, up_n (xc_root C) w x) : gt_C)) (ry_D (((xc_ci C, xc_cl C, xc_cg C, xc_N C, xc_ni C, xc_nl C, xc_ng C, xc_fx C, xc_on C, xc_kind C, xc_idx C, xc_opA C, xc_opB C, xc_inN C, xc_laN C, up_n (xc_root C) w x) : gt_C)) yk yf ys yi) := by
  obtain ⟨a, b, c, d, e, f, g, hro, fo⟩ := h
  obtain ⟨_, r1, r2, r3, r4, _⟩ := hr
  refine ⟨⟨a, b, c, d, e, f, g, fun j hj => ?_, fo⟩, ⟨⟨rfl, rfl, rfl, rfl, rfl, rfl, rfl⟩, r1, r2, r3, r4, rfl⟩⟩
  show up_n (xc_root C) w x j < 2 * xc_N C
  by_cases e : j = w
  · subst e; rw [up_s]; exact hx
  · rw [up_o e]; exact hro j hj
/-- a latch -/
theorem ok_la {C : gt_C} {yk yf ys yi : Nat → Nat} {i fx on : Nat} (h : cr_OK C) (hr : rl_C C (ry_D C yk yf ys yi)) (hlt : xc_nl C < xc_cl C) (hi : i ≤ 2) (hfx : fx = if i = 2 then xc_fx C else xc_fx C ||| 2 ^ xc_nl C) (hon : on = if i = 1 then xc_on C ||| 2 ^ xc_nl C else xc_on C) : cr_OK (((xc_ci C, xc_cl C, xc_cg C, xc_N C + 1, xc_ni C, xc_nl C + 1, xc_ng C, fx, on, up_n (xc_kind C) (xc_N C) 2, up_n (xc_idx C) (xc_N C) (xc_nl C), xc_opA C, xc_opB C, xc_inN C, up_n (xc_laN C) (xc_nl C) (xc_N C), up_n (xc_root C) (2 + xc_nl C) (2 * xc_N C)) : gt_C)) ∧ rl_C (((xc_ci C, xc_cl C, xc_cg C, xc_N C + 1, xc_ni C, xc_nl C + 1, xc_ng C, fx, on, up_n (xc_kind C) (xc_N C) 2, up_n (xc_idx C) (xc_N C) (xc_nl C), xc_opA C, xc_opB C, xc_inN C, up_n (xc_laN C) (xc_nl C) (xc_N C), up_n (xc_root C) (2 + xc_nl C) (2 * xc_N C)) : gt_C)) (ry_D (((xc_ci C, xc_cl C, xc_cg C, xc_N C + 1, xc_ni C, xc_nl C + 1, xc_ng C, fx, on, up_n (xc_kind C) (xc_N C) 2, up_n (xc_idx C) (xc_N C) (xc_nl C), xc_opA C, xc_opB C, xc_inN C, up_n (xc_laN C) (xc_nl C) (xc_N C), up_n (xc_root C) (2 + xc_nl C) (2 * xc_N C)) : gt_C)) (up_n yk (xc_N C) 4) (up_n yf (xc_N C) (xc_nl C)) (up_n ys (xc_N C) 0) (up_n yi (xc_nl C) i)) := by
  have hb := cr_b h
  obtain ⟨⟨a1, a2, a3, a4, a5, a6, a7⟩, ⟨b1, b2⟩, c, d, e, f, g, hro, fo1, fo2⟩ := h
  obtain ⟨_, r1, r2, r3, r4, _⟩ := hr
  have p2 : 2 ^ (xc_nl C + 1) = 2 ^ xc_nl C + 2 ^ xc_nl C := by rw [Nat.pow_succ]; omega
  have pp := Nat.two_pow_pos (xc_nl C)
  refine ⟨⟨⟨by show xc_N C + 1 = 1 + xc_ni C + (xc_nl C + 1) + xc_ng C; omega, a2, a3, a4, a5, by show xc_nl C + 1 ≤ xc_cl C; omega, a7⟩, ⟨?_, fun n hn h0 => ?_⟩, fun n hn hk => ?_, fun n hn hk => ?_, fun n hn hk => ?_, fun j hj => ?_, fun j hj => ?_, fun j hj => ?_, ?_, ?_⟩, ⟨⟨rfl, rfl, rfl, rfl, rfl, rfl, rfl⟩, fun n hn => ?_, fun n hn hk => ?_, fun n hn hk => ?_, fun j hj => ?_, rfl⟩⟩
  · show up_n (xc_kind C) (xc_N C) 2 0 = 0
    rw [up_o (by omega)]; exact b1
  · have hn' : n < xc_N C + 1 := hn
    show 1 ≤ up_n (xc_kind C) (xc_N C) 2 n ∧ up_n (xc_kind C) (xc_N C) 2 n ≤ 5
    by_cases en : n = xc_N C
    · subst en; rw [up_s]; omega
    · rw [up_o en]; exact b2 n (by omega) h0
  · have hn' : n < xc_N C + 1 := hn
    have hk' : up_n (xc_kind C) (xc_N C) 2 n = 1 := hk
    show up_n (xc_idx C) (xc_N C) (xc_nl C) n < xc_ni C ∧ xc_inN C (up_n (xc_idx C) (xc_N C) (xc_nl C) n) = n
    by_cases en : n = xc_N C
    · subst en; rw [up_s] at hk'; omega
    · rw [up_o en] at hk' ⊢; exact c n (by omega) hk'
  · have hn' : n < xc_N C + 1 := hn
    have hk' : up_n (xc_kind C) (xc_N C) 2 n = 2 := hk
    show up_n (xc_idx C) (xc_N C) (xc_nl C) n < xc_nl C + 1 ∧ up_n (xc_laN C) (xc_nl C) (xc_N C) (up_n (xc_idx C) (xc_N C) (xc_nl C) n) = n
    by_cases en : n = xc_N C
    · subst en; rw [up_s, up_s]; exact ⟨by omega, rfl⟩
    · rw [up_o en] at hk'
      obtain ⟨x, y⟩ := d n (by omega) hk'
      rw [up_o en, up_o (by omega)]
      exact ⟨by omega, y⟩
  · have hn' : n < xc_N C + 1 := hn
    have hk' : 3 ≤ up_n (xc_kind C) (xc_N C) 2 n := hk
    by_cases en : n = xc_N C
    · subst en; rw [up_s] at hk'; omega
    · rw [up_o en] at hk'; exact e n (by omega) hk'
  · obtain ⟨x, y, z⟩ := f j hj
    show xc_inN C j < xc_N C + 1 ∧ up_n (xc_kind C) (xc_N C) 2 (xc_inN C j) = 1 ∧ up_n (xc_idx C) (xc_N C) (xc_nl C) (xc_inN C j) = j
    rw [up_o (by omega), up_o (by omega)]
    exact ⟨by omega, y, z⟩
  · have hj' : j < xc_nl C + 1 := hj
    show up_n (xc_laN C) (xc_nl C) (xc_N C) j < xc_N C + 1 ∧ up_n (xc_kind C) (xc_N C) 2 (up_n (xc_laN C) (xc_nl C) (xc_N C) j) = 2 ∧ up_n (xc_idx C) (xc_N C) (xc_nl C) (up_n (xc_laN C) (xc_nl C) (xc_N C) j) = j
    by_cases ej : j = xc_nl C
    · subst ej; rw [up_s, up_s, up_s]; exact ⟨by omega, rfl, rfl⟩
    · obtain ⟨x, y, z⟩ := g j (by omega)
      rw [up_o ej, up_o (by omega), up_o (by omega)]
      exact ⟨by omega, y, z⟩
  · have hj' : j < xc_nl C + 1 + 2 := hj
    show up_n (xc_root C) (2 + xc_nl C) (2 * xc_N C) j < 2 * (xc_N C + 1)
    by_cases ej : j = 2 + xc_nl C
    · subst ej; rw [up_s]; omega
    · rw [up_o ej]
      have := hro j (by omega)
      omega
  · show fx < 2 ^ (xc_nl C + 1)
    rw [hfx]
    split
    · omega
    · exact Nat.or_lt_two_pow (by omega) (by omega)
  · show on < 2 ^ (xc_nl C + 1)
    rw [hon]
    split
    · exact Nat.or_lt_two_pow (by omega) (by omega)
    · omega
  · have hn' : n < xc_N C + 1 := hn
    show up_n yk (xc_N C) 4 n = yk_k (up_n (xc_kind C) (xc_N C) 2 n)
    by_cases en : n = xc_N C
    · subst en; rw [up_s, up_s]; rfl
    · rw [up_o en, up_o en]; exact r1 n (by omega)
  · have hn' : n < xc_N C + 1 := hn
    have hk' : up_n (xc_kind C) (xc_N C) 2 n = 1 ∨ up_n (xc_kind C) (xc_N C) 2 n = 2 := hk
    show up_n yf (xc_N C) (xc_nl C) n = up_n (xc_idx C) (xc_N C) (xc_nl C) n
    by_cases en : n = xc_N C
    · subst en; rw [up_s, up_s]
    · rw [up_o en] at hk'; rw [up_o en, up_o en]; exact r2 n (by omega) hk'
  · have hn' : n < xc_N C + 1 := hn
    have hk' : 3 ≤ up_n (xc_kind C) (xc_N C) 2 n := hk
    show up_n yf (xc_N C) (xc_nl C) n = xc_opA C n ∧ up_n ys (xc_N C) 0 n = xc_opB C n
    by_cases en : n = xc_N C
    · subst en; rw [up_s] at hk'; omega
    · rw [up_o en] at hk'; rw [up_o en, up_o en]; exact r3 n (by omega) hk'
  · have hj' : j < xc_nl C + 1 := hj
    show up_n yi (xc_nl C) i j ≤ 2 ∧ fx.testBit j = !decide (up_n yi (xc_nl C) i j = 2) ∧ on.testBit j = decide (up_n yi (xc_nl C) i j = 1)
    by_cases ej : j = xc_nl C
    · subst ej
      rw [up_s]
      have z1 := Nat.testBit_lt_two_pow fo1
      have z2 := Nat.testBit_lt_two_pow fo2
      refine ⟨hi, ?_, ?_⟩
      · rw [hfx]
        by_cases e2 : i = 2
        · rw [if_pos e2, z1, e2]; rfl
        · rw [if_neg e2, Nat.testBit_or, bq_one, decide_eq_true rfl, Bool.or_true, decide_eq_false e2]; rfl
      · rw [hon]
        by_cases e1 : i = 1
        · rw [if_pos e1, Nat.testBit_or, bq_one, decide_eq_true rfl, Bool.or_true, e1]; rfl
        · rw [if_neg e1, z2, decide_eq_false e1]
    · rw [up_o ej]
      obtain ⟨q1, q2, q3⟩ := r4 j (by omega)
      have nb : (2 ^ xc_nl C).testBit j = false := by rw [bq_one, decide_eq_false (by omega)]
      refine ⟨q1, ?_, ?_⟩
      · have q2' : (xc_fx C).testBit j = !decide (yi j = 2) := q2
        rw [hfx, ← q2']
        split
        · rfl
        · rw [Nat.testBit_or, nb, Bool.or_false]
      · have q3' : (xc_on C).testBit j = decide (yi j = 1) := q3
        rw [hon, ← q3']
        split
        · rw [Nat.testBit_or, nb, Bool.or_false]
        · rfl
end
section
/-! small walks, and the building methods -/
section
variable {C : gt_C} {vv : gt_V} {dd : (Nat → Int64)} {sm : (Nat → Int32)} {aa : gt_A} {bb : gt_B} {ee : gt_E} {oo : gt_O} {ll : gt_L} {pp : gt_P} {ff : gt_F} {hh : gt_H} {kk : gt_K}
theorem xm_nn {post : Int32 → SX → Prop} {k x : Nat} (hN : xc_N C < 29) (K : post (nI (xc_N C)) (mk_X (((xc_ci C, xc_cl C, xc_cg C, xc_N C + 1, xc_ni C, xc_nl C, xc_ng C, xc_fx C, xc_on C, up_n (xc_kind C) (xc_N C) k, up_n (xc_idx C) (xc_N C) x, xc_opA C, xc_opB C, xc_inN C, xc_laN C, xc_root C) : gt_C)) vv dd sm aa bb ee oo ll pp ff hh kk)) : wpX_newNode post (mk_X C vv dd sm aa bb ee oo ll pp ff hh kk) (nI k) (nI x) := by
  have hin : vp_in (nI (xc_N C)) 29 := vp_in_nI hN (by omega)
  exact ⟨hin, nm_r (up_I (by omega)) ⟨hin, nm_r (up_I (by omega)) (nm_r (nI_1 _) K)⟩⟩
theorem xm_il {post : Int32 → Prop} {p : Int32} (hC : cr_OK C) (K1 : ∀ x, x < 2 * xc_N C → p = nI x → post 1) (K0 : (∀ x, x < 2 * xc_N C → p ≠ nI x) → post 0) : wpX_isLiteral post (mk_X C vv dd sm aa bb ee oo ll pp ff hh kk) p := by
  have hb := cr_b hC
  have e1 : (2 : Int32) * nI (xc_N C) = nI (2 * xc_N C) := pk_mul 2 _
  refine br_c (fun h => K0 (fun s hs e => ?_)) (fun h => ?_)
  · rw [e] at h; exact absurd h (nI_pos (by omega))
  · obtain ⟨j, hj, rfl⟩ := nI_of h
    show ((2 * nI (xc_N C)) ≤ nI j → post 0) ∧ (¬ (2 * nI (xc_N C)) ≤ nI j → post 1)
    rw [e1]
    refine pk_le (2 * xc_N C) j (fun h2 => K0 (fun s hs e => ?_)) (fun h2 => K1 j h2 rfl)
    rw [nI_eq hj (by omega)] at e
    omega
theorem xm_is {post : Int32 → Prop} {p : Int32} (hC : cr_OK C) (K1 : ∀ s, s < 2 ^ xc_nl C → p = nI s → post 1) (K0 : (∀ s, s < 2 ^ xc_nl C → p ≠ nI s) → post 0) : wpX_isState post (mk_X C vv dd sm aa bb ee oo ll pp ff hh kk) p := by
  have hb := cr_b hC
  have p64 := cr_p64 hC
  have e1 : (1 : Int32) <<< (nI (xc_nl C) &&& 31) = nI (2 ^ xc_nl C) := bq_pow (by omega)
  refine br_c (fun h => K0 (fun s hs e => ?_)) (fun h => ?_)
  · rw [e] at h; exact absurd h (nI_pos (by omega))
  · obtain ⟨j, hj, rfl⟩ := nI_of h
    show (((1 : Int32) <<< (nI (xc_nl C) &&& 31)) ≤ nI j → post 0) ∧ (¬ ((1 : Int32) <<< (nI (xc_nl C) &&& 31)) ≤ nI j → post 1)
    rw [e1]
    refine pk_le (2 ^ xc_nl C) j (fun h2 => K0 (fun s hs e => ?_)) (fun h2 => K1 j h2 rfl)
    rw [nI_eq hj (by omega)] at e
    omega
theorem xm_iw {post : Int32 → Prop} {p : Int32} (hC : cr_OK C) (K1 : ∀ s, s < 2 ^ xc_ni C → p = nI s → post 1) (K0 : (∀ s, s < 2 ^ xc_ni C → p ≠ nI s) → post 0) : wpX_isWord post (mk_X C vv dd sm aa bb ee oo ll pp ff hh kk) p := by
  have hb := cr_b hC
  have p4 := cr_p4 hC
  have e1 : (1 : Int32) <<< (nI (xc_ni C) &&& 31) = nI (2 ^ xc_ni C) := bq_pow (by omega)
  refine br_c (fun h => K0 (fun s hs e => ?_)) (fun h => ?_)
  · rw [e] at h; exact absurd h (nI_pos (by omega))
  · obtain ⟨j, hj, rfl⟩ := nI_of h
    show (((1 : Int32) <<< (nI (xc_ni C) &&& 31)) ≤ nI j → post 0) ∧ (¬ ((1 : Int32) <<< (nI (xc_ni C) &&& 31)) ≤ nI j → post 1)
    rw [e1]
    refine pk_le (2 ^ xc_ni C) j (fun h2 => K0 (fun s hs e => ?_)) (fun h2 => K1 j h2 rfl)
    rw [nI_eq hj (by omega)] at e
    omega
theorem xm_fp28 {post : SX → Prop} (K : ∀ d : Nat → Int64, (∀ r, r < 64 → d r = 0) → post (mk_X C vv d sm aa bb ee oo ll pp ff hh kk)) : ∀ n i d, 64 - i < n → i ≤ 64 → (∀ r, r < i → d r = 0) → wX_forgetProofs_28 post (nI (xc_ci C)) (nI (xc_cl C)) (nI (xc_cg C)) (nI (xc_N C)) (nI (xc_ni C)) (nI (xc_nl C)) (nI (xc_ng C)) (nI (xc_fx C)) (nI (xc_on C)) (nI (xv_ph vv)) (nI (xv_fr vv)) (nI (xv_cc vv)) (nI (xa_ts aa)) (xa_cf aa) (xa_ch aa) (nI (xa_km aa)) (nI (xa_kv aa)) (nI (xb_bc bb)) (nI (xe_dc ee)) (nI (xo_ss oo)) (nI (xo_si oo)) (nI (xl_lc ll)) (xp_gb pp) (nI (xp_gm pp)) (nI (xp_gv pp)) (nI (xf_m ff)) (nI (xf_v ff)) (nI (xh_m hh)) (nI (xh_v hh)) n (nI i) (fun zi => nI (xc_kind C zi)) (fun zi => nI (xc_idx C zi)) (fun zi => nI (xc_opA C zi)) (fun zi => nI (xc_opB C zi)) (fun zi => nI (xc_inN C zi)) (fun zi => nI (xc_laN C zi)) (fun zi => nI (xc_root C zi)) (fun zi => nI (xv_cm vv zi)) (fun zi => nI (xv_cv vv zi)) (fun zi => nI (xv_ts vv zi)) (fun zi => nI (xv_ti vv zi)) d sm (xa_val aa) (fun zi => nI (xa_tr aa zi)) (fun zi => nI (xb_bm bb zi)) (fun zi => nI (xb_bv bb zi)) (fun zi => nI (xe_dn ee zi)) (fun zi => nI (xe_dm ee zi)) (xe_df ee) (fun zi => nI (xl_lm ll zi)) (fun zi => nI (xl_lv ll zi)) (fun zi => nI (xl_le ll zi)) (xl_st ll) (fun zi => nI (xk_m kk zi)) (fun zi => nI (xk_v kk zi)) := by
  intro n
  induction n with
  | zero => intro i d h; omega
  | succ n ih =>
    intro i d hn hi hd
    refine pk_le 64 i (fun h => K d (fun r hr => hd r (by omega))) (fun h => ⟨vp_in_nI (by omega) (by omega), nm_r (e' := vp_updL d i 0) (by rw [nI_clamp (by omega)]) (nm_r (nI_1 i) (ih (i + 1) (vp_updL d i 0) (by omega) (by omega) (fun r hr => ?_)))⟩)
    by_cases e : r = i
    · subst e; exact pk_uLs
    · rw [pk_uLn e]; exact hd r (by omega)
theorem xm_fp7 {post : SX → Prop} (K : ∀ (d : Nat → Int64) st, (∀ r, r < 64 → d r = 0) → post (mk_X C vv d sm aa bb ee oo (((xl_lc ll, xl_lm ll, xl_lv ll, xl_le ll, st) : gt_L)) pp ff hh kk)) : ∀ n i st, 68 - i < n → i ≤ 68 → wX_forgetProofs_7 post (nI (xc_ci C)) (nI (xc_cl C)) (nI (xc_cg C)) (nI (xc_N C)) (nI (xc_ni C)) (nI (xc_nl C)) (nI (xc_ng C)) (nI (xc_fx C)) (nI (xc_on C)) (nI (xv_ph vv)) (nI (xv_fr vv)) (nI (xv_cc vv)) (nI (xa_ts aa)) (xa_cf aa) (xa_ch aa) (nI (xa_km aa)) (nI (xa_kv aa)) (nI (xb_bc bb)) (nI (xe_dc ee)) (nI (xo_ss oo)) (nI (xo_si oo)) (nI (xl_lc ll)) (xp_gb pp) (nI (xp_gm pp)) (nI (xp_gv pp)) (nI (xf_m ff)) (nI (xf_v ff)) (nI (xh_m hh)) (nI (xh_v hh)) n (nI i) (fun zi => nI (xc_kind C zi)) (fun zi => nI (xc_idx C zi)) (fun zi => nI (xc_opA C zi)) (fun zi => nI (xc_opB C zi)) (fun zi => nI (xc_inN C zi)) (fun zi => nI (xc_laN C zi)) (fun zi => nI (xc_root C zi)) (fun zi => nI (xv_cm vv zi)) (fun zi => nI (xv_cv vv zi)) (fun zi => nI (xv_ts vv zi)) (fun zi => nI (xv_ti vv zi)) dd sm (xa_val aa) (fun zi => nI (xa_tr aa zi)) (fun zi => nI (xb_bm bb zi)) (fun zi => nI (xb_bv bb zi)) (fun zi => nI (xe_dn ee zi)) (fun zi => nI (xe_dm ee zi)) (xe_df ee) (fun zi => nI (xl_lm (((xl_lc ll, xl_lm ll, xl_lv ll, xl_le ll, st) : gt_L)) zi)) (fun zi => nI (xl_lv (((xl_lc ll, xl_lm ll, xl_lv ll, xl_le ll, st) : gt_L)) zi)) (fun zi => nI (xl_le (((xl_lc ll, xl_lm ll, xl_lv ll, xl_le ll, st) : gt_L)) zi)) (xl_st (((xl_lc ll, xl_lm ll, xl_lv ll, xl_le ll, st) : gt_L))) (fun zi => nI (xk_m kk zi)) (fun zi => nI (xk_v kk zi)) := by
  intro n
  induction n with
  | zero => intro i st h; omega
  | succ n ih =>
    intro i st hn hi
    refine pk_le 68 i (fun h => ⟨65, xm_fp28 (ll := ((xl_lc ll, xl_lm ll, xl_lv ll, xl_le ll, st) : gt_L)) (fun d hd => K d st hd) 65 0 dd (by omega) (by omega) (fun r hr => absurd hr (by omega))⟩) (fun h => ⟨vp_in_nI (by omega) (by omega), nm_r (up_R (by omega)) (nm_r (nI_1 i) (ih (i + 1) (upd st i (vp_nar .boolean 0)) (by omega) (by omega)))⟩)
theorem xm_fp {post : SX → Prop} (K : ∀ (d : Nat → Int64) st, (∀ r, r < 64 → d r = 0) → post (mk_X C vv d sm aa bb ee oo (((0, xl_lm ll, xl_lv ll, xl_le ll, st) : gt_L)) pp ff hh kk)) : wpX_forgetProofs post (mk_X C vv dd sm aa bb ee oo ll pp ff hh kk) :=
  ⟨69, xm_fp7 (ll := ((0, xl_lm ll, xl_lv ll, xl_le ll, xl_st ll) : gt_L)) K 69 0 (xl_st ll) (by omega) (by omega)⟩
end
section
variable {D : gu_C} {ww : gu_V} {tt : gu_T} {nv : (Nat → Nat)} {ds : (Nat → Int32)} {fi : (Nat → Int32)}
theorem ym_mk {post : Int32 → SY → Prop} {k x y : Nat} (hN : yc_N D < 29) (K : post (nI (2 * yc_N D)) (mk_Y (((yc_ci D, yc_cl D, yc_cg D, yc_N D + 1, yc_ni D, yc_nl D, yc_ng D, up_n (yc_kind D) (yc_N D) k, up_n (yc_fst D) (yc_N D) x, up_n (yc_snd D) (yc_N D) y, yc_ini D, yc_root D) : gu_C)) ww tt nv ds fi)) : wpY_makeNode post (mk_Y D ww tt nv ds fi) (nI k) (nI x) (nI y) := by
  have hin : vp_in (nI (yc_N D)) 29 := vp_in_nI hN (by omega)
  refine ⟨hin, nm_r (up_I (by omega)) ⟨hin, nm_r (up_I (by omega)) ⟨hin, nm_r (up_I (by omega)) (nm_r (nI_1 _) ?_)⟩⟩⟩
  rw [nI_pred, show (2 : Int32) * nI (yc_N D) = nI (2 * yc_N D) from pk_mul 2 _]
  exact K
theorem ym_vl {post : Int32 → Prop} {p : Int32} (hN : yc_N D ≤ 29) (K1 : ∀ x, x < 2 * yc_N D → p = nI x → post 1) (K0 : (∀ x, x < 2 * yc_N D → p ≠ nI x) → post 0) : wpY_validLiteral post (mk_Y D ww tt nv ds fi) p := by
  have e1 : (2 : Int32) * nI (yc_N D) = nI (2 * yc_N D) := pk_mul 2 _
  refine br_c (fun h => K0 (fun s hs e => ?_)) (fun h => ?_)
  · rw [e] at h; exact absurd h (nI_pos (by omega))
  · obtain ⟨j, hj, rfl⟩ := nI_of h
    show ((2 * nI (yc_N D)) ≤ nI j → post 0) ∧ (¬ (2 * nI (yc_N D)) ≤ nI j → post 1)
    rw [e1]
    refine pk_le (2 * yc_N D) j (fun h2 => K0 (fun s hs e => ?_)) (fun h2 => K1 j h2 rfl)
    rw [nI_eq hj (by omega)] at e
    omega
end
theorem rl_b {C C' : gt_C} {vv : gt_V} {dd : Nat → Int64} {ll : gt_L} {yk yf ys yi yk' yf' ys' yi' : Nat → Nat} {tt : gu_T} (h : rl_I C vv dd ll yk yf ys yi tt) (hp : nI (xv_ph vv) = 0) (hC : cr_OK C') (hr : rl_C C' (ry_D C' yk' yf' ys' yi')) : rl_I C' vv dd ll yk' yf' ys' yi' tt := by
  obtain ⟨h1, h2, h3, h4, h5, h6, h7, h8⟩ := h
  have hp' : xv_ph vv = 0 := (bq_nI0 (by omega)).mp hp
  have hc := h6 hp'
  exact ⟨hC, hr, h3, ⟨by omega, fun i hi => absurd hi (by omega)⟩, h5, h6, fun z => absurd hp' z, fun z => absurd z (by omega)⟩
theorem i_vc_addInput {k : Nat} {u : SX} {v : SY} (I : i_Rel k u v) (hk : k + 4 ≤ 2051) : wpX_addInput (fun r u' => wpY_addInput (fun r' v' => r' = r ∧ i_Rel (k + 4) u' v') v) u := by
  refine re_el (P := fun u v => wpX_addInput (fun r u' => wpY_addInput (fun r' v' => r' = r ∧ i_Rel (k + 4) u' v') v) u) ?_ I
  intro C vv dd sm aa bb ee oo ll pp ff hh kk yk yf ys yi tt nv ds fi hI
  have hC := hI.1
  have hb := cr_b hC
  obtain ⟨⟨a1, a2, a3, a4, a5, a6, a7⟩, _⟩ := hC
  have hC := hI.1
  refine br_c (fun h0 => br_c (fun h1 => ?_) (fun h1 => br_t h0 (br_f h1 ⟨rfl, re_in hI⟩))) (fun h0 => br_f h0 ⟨rfl, re_in hI⟩)
  have hlt : xc_ni C < xc_ci C := (nI_ltI (by omega) (by omega)).mp h1
  refine xm_nn (C := C) (vv := vv) (dd := dd) (sm := sm) (aa := aa) (bb := bb) (ee := ee) (oo := oo) (ll := ll) (pp := pp) (ff := ff) (hh := hh) (kk := kk) (k := 1) (by omega) ?_
  refine ⟨vp_in_nI (show xc_ni C < 2 by omega) (by omega), nm_r (up_I (show xc_ni C < 2 ^ 31 by omega)) (nm_r (nI_1 _) ?_)⟩
  refine br_t h0 (br_t h1 (nm_r (nI_1 _) ?_))
  rw [show nI (yc_ni (ry_D C yk yf ys yi) + 1) - 1 = nI (xc_ni C) from nI_pred _]
  refine ym_mk (D := ((yc_ci (ry_D C yk yf ys yi), yc_cl (ry_D C yk yf ys yi), yc_cg (ry_D C yk yf ys yi), yc_N (ry_D C yk yf ys yi), xc_ni C + 1, yc_nl (ry_D C yk yf ys yi), yc_ng (ry_D C yk yf ys yi), yc_kind (ry_D C yk yf ys yi), yc_fst (ry_D C yk yf ys yi), yc_snd (ry_D C yk yf ys yi), yc_ini (ry_D C yk yf ys yi), yc_root (ry_D C yk yf ys yi)) : gu_C)) (ww := ry_W vv) (tt := tt) (nv := nv) (ds := ds) (fi := fi) (k := 3) (x := xc_ni C) (y := 0) (by show xc_N C < 29; omega) ?_
  obtain ⟨g1, g2⟩ := ok_in hC hI.2.1 hlt
  exact ⟨(pk_mul 2 _).symm, re_in (rl_b hI h0 g1 g2)⟩
theorem i_vc_addGate {k : Nat} {u : SX} {v : SY} (I : i_Rel k u v) (hk : k + 4 ≤ 2051) (v1 : Int32) (v2 : Int32) (v3 : Int32) : wpX_addGate (fun r u' => wpY_addGate (fun r' v' => r' = r ∧ i_Rel (k + 4) u' v') v v1 v2 v3) u v1 v2 v3 := by
  refine re_el (P := fun u v => wpX_addGate (fun r u' => wpY_addGate (fun r' v' => r' = r ∧ i_Rel (k + 4) u' v') v v1 v2 v3) u v1 v2 v3) ?_ I
  intro C vv dd sm aa bb ee oo ll pp ff hh kk yk yf ys yi tt nv ds fi hI
  have hC := hI.1
  have hb := cr_b hC
  obtain ⟨⟨a1, a2, a3, a4, a5, a6, a7⟩, _⟩ := hC
  have hC := hI.1
  have main : ∀ q, q ≤ 2 → v1 = nI q → nI (xv_ph vv) = 0 → (∀ r u', wY_addGate_25 (fun r' v' => r' = r ∧ i_Rel (k + 4) u' v') v1 v2 v3 (nI (yc_ci (ry_D C yk yf ys yi))) (nI (yc_cl (ry_D C yk yf ys yi))) (nI (yc_cg (ry_D C yk yf ys yi))) (nI (yc_N (ry_D C yk yf ys yi))) (nI (yc_ni (ry_D C yk yf ys yi))) (nI (yc_nl (ry_D C yk yf ys yi))) (nI (yc_ng (ry_D C yk yf ys yi))) (nI (yv_fr (ry_W vv))) (nI (yv_cc (ry_W vv))) (nI (yv_ph (ry_W vv))) (fun zi => nI (yc_kind (ry_D C yk yf ys yi) zi)) (fun zi => nI (yc_fst (ry_D C yk yf ys yi) zi)) (fun zi => nI (yc_snd (ry_D C yk yf ys yi) zi)) (fun zi => nI (nv zi)) (fun zi => nI (yc_ini (ry_D C yk yf ys yi) zi)) (fun zi => nI (yc_root (ry_D C yk yf ys yi) zi)) (fun zi => nI (yv_cm (ry_W vv) zi)) (fun zi => nI (yv_cv (ry_W vv) zi)) (fun zi => nI (yt_ts tt zi)) (fun zi => nI (yt_ti tt zi)) ds fi → wpY_addGate (fun r' v' => r' = r ∧ i_Rel (k + 4) u' v') (mk_Y (ry_D C yk yf ys yi) (ry_W vv) tt nv ds fi) v1 v2 v3) → wX_addGate_25 (fun r u' => wpY_addGate (fun r' v' => r' = r ∧ i_Rel (k + 4) u' v') (mk_Y (ry_D C yk yf ys yi) (ry_W vv) tt nv ds fi) v1 v2 v3) v1 v2 v3 (nI (xc_ci C)) (nI (xc_cl C)) (nI (xc_cg C)) (nI (xc_N C)) (nI (xc_ni C)) (nI (xc_nl C)) (nI (xc_ng C)) (nI (xc_fx C)) (nI (xc_on C)) (nI (xv_ph vv)) (nI (xv_fr vv)) (nI (xv_cc vv)) (nI (xa_ts aa)) (xa_cf aa) (xa_ch aa) (nI (xa_km aa)) (nI (xa_kv aa)) (nI (xb_bc bb)) (nI (xe_dc ee)) (nI (xo_ss oo)) (nI (xo_si oo)) (nI (xl_lc ll)) (xp_gb pp) (nI (xp_gm pp)) (nI (xp_gv pp)) (nI (xf_m ff)) (nI (xf_v ff)) (nI (xh_m hh)) (nI (xh_v hh)) (fun zi => nI (xc_kind C zi)) (fun zi => nI (xc_idx C zi)) (fun zi => nI (xc_opA C zi)) (fun zi => nI (xc_opB C zi)) (fun zi => nI (xc_inN C zi)) (fun zi => nI (xc_laN C zi)) (fun zi => nI (xc_root C zi)) (fun zi => nI (xv_cm vv zi)) (fun zi => nI (xv_cv vv zi)) (fun zi => nI (xv_ts vv zi)) (fun zi => nI (xv_ti vv zi)) dd sm (xa_val aa) (fun zi => nI (xa_tr aa zi)) (fun zi => nI (xb_bm bb zi)) (fun zi => nI (xb_bv bb zi)) (fun zi => nI (xe_dn ee zi)) (fun zi => nI (xe_dm ee zi)) (xe_df ee) (fun zi => nI (xl_lm ll zi)) (fun zi => nI (xl_lv ll zi)) (fun zi => nI (xl_le ll zi)) (xl_st ll) (fun zi => nI (xk_m kk zi)) (fun zi => nI (xk_v kk zi)) := by
    intro q hq hv1 h0 hY
    subst hv1
    unfold wX_addGate_25
    refine xm_il (C := C) (vv := vv) (dd := dd) (sm := sm) (aa := aa) (bb := bb) (ee := ee) (oo := oo) (ll := ll) (pp := pp) (ff := ff) (hh := hh) (kk := kk) hC (fun a ha ea => br_f (by decide) ?_) (fun hna => br_t rfl (hY _ _ ?_))
    · subst ea
      refine xm_il (C := C) (vv := vv) (dd := dd) (sm := sm) (aa := aa) (bb := bb) (ee := ee) (oo := oo) (ll := ll) (pp := pp) (ff := ff) (hh := hh) (kk := kk) hC (fun b hb' eb => br_f (by decide) ?_) (fun hnb => br_t rfl (hY _ _ ?_))
      · subst eb
        refine br_c (fun h1 => ?_) (fun h1 => hY _ _ ?_)
        · have hlt : xc_ng C < xc_cg C := (nI_ltI (by omega) (by omega)).mp h1
          rw [show (3 : Int32) + nI q = nI (3 + q) from nI_add 3 q]
          refine xm_nn (C := C) (vv := vv) (dd := dd) (sm := sm) (aa := aa) (bb := bb) (ee := ee) (oo := oo) (ll := ll) (pp := pp) (ff := ff) (hh := hh) (kk := kk) (k := 3 + q) (by omega) ?_
          have hin : vp_in (nI (xc_N C)) 29 := vp_in_nI (by omega) (by omega)
          refine ⟨hin, nm_r (up_I (by omega)) ⟨hin, nm_r (up_I (by omega)) (nm_r (nI_1 _) (hY _ _ ?_))⟩⟩
          unfold wY_addGate_25
          refine ym_vl (D := ry_D C yk yf ys yi) (ww := ry_W vv) (tt := tt) (nv := nv) (ds := ds) (fi := fi) (by show xc_N C ≤ 29; omega) (fun a' ha' ea' => br_f (by decide) ?_) (fun hn => absurd rfl (hn a ha))
          refine ym_vl (D := ry_D C yk yf ys yi) (ww := ry_W vv) (tt := tt) (nv := nv) (ds := ds) (fi := fi) (by show xc_N C ≤ 29; omega) (fun b'' hb'' eb'' => br_f (by decide) (br_t h1 (nm_r (nI_1 _) ?_))) (fun hn => absurd rfl (hn b hb'))
          refine ym_mk (D := ((yc_ci (ry_D C yk yf ys yi), yc_cl (ry_D C yk yf ys yi), yc_cg (ry_D C yk yf ys yi), yc_N (ry_D C yk yf ys yi), yc_ni (ry_D C yk yf ys yi), yc_nl (ry_D C yk yf ys yi), xc_ng C + 1, yc_kind (ry_D C yk yf ys yi), yc_fst (ry_D C yk yf ys yi), yc_snd (ry_D C yk yf ys yi), yc_ini (ry_D C yk yf ys yi), yc_root (ry_D C yk yf ys yi)) : gu_C)) (ww := ry_W vv) (tt := tt) (nv := nv) (ds := ds) (fi := fi) (k := q) (x := a) (y := b) (by show xc_N C < 29; omega) ?_
          obtain ⟨g1, g2⟩ := ok_ga hC hI.2.1 hlt hq ha hb'
          exact ⟨(pk_mul 2 _).symm, re_in (rl_b hI h0 g1 g2)⟩
        · unfold wY_addGate_25
          refine ym_vl (D := ry_D C yk yf ys yi) (ww := ry_W vv) (tt := tt) (nv := nv) (ds := ds) (fi := fi) (by show xc_N C ≤ 29; omega) (fun a' ha' ea' => br_f (by decide) ?_) (fun hn => absurd rfl (hn a ha))
          exact ym_vl (D := ry_D C yk yf ys yi) (ww := ry_W vv) (tt := tt) (nv := nv) (ds := ds) (fi := fi) (by show xc_N C ≤ 29; omega) (fun b'' hb'' eb'' => br_f (by decide) (br_f h1 ⟨rfl, re_in hI⟩)) (fun hn => absurd rfl (hn b hb'))
      · unfold wY_addGate_25
        refine ym_vl (D := ry_D C yk yf ys yi) (ww := ry_W vv) (tt := tt) (nv := nv) (ds := ds) (fi := fi) (by show xc_N C ≤ 29; omega) (fun a' ha' ea' => br_f (by decide) ?_) (fun hn => absurd rfl (hn a ha))
        exact ym_vl (D := ry_D C yk yf ys yi) (ww := ry_W vv) (tt := tt) (nv := nv) (ds := ds) (fi := fi) (by show xc_N C ≤ 29; omega) (fun b'' hb'' eb'' => absurd eb'' (hnb b'' hb'')) (fun hn => br_t rfl ⟨rfl, re_in hI⟩)
    · unfold wY_addGate_25
      exact ym_vl (D := ry_D C yk yf ys yi) (ww := ry_W vv) (tt := tt) (nv := nv) (ds := ds) (fi := fi) (by show xc_N C ≤ 29; omega) (fun a' ha' ea' => absurd ea' (hna a' ha')) (fun hn => br_t rfl ⟨rfl, re_in hI⟩)
  refine br_c (fun h0 => ?_) (fun h0 => br_f h0 ⟨rfl, re_in hI⟩)
  refine br_c (fun e => ?_) (fun e0 => br_c (fun e => ?_) (fun e1 => br_c (fun e => ?_) (fun e2 => ?_)))
  · exact main 0 (by omega) e h0 (fun r u' h => br_t h0 (br_t e h))
  · exact main 1 (by omega) e h0 (fun r u' h => br_t h0 (br_f e0 (br_t e h)))
  · exact main 2 (by omega) e h0 (fun r u' h => br_t h0 (br_f e0 (br_f e1 (br_t e h))))
  · exact br_t h0 (br_f e0 (br_f e1 (br_f e2 ⟨rfl, re_in hI⟩)))
theorem i_vc_addLatch {k : Nat} {u : SX} {v : SY} (I : i_Rel k u v) (hk : k + 4 ≤ 2051) (v1 : Int32) : wpX_addLatch (fun r u' => wpY_addLatch (fun r' v' => r' = r ∧ i_Rel (k + 4) u' v') v v1) u v1 := by
  refine re_el (P := fun u v => wpX_addLatch (fun r u' => wpY_addLatch (fun r' v' => r' = r ∧ i_Rel (k + 4) u' v') v v1) u v1) ?_ I
  intro C vv dd sm aa bb ee oo ll pp ff hh kk yk yf ys yi tt nv ds fi hI
  have hC := hI.1
  have hb := cr_b hC
  obtain ⟨⟨a1, a2, a3, a4, a5, a6, a7⟩, _⟩ := hC
  have hC := hI.1
  have main : ∀ q, q ≤ 2 → v1 = nI q → nI (xv_ph vv) = 0 → (∀ r u', wY_addLatch_25 (fun r' v' => r' = r ∧ i_Rel (k + 4) u' v') v1 (nI (yc_ci (ry_D C yk yf ys yi))) (nI (yc_cl (ry_D C yk yf ys yi))) (nI (yc_cg (ry_D C yk yf ys yi))) (nI (yc_N (ry_D C yk yf ys yi))) (nI (yc_ni (ry_D C yk yf ys yi))) (nI (yc_nl (ry_D C yk yf ys yi))) (nI (yc_ng (ry_D C yk yf ys yi))) (nI (yv_fr (ry_W vv))) (nI (yv_cc (ry_W vv))) (nI (yv_ph (ry_W vv))) (fun zi => nI (yc_kind (ry_D C yk yf ys yi) zi)) (fun zi => nI (yc_fst (ry_D C yk yf ys yi) zi)) (fun zi => nI (yc_snd (ry_D C yk yf ys yi) zi)) (fun zi => nI (nv zi)) (fun zi => nI (yc_ini (ry_D C yk yf ys yi) zi)) (fun zi => nI (yc_root (ry_D C yk yf ys yi) zi)) (fun zi => nI (yv_cm (ry_W vv) zi)) (fun zi => nI (yv_cv (ry_W vv) zi)) (fun zi => nI (yt_ts tt zi)) (fun zi => nI (yt_ti tt zi)) ds fi → wpY_addLatch (fun r' v' => r' = r ∧ i_Rel (k + 4) u' v') (mk_Y (ry_D C yk yf ys yi) (ry_W vv) tt nv ds fi) v1) → wX_addLatch_25 (fun r u' => wpY_addLatch (fun r' v' => r' = r ∧ i_Rel (k + 4) u' v') (mk_Y (ry_D C yk yf ys yi) (ry_W vv) tt nv ds fi) v1) v1 (nI (xc_ci C)) (nI (xc_cl C)) (nI (xc_cg C)) (nI (xc_N C)) (nI (xc_ni C)) (nI (xc_nl C)) (nI (xc_ng C)) (nI (xc_fx C)) (nI (xc_on C)) (nI (xv_ph vv)) (nI (xv_fr vv)) (nI (xv_cc vv)) (nI (xa_ts aa)) (xa_cf aa) (xa_ch aa) (nI (xa_km aa)) (nI (xa_kv aa)) (nI (xb_bc bb)) (nI (xe_dc ee)) (nI (xo_ss oo)) (nI (xo_si oo)) (nI (xl_lc ll)) (xp_gb pp) (nI (xp_gm pp)) (nI (xp_gv pp)) (nI (xf_m ff)) (nI (xf_v ff)) (nI (xh_m hh)) (nI (xh_v hh)) (fun zi => nI (xc_kind C zi)) (fun zi => nI (xc_idx C zi)) (fun zi => nI (xc_opA C zi)) (fun zi => nI (xc_opB C zi)) (fun zi => nI (xc_inN C zi)) (fun zi => nI (xc_laN C zi)) (fun zi => nI (xc_root C zi)) (fun zi => nI (xv_cm vv zi)) (fun zi => nI (xv_cv vv zi)) (fun zi => nI (xv_ts vv zi)) (fun zi => nI (xv_ti vv zi)) dd sm (xa_val aa) (fun zi => nI (xa_tr aa zi)) (fun zi => nI (xb_bm bb zi)) (fun zi => nI (xb_bv bb zi)) (fun zi => nI (xe_dn ee zi)) (fun zi => nI (xe_dm ee zi)) (xe_df ee) (fun zi => nI (xl_lm ll zi)) (fun zi => nI (xl_lv ll zi)) (fun zi => nI (xl_le ll zi)) (xl_st ll) (fun zi => nI (xk_m kk zi)) (fun zi => nI (xk_v kk zi)) := by
    intro q hq hv1 h0 hY
    subst hv1
    refine br_c (fun h1 => ?_) (fun h1 => hY _ _ (br_f h1 ⟨rfl, re_in hI⟩))
    have hlt : xc_nl C < xc_cl C := (nI_ltI (by omega) (by omega)).mp h1
    have hin6 : vp_in (nI (xc_nl C)) 6 := vp_in_nI (by omega) (by omega)
    have e2 : (2 : Int32) + nI (xc_nl C) = nI (2 + xc_nl C) := nI_add 2 _
    have hin8 : vp_in ((2 : Int32) + nI (xc_nl C)) 8 := by rw [e2]; exact vp_in_nI (by omega) (by omega)
    have em : (2 : Int32) * nI (xc_N C) = nI (2 * xc_N C) := pk_mul 2 _
    have eroot : ∀ x : Int32, x = nI (2 * xc_N C) → upd (fun zi => nI (xc_root C zi)) ((2 : Int32) + nI (xc_nl C)).toNatClampNeg x = (fun zi => nI (up_n (xc_root C) (2 + xc_nl C) (2 * xc_N C) zi)) := by
      intro x hx
      rw [hx, e2]; exact up_I (by omega)
    have fin : ∀ fx on, (fx = if q = 2 then xc_fx C else xc_fx C ||| 2 ^ xc_nl C) → (on = if q = 1 then xc_on C ||| 2 ^ xc_nl C else xc_on C) → wX_addLatch_86 (fun r u' => wpY_addLatch (fun r' v' => r' = r ∧ i_Rel (k + 4) u' v') (mk_Y (ry_D C yk yf ys yi) (ry_W vv) tt nv ds fi) (nI q)) (nI (xc_N C)) (nI (xc_ci (((xc_ci C, xc_cl C, xc_cg C, xc_N C + 1, xc_ni C, xc_nl C, xc_ng C, fx, on, up_n (xc_kind C) (xc_N C) 2, up_n (xc_idx C) (xc_N C) (xc_nl C), xc_opA C, xc_opB C, xc_inN C, xc_laN C, xc_root C) : gt_C)))) (nI (xc_cl (((xc_ci C, xc_cl C, xc_cg C, xc_N C + 1, xc_ni C, xc_nl C, xc_ng C, fx, on, up_n (xc_kind C) (xc_N C) 2, up_n (xc_idx C) (xc_N C) (xc_nl C), xc_opA C, xc_opB C, xc_inN C, xc_laN C, xc_root C) : gt_C)))) (nI (xc_cg (((xc_ci C, xc_cl C, xc_cg C, xc_N C + 1, xc_ni C, xc_nl C, xc_ng C, fx, on, up_n (xc_kind C) (xc_N C) 2, up_n (xc_idx C) (xc_N C) (xc_nl C), xc_opA C, xc_opB C, xc_inN C, xc_laN C, xc_root C) : gt_C)))) (nI (xc_N (((xc_ci C, xc_cl C, xc_cg C, xc_N C + 1, xc_ni C, xc_nl C, xc_ng C, fx, on, up_n (xc_kind C) (xc_N C) 2, up_n (xc_idx C) (xc_N C) (xc_nl C), xc_opA C, xc_opB C, xc_inN C, xc_laN C, xc_root C) : gt_C)))) (nI (xc_ni (((xc_ci C, xc_cl C, xc_cg C, xc_N C + 1, xc_ni C, xc_nl C, xc_ng C, fx, on, up_n (xc_kind C) (xc_N C) 2, up_n (xc_idx C) (xc_N C) (xc_nl C), xc_opA C, xc_opB C, xc_inN C, xc_laN C, xc_root C) : gt_C)))) (nI (xc_nl (((xc_ci C, xc_cl C, xc_cg C, xc_N C + 1, xc_ni C, xc_nl C, xc_ng C, fx, on, up_n (xc_kind C) (xc_N C) 2, up_n (xc_idx C) (xc_N C) (xc_nl C), xc_opA C, xc_opB C, xc_inN C, xc_laN C, xc_root C) : gt_C)))) (nI (xc_ng (((xc_ci C, xc_cl C, xc_cg C, xc_N C + 1, xc_ni C, xc_nl C, xc_ng C, fx, on, up_n (xc_kind C) (xc_N C) 2, up_n (xc_idx C) (xc_N C) (xc_nl C), xc_opA C, xc_opB C, xc_inN C, xc_laN C, xc_root C) : gt_C)))) (nI (xc_fx (((xc_ci C, xc_cl C, xc_cg C, xc_N C + 1, xc_ni C, xc_nl C, xc_ng C, fx, on, up_n (xc_kind C) (xc_N C) 2, up_n (xc_idx C) (xc_N C) (xc_nl C), xc_opA C, xc_opB C, xc_inN C, xc_laN C, xc_root C) : gt_C)))) (nI (xc_on (((xc_ci C, xc_cl C, xc_cg C, xc_N C + 1, xc_ni C, xc_nl C, xc_ng C, fx, on, up_n (xc_kind C) (xc_N C) 2, up_n (xc_idx C) (xc_N C) (xc_nl C), xc_opA C, xc_opB C, xc_inN C, xc_laN C, xc_root C) : gt_C)))) (nI (xv_ph vv)) (nI (xv_fr vv)) (nI (xv_cc vv)) (nI (xa_ts aa)) (xa_cf aa) (xa_ch aa) (nI (xa_km aa)) (nI (xa_kv aa)) (nI (xb_bc bb)) (nI (xe_dc ee)) (nI (xo_ss oo)) (nI (xo_si oo)) (nI (xl_lc ll)) (xp_gb pp) (nI (xp_gm pp)) (nI (xp_gv pp)) (nI (xf_m ff)) (nI (xf_v ff)) (nI (xh_m hh)) (nI (xh_v hh)) (fun zi => nI (xc_kind (((xc_ci C, xc_cl C, xc_cg C, xc_N C + 1, xc_ni C, xc_nl C, xc_ng C, fx, on, up_n (xc_kind C) (xc_N C) 2, up_n (xc_idx C) (xc_N C) (xc_nl C), xc_opA C, xc_opB C, xc_inN C, xc_laN C, xc_root C) : gt_C)) zi)) (fun zi => nI (xc_idx (((xc_ci C, xc_cl C, xc_cg C, xc_N C + 1, xc_ni C, xc_nl C, xc_ng C, fx, on, up_n (xc_kind C) (xc_N C) 2, up_n (xc_idx C) (xc_N C) (xc_nl C), xc_opA C, xc_opB C, xc_inN C, xc_laN C, xc_root C) : gt_C)) zi)) (fun zi => nI (xc_opA (((xc_ci C, xc_cl C, xc_cg C, xc_N C + 1, xc_ni C, xc_nl C, xc_ng C, fx, on, up_n (xc_kind C) (xc_N C) 2, up_n (xc_idx C) (xc_N C) (xc_nl C), xc_opA C, xc_opB C, xc_inN C, xc_laN C, xc_root C) : gt_C)) zi)) (fun zi => nI (xc_opB (((xc_ci C, xc_cl C, xc_cg C, xc_N C + 1, xc_ni C, xc_nl C, xc_ng C, fx, on, up_n (xc_kind C) (xc_N C) 2, up_n (xc_idx C) (xc_N C) (xc_nl C), xc_opA C, xc_opB C, xc_inN C, xc_laN C, xc_root C) : gt_C)) zi)) (fun zi => nI (xc_inN (((xc_ci C, xc_cl C, xc_cg C, xc_N C + 1, xc_ni C, xc_nl C, xc_ng C, fx, on, up_n (xc_kind C) (xc_N C) 2, up_n (xc_idx C) (xc_N C) (xc_nl C), xc_opA C, xc_opB C, xc_inN C, xc_laN C, xc_root C) : gt_C)) zi)) (fun zi => nI (xc_laN (((xc_ci C, xc_cl C, xc_cg C, xc_N C + 1, xc_ni C, xc_nl C, xc_ng C, fx, on, up_n (xc_kind C) (xc_N C) 2, up_n (xc_idx C) (xc_N C) (xc_nl C), xc_opA C, xc_opB C, xc_inN C, xc_laN C, xc_root C) : gt_C)) zi)) (fun zi => nI (xc_root (((xc_ci C, xc_cl C, xc_cg C, xc_N C + 1, xc_ni C, xc_nl C, xc_ng C, fx, on, up_n (xc_kind C) (xc_N C) 2, up_n (xc_idx C) (xc_N C) (xc_nl C), xc_opA C, xc_opB C, xc_inN C, xc_laN C, xc_root C) : gt_C)) zi)) (fun zi => nI (xv_cm vv zi)) (fun zi => nI (xv_cv vv zi)) (fun zi => nI (xv_ts vv zi)) (fun zi => nI (xv_ti vv zi)) dd sm (xa_val aa) (fun zi => nI (xa_tr aa zi)) (fun zi => nI (xb_bm bb zi)) (fun zi => nI (xb_bv bb zi)) (fun zi => nI (xe_dn ee zi)) (fun zi => nI (xe_dm ee zi)) (xe_df ee) (fun zi => nI (xl_lm ll zi)) (fun zi => nI (xl_lv ll zi)) (fun zi => nI (xl_le ll zi)) (xl_st ll) (fun zi => nI (xk_m kk zi)) (fun zi => nI (xk_v kk zi)) := by
      intro fx on hfx hon
      refine ⟨hin6, nm_r (up_I (show xc_nl C < 2 ^ 31 by omega)) ⟨hin8, nm_r (eroot _ em) (nm_r (nI_1 _) (hY _ _ (br_t h1 ?_)))⟩⟩
      refine ym_mk (D := ry_D C yk yf ys yi) (ww := ry_W vv) (tt := tt) (nv := nv) (ds := ds) (fi := fi) (k := 4) (x := xc_nl C) (y := 0) (by show xc_N C < 29; omega) ?_
      refine ⟨hin6, nm_r (up_I (show xc_nl C < 2 ^ 31 by omega)) ⟨hin8, nm_r (eroot _ rfl) (nm_r (nI_1 _) ?_)⟩⟩
      obtain ⟨g1, g2⟩ := ok_la hC hI.2.1 hlt hq hfx hon
      exact ⟨em.symm, re_in (rl_b hI h0 g1 g2)⟩
    have s71 : ∀ fx, (fx = if q = 2 then xc_fx C else xc_fx C ||| 2 ^ xc_nl C) → wX_addLatch_71 (fun r u' => wpY_addLatch (fun r' v' => r' = r ∧ i_Rel (k + 4) u' v') (mk_Y (ry_D C yk yf ys yi) (ry_W vv) tt nv ds fi) (nI q)) (nI q) (nI (xc_N C)) (nI (2 ^ xc_nl C)) (nI (xc_ci (((xc_ci C, xc_cl C, xc_cg C, xc_N C + 1, xc_ni C, xc_nl C, xc_ng C, fx, xc_on C, up_n (xc_kind C) (xc_N C) 2, up_n (xc_idx C) (xc_N C) (xc_nl C), xc_opA C, xc_opB C, xc_inN C, xc_laN C, xc_root C) : gt_C)))) (nI (xc_cl (((xc_ci C, xc_cl C, xc_cg C, xc_N C + 1, xc_ni C, xc_nl C, xc_ng C, fx, xc_on C, up_n (xc_kind C) (xc_N C) 2, up_n (xc_idx C) (xc_N C) (xc_nl C), xc_opA C, xc_opB C, xc_inN C, xc_laN C, xc_root C) : gt_C)))) (nI (xc_cg (((xc_ci C, xc_cl C, xc_cg C, xc_N C + 1, xc_ni C, xc_nl C, xc_ng C, fx, xc_on C, up_n (xc_kind C) (xc_N C) 2, up_n (xc_idx C) (xc_N C) (xc_nl C), xc_opA C, xc_opB C, xc_inN C, xc_laN C, xc_root C) : gt_C)))) (nI (xc_N (((xc_ci C, xc_cl C, xc_cg C, xc_N C + 1, xc_ni C, xc_nl C, xc_ng C, fx, xc_on C, up_n (xc_kind C) (xc_N C) 2, up_n (xc_idx C) (xc_N C) (xc_nl C), xc_opA C, xc_opB C, xc_inN C, xc_laN C, xc_root C) : gt_C)))) (nI (xc_ni (((xc_ci C, xc_cl C, xc_cg C, xc_N C + 1, xc_ni C, xc_nl C, xc_ng C, fx, xc_on C, up_n (xc_kind C) (xc_N C) 2, up_n (xc_idx C) (xc_N C) (xc_nl C), xc_opA C, xc_opB C, xc_inN C, xc_laN C, xc_root C) : gt_C)))) (nI (xc_nl (((xc_ci C, xc_cl C, xc_cg C, xc_N C + 1, xc_ni C, xc_nl C, xc_ng C, fx, xc_on C, up_n (xc_kind C) (xc_N C) 2, up_n (xc_idx C) (xc_N C) (xc_nl C), xc_opA C, xc_opB C, xc_inN C, xc_laN C, xc_root C) : gt_C)))) (nI (xc_ng (((xc_ci C, xc_cl C, xc_cg C, xc_N C + 1, xc_ni C, xc_nl C, xc_ng C, fx, xc_on C, up_n (xc_kind C) (xc_N C) 2, up_n (xc_idx C) (xc_N C) (xc_nl C), xc_opA C, xc_opB C, xc_inN C, xc_laN C, xc_root C) : gt_C)))) (nI (xc_fx (((xc_ci C, xc_cl C, xc_cg C, xc_N C + 1, xc_ni C, xc_nl C, xc_ng C, fx, xc_on C, up_n (xc_kind C) (xc_N C) 2, up_n (xc_idx C) (xc_N C) (xc_nl C), xc_opA C, xc_opB C, xc_inN C, xc_laN C, xc_root C) : gt_C)))) (nI (xc_on (((xc_ci C, xc_cl C, xc_cg C, xc_N C + 1, xc_ni C, xc_nl C, xc_ng C, fx, xc_on C, up_n (xc_kind C) (xc_N C) 2, up_n (xc_idx C) (xc_N C) (xc_nl C), xc_opA C, xc_opB C, xc_inN C, xc_laN C, xc_root C) : gt_C)))) (nI (xv_ph vv)) (nI (xv_fr vv)) (nI (xv_cc vv)) (nI (xa_ts aa)) (xa_cf aa) (xa_ch aa) (nI (xa_km aa)) (nI (xa_kv aa)) (nI (xb_bc bb)) (nI (xe_dc ee)) (nI (xo_ss oo)) (nI (xo_si oo)) (nI (xl_lc ll)) (xp_gb pp) (nI (xp_gm pp)) (nI (xp_gv pp)) (nI (xf_m ff)) (nI (xf_v ff)) (nI (xh_m hh)) (nI (xh_v hh)) (fun zi => nI (xc_kind (((xc_ci C, xc_cl C, xc_cg C, xc_N C + 1, xc_ni C, xc_nl C, xc_ng C, fx, xc_on C, up_n (xc_kind C) (xc_N C) 2, up_n (xc_idx C) (xc_N C) (xc_nl C), xc_opA C, xc_opB C, xc_inN C, xc_laN C, xc_root C) : gt_C)) zi)) (fun zi => nI (xc_idx (((xc_ci C, xc_cl C, xc_cg C, xc_N C + 1, xc_ni C, xc_nl C, xc_ng C, fx, xc_on C, up_n (xc_kind C) (xc_N C) 2, up_n (xc_idx C) (xc_N C) (xc_nl C), xc_opA C, xc_opB C, xc_inN C, xc_laN C, xc_root C) : gt_C)) zi)) (fun zi => nI (xc_opA (((xc_ci C, xc_cl C, xc_cg C, xc_N C + 1, xc_ni C, xc_nl C, xc_ng C, fx, xc_on C, up_n (xc_kind C) (xc_N C) 2, up_n (xc_idx C) (xc_N C) (xc_nl C), xc_opA C, xc_opB C, xc_inN C, xc_laN C, xc_root C) : gt_C)) zi)) (fun zi => nI (xc_opB (((xc_ci C, xc_cl C, xc_cg C, xc_N C + 1, xc_ni C, xc_nl C, xc_ng C, fx, xc_on C, up_n (xc_kind C) (xc_N C) 2, up_n (xc_idx C) (xc_N C) (xc_nl C), xc_opA C, xc_opB C, xc_inN C, xc_laN C, xc_root C) : gt_C)) zi)) (fun zi => nI (xc_inN (((xc_ci C, xc_cl C, xc_cg C, xc_N C + 1, xc_ni C, xc_nl C, xc_ng C, fx, xc_on C, up_n (xc_kind C) (xc_N C) 2, up_n (xc_idx C) (xc_N C) (xc_nl C), xc_opA C, xc_opB C, xc_inN C, xc_laN C, xc_root C) : gt_C)) zi)) (fun zi => nI (xc_laN (((xc_ci C, xc_cl C, xc_cg C, xc_N C + 1, xc_ni C, xc_nl C, xc_ng C, fx, xc_on C, up_n (xc_kind C) (xc_N C) 2, up_n (xc_idx C) (xc_N C) (xc_nl C), xc_opA C, xc_opB C, xc_inN C, xc_laN C, xc_root C) : gt_C)) zi)) (fun zi => nI (xc_root (((xc_ci C, xc_cl C, xc_cg C, xc_N C + 1, xc_ni C, xc_nl C, xc_ng C, fx, xc_on C, up_n (xc_kind C) (xc_N C) 2, up_n (xc_idx C) (xc_N C) (xc_nl C), xc_opA C, xc_opB C, xc_inN C, xc_laN C, xc_root C) : gt_C)) zi)) (fun zi => nI (xv_cm vv zi)) (fun zi => nI (xv_cv vv zi)) (fun zi => nI (xv_ts vv zi)) (fun zi => nI (xv_ti vv zi)) dd sm (xa_val aa) (fun zi => nI (xa_tr aa zi)) (fun zi => nI (xb_bm bb zi)) (fun zi => nI (xb_bv bb zi)) (fun zi => nI (xe_dn ee zi)) (fun zi => nI (xe_dm ee zi)) (xe_df ee) (fun zi => nI (xl_lm ll zi)) (fun zi => nI (xl_lv ll zi)) (fun zi => nI (xl_le ll zi)) (xl_st ll) (fun zi => nI (xk_m kk zi)) (fun zi => nI (xk_v kk zi)) := by
      intro fx hfx
      exact pk_eq q 1 (fun e1 => nm_r (bq_or _ _) (fin fx _ hfx (by rw [if_pos e1]))) (fun e1 => fin fx _ hfx (by rw [if_neg e1]))
    refine xm_nn (C := C) (vv := vv) (dd := dd) (sm := sm) (aa := aa) (bb := bb) (ee := ee) (oo := oo) (ll := ll) (pp := pp) (ff := ff) (hh := hh) (kk := kk) (k := 2) (by omega) ?_
    refine nm_r (e' := nI (2 ^ xc_nl C)) (bq_pow (show xc_nl C < 31 by omega)) (pk_eq q 2 (fun e => s71 _ (by rw [if_pos e])) (fun e => nm_r (bq_or _ _) (s71 _ (by rw [if_neg e]))))
  refine br_c (fun h0 => ?_) (fun h0 => br_f h0 ⟨rfl, re_in hI⟩)
  refine br_c (fun e => ?_) (fun e0 => br_c (fun e => ?_) (fun e1 => br_c (fun e => ?_) (fun e2 => ?_)))
  · exact main 0 (by omega) e h0 (fun r u' h => br_t h0 (br_t e h))
  · exact main 1 (by omega) e h0 (fun r u' h => br_t h0 (br_f e0 (br_t e h)))
  · exact main 2 (by omega) e h0 (fun r u' h => br_t h0 (br_f e0 (br_f e1 (br_t e h))))
  · exact br_t h0 (br_f e0 (br_f e1 (br_f e2 ⟨rfl, re_in hI⟩)))
theorem i_vc_setRoot {k : Nat} {u : SX} {v : SY} (I : i_Rel k u v) (hk : k + 4 ≤ 2051) (v1 : Int32) (v2 : Int32) : wpX_setRoot (fun r u' => wpY_setRoot (fun r' v' => r' = r ∧ i_Rel (k + 4) u' v') v v1 v2) u v1 v2 := by
  refine re_el (P := fun u v => wpX_setRoot (fun r u' => wpY_setRoot (fun r' v' => r' = r ∧ i_Rel (k + 4) u' v') v v1 v2) u v1 v2) ?_ I
  intro C vv dd sm aa bb ee oo ll pp ff hh kk yk yf ys yi tt nv ds fi hI
  have hC := hI.1
  have hb := cr_b hC
  refine br_c (fun h0 => br_c (fun h1 => br_t h0 (br_t h1 ⟨rfl, re_in hI⟩)) (fun h1 => br_c (fun h2 => ?_) (fun h2 => br_t h0 (br_f h1 (br_f h2 ⟨rfl, re_in hI⟩))))) (fun h0 => br_f h0 ⟨rfl, re_in hI⟩)
  obtain ⟨w, hw, rfl⟩ := nI_of h1
  have hw8 : w < 8 := by
    have h2' : nI w ≤ nI (xc_nl C) + 1 := h2
    rw [nI_1, nI_leI hw (by omega)] at h2'
    omega
  have hin : vp_in (nI w) 8 := vp_in_nI hw8 (by omega)
  refine xm_il (C := C) (vv := vv) (dd := dd) (sm := sm) (aa := aa) (bb := bb) (ee := ee) (oo := oo) (ll := ll) (pp := pp) (ff := ff) (hh := hh) (kk := kk) hC (fun x hx ex => br_f (by decide) ?_) (fun hn => br_t rfl (br_t h0 (br_f h1 (br_t h2 ?_))))
  · subst ex
    obtain ⟨g1, g2⟩ := ok_ro (w := w) hC hI.2.1 hx
    refine ⟨hin, nm_r (up_I (by omega)) (br_t h0 (br_f h1 (br_t h2 ?_)))⟩
    refine ym_vl (D := ry_D C yk yf ys yi) (ww := ry_W vv) (tt := tt) (nv := nv) (ds := ds) (fi := fi) (by show xc_N C ≤ 29; omega) (fun a' ha' ea' => br_f (by decide) ⟨hin, nm_r (up_I (by omega)) ⟨rfl, ?_⟩⟩) (fun hn => absurd rfl (hn x hx))
    exact re_in (rl_b hI h0 g1 g2)
  · exact ym_vl (D := ry_D C yk yf ys yi) (ww := ry_W vv) (tt := tt) (nv := nv) (ds := ds) (fi := fi) (by show xc_N C ≤ 29; omega) (fun a' ha' ea' => absurd ea' (hn a' ha')) (fun hn => br_t rfl ⟨rfl, re_in hI⟩)
end
section
/-! the first state, and the methods that only read or hardly change anything -/
theorem ck_c (p : Int32) (lo hi : Nat) (h : lo ≤ hi) (hh : hi < 2 ^ 31) : ∃ j, lo ≤ j ∧ j ≤ hi ∧ (∀ post : Int32 → Prop, post (nI j) → wpX_clamp post p (nI lo) (nI hi)) ∧ (∀ (post : Int32 → Prop) (u : SY), post (nI j) → wpY_clamp post u p (nI lo) (nI hi)) := by
  by_cases h1 : nI lo ≤ p
  · have hp : ¬ p < 0 := Int32.not_lt.mpr (Int32.le_trans (nI_pos' (by omega)) h1)
    obtain ⟨j, hj, rfl⟩ := nI_of hp
    have hlo := (nI_leI (by omega) hj).mp h1
    by_cases h2 : nI j ≤ nI hi
    · have hhi := (nI_leI hj hh).mp h2
      exact ⟨j, hlo, hhi, fun post hq => br_t h1 (br_t h2 hq), fun post u hq => br_t h1 (br_t h2 hq)⟩
    · exact ⟨hi, h, Nat.le_refl _, fun post hq => br_t h1 (br_f h2 hq), fun post u hq => br_t h1 (br_f h2 hq)⟩
  · exact ⟨lo, Nat.le_refl _, h, fun post hq => br_f h1 hq, fun post u hq => br_f h1 hq⟩
theorem ck_r : upd (fun _ => (0 : Int32)) 1 1 = (fun i => nI (up_n (fun _ => 0) 1 1 i)) := up_L (f := fun _ => 0) (k := 1) (x := 1)
theorem ck_k : upd (fun _ => (0 : Int32)) 0 5 = (fun i => nI (up_n (fun _ => 0) 0 5 i)) := up_L (f := fun _ => 0) (k := 0) (x := 5)
theorem ck_z : upd (fun _ => (0 : Int32)) 0 0 = (fun _ => 0) := by
  funext i
  unfold upd
  split <;> rfl
abbrev in_C (a b c : Nat) : gt_C := (a, b, c, 1, 0, 0, 0, 0, 0, fun _ => 0, fun _ => 0, fun _ => 0, fun _ => 0, fun _ => 0, fun _ => 0, up_n (fun _ => 0) 1 1)
abbrev in_V : gt_V := (0, 0, 0, fun _ => 0, fun _ => 0, fun _ => 0, fun _ => 0)
theorem in_ok {a b c : Nat} (ha : a ≤ 2) (hb : b ≤ 6) (hc : c ≤ 20) {d : Nat → Int64} {l : gt_L} {t : gu_T} : rl_I (in_C a b c) in_V d l (up_n (fun _ => 0) 0 5) (fun _ => 0) (fun _ => 0) (fun _ => 0) t := by
  refine ⟨⟨⟨rfl, ha, hb, hc, Nat.zero_le _, Nat.zero_le _, Nat.zero_le _⟩, ⟨rfl, fun n hn h0 => ?_⟩, fun n _ hk => absurd hk (by show ¬ (0 : Nat) = 1; omega), fun n _ hk => absurd hk (by show ¬ (0 : Nat) = 2; omega), fun n _ hk => absurd hk (by show ¬ 3 ≤ (0 : Nat); omega), fun j hj => absurd hj (Nat.not_lt_zero _), fun j hj => absurd hj (Nat.not_lt_zero _), fun j hj => ?_, Nat.one_pos, Nat.one_pos⟩, ⟨⟨rfl, rfl, rfl, rfl, rfl, rfl, rfl⟩, fun n hn => ?_, fun n _ hk => absurd hk (by show ¬ ((0 : Nat) = 1 ∨ (0 : Nat) = 2); omega), fun n _ hk => absurd hk (by show ¬ 3 ≤ (0 : Nat); omega), fun j hj => absurd hj (Nat.not_lt_zero _), rfl⟩, ⟨Nat.zero_le _, Nat.zero_le _⟩, ⟨Nat.zero_le _, fun i hi => absurd hi (Nat.not_lt_zero _)⟩, Nat.zero_le _, fun _ => rfl, fun z => absurd rfl z, fun z => absurd z (by show ¬ (0 : Nat) = 3; omega)⟩
  · have : n < 1 := hn
    omega
  · have : j < 2 := hj
    show up_n (fun _ => 0) 1 1 j < 2 * 1
    unfold up_n
    split
    · omega
    · show (0 : Nat) < 2 * 1; omega
  · have : n < 1 := hn
    have e : n = 0 := by omega
    subst e
    rfl
theorem i_vc0 (k0 : Int32) (k1 : Int32) (k2 : Int32) : wpX_init (fun u => wpY_init (fun v => i_Rel 3 u v) k0 k1 k2) k0 k1 k2 := by
  obtain ⟨a, a1, a2, aX, aY⟩ := ck_c k0 0 2 (by omega) (by omega)
  obtain ⟨b, b1, b2, bX, bY⟩ := ck_c k1 1 6 (by omega) (by omega)
  obtain ⟨c, c1, c2, cX, cY⟩ := ck_c k2 1 20 (by omega) (by omega)
  refine aX _ (bX _ (cX _ (nm_r ck_r ?_)))
  refine aY _ _ (bY _ _ (cY _ _ (nm_r ck_k (nm_r ck_z (nm_r ck_r ?_)))))
  exact re_in (C := in_C a b c) (vv := in_V) (dd := fun _ => 0) (sm := fun _ => 0) (aa := (0, 0, 0, 0, 0, fun _ => 0, fun _ => 0)) (bb := (0, fun _ => 0, fun _ => 0)) (ee := (0, fun _ => 0, fun _ => 0, fun _ => 0)) (oo := (0, 0)) (ll := (0, fun _ => 0, fun _ => 0, fun _ => 0, fun _ => 0)) (pp := (0, 0, 0)) (ff := (0, 0)) (hh := (0, 0)) (kk := (fun _ => 0, fun _ => 0)) (yk := up_n (fun _ => 0) 0 5) (yf := fun _ => 0) (ys := fun _ => 0) (yi := fun _ => 0) (tt := (fun _ => 0, fun _ => 0)) (nv := fun _ => 0) (ds := fun _ => 0) (fi := fun _ => 0) (in_ok a2 b2 c2)
theorem fr_0 {C : gt_C} {l : gt_L} (h : xl_lc l = 0) : fr_I C l := ⟨⟨by omega, fun q hq => absurd hq (by omega)⟩, fun p q _ hq => absurd hq (by omega), fun q hq => absurd hq (by omega), fun i s u _ _ _ _ q hq => absurd hq (by omega)⟩
theorem ds_0 {C : gt_C} {d : Nat → Int64} (h : ∀ r, r < 64 → d r = 0) : ds_P C d := by
  intro r s hr _ hb
  unfold db_b at hb
  rw [h r hr] at hb
  have : (0 : Int64).toBitVec.getLsbD s = false := BitVec.getLsbD_zero
  rw [this] at hb
  exact absurd hb (by decide)
theorem i_vc_seal {k : Nat} {u : SX} {v : SY} (I : i_Rel k u v) (hk : k + 4 ≤ 2051) : wpX_seal (fun r u' => wpY_seal (fun r' v' => r' = r ∧ i_Rel (k + 4) u' v') v) u := by
  refine re_el (P := fun u v => wpX_seal (fun r u' => wpY_seal (fun r' v' => r' = r ∧ i_Rel (k + 4) u' v') v) u) ?_ I
  intro C vv dd sm aa bb ee oo ll pp ff hh kk yk yf ys yi tt nv ds fi hI
  obtain ⟨h1, h2, h3, h4, h5, h6, h7, h8⟩ := hI
  have hI : rl_I C vv dd ll yk yf ys yi tt := ⟨h1, h2, h3, h4, h5, h6, h7, h8⟩
  refine br_c (fun h0 => ?_) (fun h0 => br_f h0 ⟨rfl, re_in hI⟩)
  refine xm_fp (C := C) (vv := ((1, 0, 0, xv_cm vv, xv_cv vv, xv_ts vv, xv_ti vv) : gt_V)) (dd := dd) (sm := sm) (aa := aa) (bb := bb) (ee := ee) (oo := oo) (ll := ll) (pp := pp) (ff := ff) (hh := hh) (kk := kk) (fun d st hd => br_t h0 ⟨rfl, ?_⟩)
  exact re_in (C := C) (vv := ((1, 0, 0, xv_cm vv, xv_cv vv, xv_ts vv, xv_ti vv) : gt_V)) (dd := d) (sm := sm) (aa := aa) (bb := bb) (ee := ee) (oo := oo) (ll := ((0, xl_lm ll, xl_lv ll, xl_le ll, st) : gt_L)) (pp := pp) (ff := ff) (hh := hh) (kk := kk) (yk := yk) (yf := yf) (ys := ys) (yi := yi) (tt := tt) (nv := nv) (ds := ds) (fi := fi) ⟨h1, h2, ⟨by show 1 ≤ 4; omega, Nat.zero_le _⟩, ⟨Nat.zero_le _, fun i hi => absurd hi (Nat.not_lt_zero _)⟩, Nat.zero_le _, fun _ => rfl, fun _ => ⟨ds_0 hd, fr_0 rfl⟩, fun z => absurd z (by show ¬ (1 : Nat) = 3; omega)⟩
theorem i_vc_reopen {k : Nat} {u : SX} {v : SY} (I : i_Rel k u v) (hk : k + 4 ≤ 2051) : wpX_reopen (fun r u' => wpY_reopen (fun r' v' => r' = r ∧ i_Rel (k + 4) u' v') v) u := by
  refine re_el (P := fun u v => wpX_reopen (fun r u' => wpY_reopen (fun r' v' => r' = r ∧ i_Rel (k + 4) u' v') v) u) ?_ I
  intro C vv dd sm aa bb ee oo ll pp ff hh kk yk yf ys yi tt nv ds fi hI
  obtain ⟨h1, h2, h3, h4, h5, h6, h7, h8⟩ := hI
  have hI : rl_I C vv dd ll yk yf ys yi tt := ⟨h1, h2, h3, h4, h5, h6, h7, h8⟩
  refine br_c (fun h0 => br_t h0 ⟨rfl, re_in hI⟩) (fun h0 => br_f h0 ⟨rfl, ?_⟩)
  exact re_in (C := C) (vv := ((0, 0, 0, xv_cm vv, xv_cv vv, xv_ts vv, xv_ti vv) : gt_V)) (dd := dd) (sm := sm) (aa := aa) (bb := bb) (ee := ee) (oo := oo) (ll := ll) (pp := pp) (ff := ff) (hh := hh) (kk := kk) (yk := yk) (yf := yf) (ys := ys) (yi := yi) (tt := tt) (nv := nv) (ds := ds) (fi := fi) ⟨h1, h2, ⟨Nat.zero_le _, Nat.zero_le _⟩, ⟨Nat.zero_le _, fun i hi => absurd hi (Nat.not_lt_zero _)⟩, Nat.zero_le _, fun _ => rfl, fun z => absurd rfl z, fun z => absurd z (by show ¬ (0 : Nat) = 3; omega)⟩
theorem i_vc_phase {k : Nat} {u : SX} {v : SY} (I : i_Rel k u v) (hk : k + 4 ≤ 2051) : wpX_phase (fun r => wpY_phase (fun r' => r' = r ∧ i_Rel (k + 4) u v) v) u := by
  refine re_el (P := fun u v => wpX_phase (fun r => wpY_phase (fun r' => r' = r ∧ i_Rel (k + 4) u v) v) u) ?_ I
  intro C vv dd sm aa bb ee oo ll pp ff hh kk yk yf ys yi tt nv ds fi hI
  exact ⟨rfl, re_in hI⟩
theorem i_vc_root {k : Nat} {u : SX} {v : SY} (I : i_Rel k u v) (hk : k + 4 ≤ 2051) (v1 : Int32) : wpX_root (fun r => wpY_root (fun r' => r' = r ∧ i_Rel (k + 4) u v) v v1) u v1 := by
  refine re_el (P := fun u v => wpX_root (fun r => wpY_root (fun r' => r' = r ∧ i_Rel (k + 4) u v) v v1) u v1) ?_ I
  intro C vv dd sm aa bb ee oo ll pp ff hh kk yk yf ys yi tt nv ds fi hI
  have hb := cr_b hI.1
  refine br_c (fun h0 => br_t h0 ⟨rfl, re_in hI⟩) (fun h0 => br_c (fun h1 => ?_) (fun h1 => br_f h0 (br_f h1 ⟨rfl, re_in hI⟩)))
  obtain ⟨w, hw, rfl⟩ := nI_of h0
  have hw8 : w < 8 := by
    have h2' : nI w ≤ nI (xc_nl C) + 1 := h1
    rw [nI_1, nI_leI hw (by omega)] at h2'
    omega
  have hin : vp_in (nI w) 8 := vp_in_nI hw8 (by omega)
  exact ⟨hin, br_f h0 (br_t h1 ⟨hin, rfl, re_in hI⟩)⟩
theorem i_vc_size {k : Nat} {u : SX} {v : SY} (I : i_Rel k u v) (hk : k + 4 ≤ 2051) (v1 : Int32) : wpX_size (fun r => wpY_size (fun r' => r' = r ∧ i_Rel (k + 4) u v) v v1) u v1 := by
  refine re_el (P := fun u v => wpX_size (fun r => wpY_size (fun r' => r' = r ∧ i_Rel (k + 4) u v) v v1) u v1) ?_ I
  intro C vv dd sm aa bb ee oo ll pp ff hh kk yk yf ys yi tt nv ds fi hI
  have nn : ∀ c : Int32, 0 ≤ c → v1 < 0 → ¬ v1 = c := fun c hc h e => absurd (e ▸ h) (Int32.not_lt.mpr hc)
  have ng : ∀ c : Int32, c ≤ 7 → 7 < v1 → ¬ v1 = c := fun c hc h e => absurd (e ▸ h) (Int32.not_lt.mpr hc)
  have out : (∀ c : Int32, 0 ≤ c → c ≤ 7 → ¬ v1 = c) → wpY_size (fun r' => r' = -1 ∧ i_Rel (k + 4) (mk_X C vv dd sm aa bb ee oo ll pp ff hh kk) (mk_Y (ry_D C yk yf ys yi) (ry_W vv) tt nv ds fi)) (mk_Y (ry_D C yk yf ys yi) (ry_W vv) tt nv ds fi) v1 := by
    intro h
    exact br_f (h 0 (by decide) (by decide)) (br_f (h 1 (by decide) (by decide)) (br_f (h 2 (by decide) (by decide)) (br_f (h 3 (by decide) (by decide)) (br_f (h 4 (by decide) (by decide)) (br_f (h 5 (by decide) (by decide)) (br_f (h 6 (by decide) (by decide)) (br_f (h 7 (by decide) (by decide)) ⟨rfl, re_in hI⟩)))))))
  refine br_c (fun h0 => out (fun c hc _ => nn c hc h0)) (fun h0 => br_c (fun h7 => out (fun c _ hc => ng c hc h7)) (fun h7 => ?_))
  refine br_c (fun e0 => br_t e0 ⟨rfl, re_in hI⟩) (fun e0 => br_c (fun e1 => br_f e0 (br_t e1 ⟨rfl, re_in hI⟩)) (fun e1 => br_c (fun e2 => br_f e0 (br_f e1 (br_t e2 ⟨rfl, re_in hI⟩))) (fun e2 => br_c (fun e3 => br_f e0 (br_f e1 (br_f e2 (br_t e3 ⟨rfl, re_in hI⟩)))) (fun e3 => br_c (fun e4 => br_f e0 (br_f e1 (br_f e2 (br_f e3 (br_t e4 ⟨rfl, re_in hI⟩))))) (fun e4 => br_c (fun e5 => br_f e0 (br_f e1 (br_f e2 (br_f e3 (br_f e4 (br_t e5 ⟨rfl, re_in hI⟩)))))) (fun e5 => br_c (fun e6 => br_f e0 (br_f e1 (br_f e2 (br_f e3 (br_f e4 (br_f e5 (br_t e6 ⟨rfl, re_in hI⟩))))))) (fun e6 => br_c (fun e7 => br_f e0 (br_f e1 (br_f e2 (br_f e3 (br_f e4 (br_f e5 (br_f e6 (br_t e7 ⟨rfl, re_in hI⟩)))))))) (fun e7 => trivial))))))))
theorem i_vc_traceState {k : Nat} {u : SX} {v : SY} (I : i_Rel k u v) (hk : k + 4 ≤ 2051) (v1 : Int32) : wpX_traceState (fun r => wpY_traceState (fun r' => r' = r ∧ i_Rel (k + 4) u v) v v1) u v1 := by
  refine re_el (P := fun u v => wpX_traceState (fun r => wpY_traceState (fun r' => r' = r ∧ i_Rel (k + 4) u v) v v1) u v1) ?_ I
  intro C vv dd sm aa bb ee oo ll pp ff hh kk yk yf ys yi tt nv ds fi hI
  obtain ⟨h1, h2, h3, h4, h5, h6, h7, h8⟩ := hI
  have hI : rl_I C vv dd ll yk yf ys yi tt := ⟨h1, h2, h3, h4, h5, h6, h7, h8⟩
  refine br_c (fun h0 => br_c (fun g1 => br_t h0 (br_t g1 ⟨rfl, re_in hI⟩)) (fun g1 => ?_)) (fun h0 => br_f h0 ⟨rfl, re_in hI⟩)
  obtain ⟨w, hw, rfl⟩ := nI_of g1
  have hp : xv_ph vv = 3 := (nI_eq (b := 3) (by omega) (by omega)).mp h0
  obtain ⟨f1, f2⟩ := h8 hp
  refine pk_lt (xv_fr vv) w (fun g2 => br_t h0 (br_f g1 (br_f (nI_ge g2 hw) ⟨rfl, re_in hI⟩))) (fun g2 => ?_)
  have hin : vp_in (nI w) 64 := vp_in_nI (by omega) (by omega)
  refine br_t (nI_lt (b := 64) (by omega) (by omega)) ⟨hin, br_t h0 (br_f g1 (br_t (nI_le g2 (show xv_fr vv < 2 ^ 31 by omega)) ⟨hin, ?_, re_in hI⟩))⟩
  rw [nI_clamp hw]
  exact congrArg nI (f2 w g2).1.symm
theorem i_vc_traceInput {k : Nat} {u : SX} {v : SY} (I : i_Rel k u v) (hk : k + 4 ≤ 2051) (v1 : Int32) : wpX_traceInput (fun r => wpY_traceInput (fun r' => r' = r ∧ i_Rel (k + 4) u v) v v1) u v1 := by
  refine re_el (P := fun u v => wpX_traceInput (fun r => wpY_traceInput (fun r' => r' = r ∧ i_Rel (k + 4) u v) v v1) u v1) ?_ I
  intro C vv dd sm aa bb ee oo ll pp ff hh kk yk yf ys yi tt nv ds fi hI
  obtain ⟨h1, h2, h3, h4, h5, h6, h7, h8⟩ := hI
  have hI : rl_I C vv dd ll yk yf ys yi tt := ⟨h1, h2, h3, h4, h5, h6, h7, h8⟩
  refine br_c (fun h0 => br_c (fun g1 => br_t h0 (br_t g1 ⟨rfl, re_in hI⟩)) (fun g1 => ?_)) (fun h0 => br_f h0 ⟨rfl, re_in hI⟩)
  obtain ⟨w, hw, rfl⟩ := nI_of g1
  have hp : xv_ph vv = 3 := (nI_eq (b := 3) (by omega) (by omega)).mp h0
  obtain ⟨f1, f2⟩ := h8 hp
  refine pk_lt (xv_fr vv) w (fun g2 => br_t h0 (br_f g1 (br_f (nI_ge g2 hw) ⟨rfl, re_in hI⟩))) (fun g2 => ?_)
  have hin : vp_in (nI w) 64 := vp_in_nI (by omega) (by omega)
  refine br_t (nI_lt (b := 64) (by omega) (by omega)) ⟨hin, br_t h0 (br_f g1 (br_t (nI_le g2 (show xv_fr vv < 2 ^ 31 by omega)) ⟨hin, ?_, re_in hI⟩))⟩
  rw [nI_clamp hw]
  exact congrArg nI (f2 w g2).2.symm
theorem i_vc_clauseMask {k : Nat} {u : SX} {v : SY} (I : i_Rel k u v) (hk : k + 4 ≤ 2051) (v1 : Int32) : wpX_clauseMask (fun r => wpY_clauseMask (fun r' => r' = r ∧ i_Rel (k + 4) u v) v v1) u v1 := by
  refine re_el (P := fun u v => wpX_clauseMask (fun r => wpY_clauseMask (fun r' => r' = r ∧ i_Rel (k + 4) u v) v v1) u v1) ?_ I
  intro C vv dd sm aa bb ee oo ll pp ff hh kk yk yf ys yi tt nv ds fi hI
  have hc := hI.2.2.2.1.1
  refine br_c (fun h0 => br_t h0 ⟨rfl, re_in hI⟩) (fun h0 => br_c (fun h1 => ?_) (fun h1 => br_f h0 (br_f h1 ⟨rfl, re_in hI⟩)))
  obtain ⟨w, hw, rfl⟩ := nI_of h0
  have hlt : w < xv_cc vv := (nI_ltI hw (by omega)).mp h1
  have hin : vp_in (nI w) 64 := vp_in_nI (by omega) (by omega)
  exact ⟨hin, br_f h0 (br_t h1 ⟨hin, rfl, re_in hI⟩)⟩
theorem i_vc_clauseValue {k : Nat} {u : SX} {v : SY} (I : i_Rel k u v) (hk : k + 4 ≤ 2051) (v1 : Int32) : wpX_clauseValue (fun r => wpY_clauseValue (fun r' => r' = r ∧ i_Rel (k + 4) u v) v v1) u v1 := by
  refine re_el (P := fun u v => wpX_clauseValue (fun r => wpY_clauseValue (fun r' => r' = r ∧ i_Rel (k + 4) u v) v v1) u v1) ?_ I
  intro C vv dd sm aa bb ee oo ll pp ff hh kk yk yf ys yi tt nv ds fi hI
  have hc := hI.2.2.2.1.1
  refine br_c (fun h0 => br_t h0 ⟨rfl, re_in hI⟩) (fun h0 => br_c (fun h1 => ?_) (fun h1 => br_f h0 (br_f h1 ⟨rfl, re_in hI⟩)))
  obtain ⟨w, hw, rfl⟩ := nI_of h0
  have hlt : w < xv_cc vv := (nI_ltI hw (by omega)).mp h1
  have hin : vp_in (nI w) 64 := vp_in_nI (by omega) (by omega)
  exact ⟨hin, br_f h0 (br_t h1 ⟨hin, rfl, re_in hI⟩)⟩
section
variable {C : gt_C} {vv : gt_V} {dd : (Nat → Int64)} {sm : (Nat → Int32)} {aa : gt_A} {bb : gt_B} {ee : gt_E} {oo : gt_O} {ll : gt_L} {pp : gt_P} {ff : gt_F} {hh : gt_H} {kk : gt_K}
theorem xm_ho30 {post : Int32 → Prop} {s : Nat} (hs : s < 64) (hcc : xv_cc vv ≤ 64) (hcv : ∀ i, i < xv_cc vv → xv_cv vv i < 64) (K1 : (∃ i, i < xv_cc vv ∧ cu_in (xv_cm vv i) (xv_cv vv i) s) → post 0) (K0 : (∀ i, i < xv_cc vv → ¬ cu_in (xv_cm vv i) (xv_cv vv i) s) → post 1) : ∀ n i, xv_cc vv - i < n → i ≤ xv_cc vv → (∀ q, q < i → ¬ cu_in (xv_cm vv q) (xv_cv vv q) s) → wX_holds_30 post (nI s) (nI (xc_ci C)) (nI (xc_cl C)) (nI (xc_cg C)) (nI (xc_N C)) (nI (xc_ni C)) (nI (xc_nl C)) (nI (xc_ng C)) (nI (xc_fx C)) (nI (xc_on C)) (nI (xv_ph vv)) (nI (xv_fr vv)) (nI (xv_cc vv)) (nI (xa_ts aa)) (xa_cf aa) (xa_ch aa) (nI (xa_km aa)) (nI (xa_kv aa)) (nI (xb_bc bb)) (nI (xe_dc ee)) (nI (xo_ss oo)) (nI (xo_si oo)) (nI (xl_lc ll)) (xp_gb pp) (nI (xp_gm pp)) (nI (xp_gv pp)) (nI (xf_m ff)) (nI (xf_v ff)) (nI (xh_m hh)) (nI (xh_v hh)) (fun zi => nI (xc_kind C zi)) (fun zi => nI (xc_idx C zi)) (fun zi => nI (xc_opA C zi)) (fun zi => nI (xc_opB C zi)) (fun zi => nI (xc_inN C zi)) (fun zi => nI (xc_laN C zi)) (fun zi => nI (xc_root C zi)) (fun zi => nI (xv_cm vv zi)) (fun zi => nI (xv_cv vv zi)) (fun zi => nI (xv_ts vv zi)) (fun zi => nI (xv_ti vv zi)) dd sm (xa_val aa) (fun zi => nI (xa_tr aa zi)) (fun zi => nI (xb_bm bb zi)) (fun zi => nI (xb_bv bb zi)) (fun zi => nI (xe_dn ee zi)) (fun zi => nI (xe_dm ee zi)) (xe_df ee) (fun zi => nI (xl_lm ll zi)) (fun zi => nI (xl_lv ll zi)) (fun zi => nI (xl_le ll zi)) (xl_st ll) (fun zi => nI (xk_m kk zi)) (fun zi => nI (xk_v kk zi)) n (nI i) := by
  intro n
  induction n with
  | zero => intro i h; omega
  | succ n ih =>
    intro i hn hi h
    by_cases e : i < xv_cc vv
    · have hin : vp_in (nI i) 64 := vp_in_nI (by omega) (by omega)
      have hcl : (nI i).toNatClampNeg = i := nI_clamp (by omega)
      have hv := hcv i e
      refine br_f (nI_ge e (by omega)) ⟨hin, hin, ?_⟩
      rw [hcl]
      have e1 : (nI s &&& nI (xv_cm vv i) = nI (xv_cv vv i)) ↔ cu_in (xv_cm vv i) (xv_cv vv i) s := by
        rw [nx_and, nI_eq (by have := bq_andlt (b := xv_cm vv i) hs; omega) (by omega)]; exact Iff.rfl
      refine br_c (fun hz => K1 ⟨i, e, e1.mp hz⟩) (fun hz => nm_r (nI_1 i) (ih (i + 1) (by omega) (by omega) (bt_lt.mpr ⟨h, fun y => hz (e1.mpr y)⟩)))
    · have ei : i = xv_cc vv := by omega
      subst ei
      exact br_t (nI_le (Nat.le_refl _) (by omega)) (K0 h)
end
theorem i_vc_holds {k : Nat} {u : SX} {v : SY} (I : i_Rel k u v) (hk : k + 4 ≤ 2051) (v1 : Int32) : wpX_holds (fun r => wpY_holds (fun r' => r' = r ∧ i_Rel (k + 4) u v) v v1) u v1 := by
  refine re_el (P := fun u v => wpX_holds (fun r => wpY_holds (fun r' => r' = r ∧ i_Rel (k + 4) u v) v v1) u v1) ?_ I
  intro C vv dd sm aa bb ee oo ll pp ff hh kk yk yf ys yi tt nv ds fi hI
  have hC := hI.1
  have p64 := cr_p64 hC
  have hcl := hI.2.2.2.1
  have hcc := hcl.1
  have hcv : ∀ i, i < xv_cc vv → xv_cv vv i < 64 := fun i hi => by have := cu_vlt (hcl.2 i hi); omega
  have main : (∀ r, wY_holds_18 (fun r' => r' = r ∧ i_Rel (k + 4) (mk_X C vv dd sm aa bb ee oo ll pp ff hh kk) (mk_Y (ry_D C yk yf ys yi) (ry_W vv) tt nv ds fi)) v1 (nI (yc_ci (ry_D C yk yf ys yi))) (nI (yc_cl (ry_D C yk yf ys yi))) (nI (yc_cg (ry_D C yk yf ys yi))) (nI (yc_N (ry_D C yk yf ys yi))) (nI (yc_ni (ry_D C yk yf ys yi))) (nI (yc_nl (ry_D C yk yf ys yi))) (nI (yc_ng (ry_D C yk yf ys yi))) (nI (yv_fr (ry_W vv))) (nI (yv_cc (ry_W vv))) (nI (yv_ph (ry_W vv))) (fun zi => nI (yc_kind (ry_D C yk yf ys yi) zi)) (fun zi => nI (yc_fst (ry_D C yk yf ys yi) zi)) (fun zi => nI (yc_snd (ry_D C yk yf ys yi) zi)) (fun zi => nI (nv zi)) (fun zi => nI (yc_ini (ry_D C yk yf ys yi) zi)) (fun zi => nI (yc_root (ry_D C yk yf ys yi) zi)) (fun zi => nI (yv_cm (ry_W vv) zi)) (fun zi => nI (yv_cv (ry_W vv) zi)) (fun zi => nI (yt_ts tt zi)) (fun zi => nI (yt_ti tt zi)) ds fi → wpY_holds (fun r' => r' = r ∧ i_Rel (k + 4) (mk_X C vv dd sm aa bb ee oo ll pp ff hh kk) (mk_Y (ry_D C yk yf ys yi) (ry_W vv) tt nv ds fi)) (mk_Y (ry_D C yk yf ys yi) (ry_W vv) tt nv ds fi) v1) → wX_holds_18 (fun r => wpY_holds (fun r' => r' = r ∧ i_Rel (k + 4) (mk_X C vv dd sm aa bb ee oo ll pp ff hh kk) (mk_Y (ry_D C yk yf ys yi) (ry_W vv) tt nv ds fi)) (mk_Y (ry_D C yk yf ys yi) (ry_W vv) tt nv ds fi) v1) v1 (nI (xc_ci C)) (nI (xc_cl C)) (nI (xc_cg C)) (nI (xc_N C)) (nI (xc_ni C)) (nI (xc_nl C)) (nI (xc_ng C)) (nI (xc_fx C)) (nI (xc_on C)) (nI (xv_ph vv)) (nI (xv_fr vv)) (nI (xv_cc vv)) (nI (xa_ts aa)) (xa_cf aa) (xa_ch aa) (nI (xa_km aa)) (nI (xa_kv aa)) (nI (xb_bc bb)) (nI (xe_dc ee)) (nI (xo_ss oo)) (nI (xo_si oo)) (nI (xl_lc ll)) (xp_gb pp) (nI (xp_gm pp)) (nI (xp_gv pp)) (nI (xf_m ff)) (nI (xf_v ff)) (nI (xh_m hh)) (nI (xh_v hh)) (fun zi => nI (xc_kind C zi)) (fun zi => nI (xc_idx C zi)) (fun zi => nI (xc_opA C zi)) (fun zi => nI (xc_opB C zi)) (fun zi => nI (xc_inN C zi)) (fun zi => nI (xc_laN C zi)) (fun zi => nI (xc_root C zi)) (fun zi => nI (xv_cm vv zi)) (fun zi => nI (xv_cv vv zi)) (fun zi => nI (xv_ts vv zi)) (fun zi => nI (xv_ti vv zi)) dd sm (xa_val aa) (fun zi => nI (xa_tr aa zi)) (fun zi => nI (xb_bm bb zi)) (fun zi => nI (xb_bv bb zi)) (fun zi => nI (xe_dn ee zi)) (fun zi => nI (xe_dm ee zi)) (xe_df ee) (fun zi => nI (xl_lm ll zi)) (fun zi => nI (xl_lv ll zi)) (fun zi => nI (xl_le ll zi)) (xl_st ll) (fun zi => nI (xk_m kk zi)) (fun zi => nI (xk_v kk zi)) := by
    intro hY
    unfold wX_holds_18
    refine xm_is (C := C) (vv := vv) (dd := dd) (sm := sm) (aa := aa) (bb := bb) (ee := ee) (oo := oo) (ll := ll) (pp := pp) (ff := ff) (hh := hh) (kk := kk) hC (fun s hs es => br_f (by decide) ?_) (fun hn => br_t rfl (hY _ ?_))
    · subst es
      refine ⟨xv_cc vv + 1, xm_ho30 (C := C) (vv := vv) (dd := dd) (sm := sm) (aa := aa) (bb := bb) (ee := ee) (oo := oo) (ll := ll) (pp := pp) (ff := ff) (hh := hh) (kk := kk) (s := s) (by omega) hcc hcv (fun hex => hY _ ?_) (fun hno => hY _ ?_) (xv_cc vv + 1) 0 (by omega) (by omega) (fun q hq => absurd hq (by omega))⟩
      · unfold wY_holds_18
        refine ym_vs (C := C) (D := ry_D C yk yf ys yi) (ww := ry_W vv) (tt := tt) (nv := nv) (ds := ds) (fi := fi) hC hI.2.1 (fun _ _ _ => br_f (by decide) ?_) (fun hn => absurd rfl (hn s hs))
        exact ym_ic (D := ry_D C yk yf ys yi) (ww := ry_W vv) (tt := tt) (nv := nv) (ds := ds) (fi := fi) (by omega) hcc hcv (fun _ => br_f (by decide) ⟨rfl, re_in hI⟩) (fun h => by obtain ⟨i, i1, i2⟩ := hex; exact absurd i2 (h i i1))
      · unfold wY_holds_18
        refine ym_vs (C := C) (D := ry_D C yk yf ys yi) (ww := ry_W vv) (tt := tt) (nv := nv) (ds := ds) (fi := fi) hC hI.2.1 (fun _ _ _ => br_f (by decide) ?_) (fun hn => absurd rfl (hn s hs))
        exact ym_ic (D := ry_D C yk yf ys yi) (ww := ry_W vv) (tt := tt) (nv := nv) (ds := ds) (fi := fi) (by omega) hcc hcv (fun h => by obtain ⟨i, i1, i2⟩ := h; exact absurd i2 (hno i i1)) (fun h => br_t rfl ⟨rfl, re_in hI⟩)
    · unfold wY_holds_18
      exact ym_vs (C := C) (D := ry_D C yk yf ys yi) (ww := ry_W vv) (tt := tt) (nv := nv) (ds := ds) (fi := fi) hC hI.2.1 (fun s hs es => absurd es (hn s hs)) (fun _ => br_t rfl ⟨rfl, re_in hI⟩)
  refine br_c (fun h0 => main (fun r h => br_t h0 h)) (fun h0 => br_c (fun h1 => main (fun r h => br_f h0 (br_t h1 h))) (fun h1 => br_f h0 (br_f h1 ⟨rfl, re_in hI⟩)))
theorem i_vc_isInitial {k : Nat} {u : SX} {v : SY} (I : i_Rel k u v) (hk : k + 4 ≤ 2051) (v1 : Int32) : wpX_isInitial (fun r => wpY_isInitial (fun r' => r' = r ∧ i_Rel (k + 4) u v) v v1) u v1 := by
  refine re_el (P := fun u v => wpX_isInitial (fun r => wpY_isInitial (fun r' => r' = r ∧ i_Rel (k + 4) u v) v v1) u v1) ?_ I
  intro C vv dd sm aa bb ee oo ll pp ff hh kk yk yf ys yi tt nv ds fi hI
  have hC := hI.1
  have hb := cr_b hC
  have p64 := cr_p64 hC
  have hD := hI.2.1
  unfold wpX_isInitial
  refine xm_is (C := C) (vv := vv) (dd := dd) (sm := sm) (aa := aa) (bb := bb) (ee := ee) (oo := oo) (ll := ll) (pp := pp) (ff := ff) (hh := hh) (kk := kk) hC (fun s hs es => br_f (by decide) ?_) (fun hn => br_t rfl ?_)
  · subst es
    refine xm_si (C := C) (vv := vv) (dd := dd) (sm := sm) (aa := aa) (bb := bb) (ee := ee) (oo := oo) (ll := ll) (pp := pp) (ff := ff) (hh := hh) (kk := kk) hC hs (fun hi => br_f (by decide) ?_) (fun hi => br_t rfl ?_)
    · exact ym_ii (C := C) (D := ry_D C yk yf ys yi) (ww := ry_W vv) (tt := tt) (nv := nv) (ds := ds) (fi := fi) hC hD hs (fun _ => ⟨rfl, re_in hI⟩) (fun h => absurd hi h)
    · exact ym_ii (C := C) (D := ry_D C yk yf ys yi) (ww := ry_W vv) (tt := tt) (nv := nv) (ds := ds) (fi := fi) hC hD hs (fun h => absurd h hi) (fun _ => ⟨rfl, re_in hI⟩)
  · unfold wpY_isInitial
    exact ym_vs (C := C) (D := ry_D C yk yf ys yi) (ww := ry_W vv) (tt := tt) (nv := nv) (ds := ds) (fi := fi) hC hD (fun s hs es => absurd es (hn s hs)) (fun _ => br_t rfl ⟨rfl, re_in hI⟩)
theorem i_vc_nextState {k : Nat} {u : SX} {v : SY} (I : i_Rel k u v) (hk : k + 4 ≤ 2051) (v1 : Int32) (v2 : Int32) : wpX_nextState (fun r u' => wpY_nextState (fun r' v' => r' = r ∧ i_Rel (k + 4) u' v') v v1 v2) u v1 v2 := by
  refine re_el (P := fun u v => wpX_nextState (fun r u' => wpY_nextState (fun r' v' => r' = r ∧ i_Rel (k + 4) u' v') v v1 v2) u v1 v2) ?_ I
  intro C vv dd sm aa bb ee oo ll pp ff hh kk yk yf ys yi tt nv ds fi hI
  have hC := hI.1
  have hb := cr_b hC
  have p64 := cr_p64 hC
  have hD := hI.2.1
  unfold wpX_nextState
  refine xm_is (C := C) (vv := vv) (dd := dd) (sm := sm) (aa := aa) (bb := bb) (ee := ee) (oo := oo) (ll := ll) (pp := pp) (ff := ff) (hh := hh) (kk := kk) hC (fun s hs es => br_f (by decide) ?_) (fun hn => br_t rfl ?_)
  · subst es
    refine xm_iw (C := C) (vv := vv) (dd := dd) (sm := sm) (aa := aa) (bb := bb) (ee := ee) (oo := oo) (ll := ll) (pp := pp) (ff := ff) (hh := hh) (kk := kk) hC (fun w hw ew => br_f (by decide) ?_) (fun hn => br_t rfl ?_)
    · subst ew
      refine xm_succ (C := C) (vv := vv) (dd := dd) (sm := sm) (aa := aa) (bb := bb) (ee := ee) (oo := oo) (ll := ll) (pp := pp) (ff := ff) (hh := hh) (kk := kk) hC (fun f hl => ?_) (fun f hl => ?_)
      · unfold wpY_nextState
        refine ym_vs (C := C) (D := ry_D C yk yf ys yi) (ww := ry_W vv) (tt := tt) (nv := nv) (ds := ds) (fi := fi) hC hD (fun _ _ _ => br_f (by decide) ?_) (fun h => absurd rfl (h s hs))
        refine ym_vi (C := C) (D := ry_D C yk yf ys yi) (ww := ry_W vv) (tt := tt) (nv := nv) (ds := ds) (fi := fi) hC hD (fun _ _ _ => br_f (by decide) ?_) (fun h => absurd rfl (h w hw))
        refine ym_succ (C := C) (D := ry_D C yk yf ys yi) (ww := ry_W vv) (tt := tt) (nv := nv) (ds := ds) (fi := fi) hC hD (fun f' hl' => ⟨rfl, ?_⟩) (fun f' hl' => absurd (hl.symm.trans hl') (by decide))
        exact re_in (C := C) (vv := vv) (dd := dd) (sm := f) (aa := aa) (bb := bb) (ee := ee) (oo := oo) (ll := ll) (pp := pp) (ff := ff) (hh := hh) (kk := kk) (yk := yk) (yf := yf) (ys := ys) (yi := yi) (tt := tt) (nv := f') (ds := ds) (fi := fi) hI
      · unfold wpY_nextState
        refine ym_vs (C := C) (D := ry_D C yk yf ys yi) (ww := ry_W vv) (tt := tt) (nv := nv) (ds := ds) (fi := fi) hC hD (fun _ _ _ => br_f (by decide) ?_) (fun h => absurd rfl (h s hs))
        refine ym_vi (C := C) (D := ry_D C yk yf ys yi) (ww := ry_W vv) (tt := tt) (nv := nv) (ds := ds) (fi := fi) hC hD (fun _ _ _ => br_f (by decide) ?_) (fun h => absurd rfl (h w hw))
        refine ym_succ (C := C) (D := ry_D C yk yf ys yi) (ww := ry_W vv) (tt := tt) (nv := nv) (ds := ds) (fi := fi) hC hD (fun f' hl' => absurd (hl.symm.trans hl') (by decide)) (fun f' hl' => ⟨rfl, ?_⟩)
        exact re_in (C := C) (vv := vv) (dd := dd) (sm := f) (aa := aa) (bb := bb) (ee := ee) (oo := oo) (ll := ll) (pp := pp) (ff := ff) (hh := hh) (kk := kk) (yk := yk) (yf := yf) (ys := ys) (yi := yi) (tt := tt) (nv := f') (ds := ds) (fi := fi) hI
    · unfold wpY_nextState
      refine ym_vs (C := C) (D := ry_D C yk yf ys yi) (ww := ry_W vv) (tt := tt) (nv := nv) (ds := ds) (fi := fi) hC hD (fun _ _ _ => br_f (by decide) ?_) (fun h => absurd rfl (h s hs))
      exact ym_vi (C := C) (D := ry_D C yk yf ys yi) (ww := ry_W vv) (tt := tt) (nv := nv) (ds := ds) (fi := fi) hC hD (fun s hs es => absurd es (hn s hs)) (fun _ => br_t rfl ⟨rfl, re_in hI⟩)
  · unfold wpY_nextState
    exact ym_vs (C := C) (D := ry_D C yk yf ys yi) (ww := ry_W vv) (tt := tt) (nv := nv) (ds := ds) (fi := fi) hC hD (fun s hs es => absurd es (hn s hs)) (fun _ => br_t rfl ⟨rfl, re_in hI⟩)
theorem i_vc_evaluate {k : Nat} {u : SX} {v : SY} (I : i_Rel k u v) (hk : k + 4 ≤ 2051) (v1 : Int32) (v2 : Int32) (v3 : Int32) : wpX_evaluate (fun r u' => wpY_evaluate (fun r' v' => r' = r ∧ i_Rel (k + 4) u' v') v v1 v2 v3) u v1 v2 v3 := by
  refine re_el (P := fun u v => wpX_evaluate (fun r u' => wpY_evaluate (fun r' v' => r' = r ∧ i_Rel (k + 4) u' v') v v1 v2 v3) u v1 v2 v3) ?_ I
  intro C vv dd sm aa bb ee oo ll pp ff hh kk yk yf ys yi tt nv ds fi hI
  have hC := hI.1
  have hb := cr_b hC
  have p64 := cr_p64 hC
  have hD := hI.2.1
  unfold wpX_evaluate
  refine xm_il (C := C) (vv := vv) (dd := dd) (sm := sm) (aa := aa) (bb := bb) (ee := ee) (oo := oo) (ll := ll) (pp := pp) (ff := ff) (hh := hh) (kk := kk) hC (fun x hx ex => br_f (by decide) ?_) (fun hn => br_t rfl ?_)
  · subst ex
    refine xm_is (C := C) (vv := vv) (dd := dd) (sm := sm) (aa := aa) (bb := bb) (ee := ee) (oo := oo) (ll := ll) (pp := pp) (ff := ff) (hh := hh) (kk := kk) hC (fun s hs es => br_f (by decide) ?_) (fun hn => br_t rfl ?_)
    · subst es
      refine xm_iw (C := C) (vv := vv) (dd := dd) (sm := sm) (aa := aa) (bb := bb) (ee := ee) (oo := oo) (ll := ll) (pp := pp) (ff := ff) (hh := hh) (kk := kk) hC (fun w hw ew => br_f (by decide) ?_) (fun hn => br_t rfl ?_)
      · subst ew
        refine xm_last (C := C) (vv := vv) (dd := dd) (sm := sm) (aa := aa) (bb := bb) (ee := ee) (oo := oo) (ll := ll) (pp := pp) (ff := ff) (hh := hh) (kk := kk) hC ?_
        refine xm_sim (C := C) (vv := vv) (dd := dd) (sm := sm) (aa := aa) (bb := bb) (ee := ee) (oo := oo) (ll := ll) (pp := pp) (ff := ff) (hh := hh) (kk := kk) hC (fun f hf => ?_)
        have ef := sl_full (sl_l (x := x) (hf _ (by omega)))
        refine xm_sv (C := C) (vv := vv) (dd := dd) (sm := f) (aa := aa) (bb := bb) (ee := ee) (oo := oo) (ll := ll) (pp := pp) (ff := ff) (hh := hh) (kk := kk) hC hx ?_
        rw [ef]
        have yy : ∀ r : Int32, r = nI (b2_n (cr_lit C s w x)) → wpY_evaluate (fun r' v' => r' = r ∧ i_Rel (k + 4) (mk_X C vv dd f aa bb ee oo ll pp ff hh kk) v') (mk_Y (ry_D C yk yf ys yi) (ry_W vv) tt nv ds fi) (nI x) (nI s) (nI w) := by
          intro r hr
          unfold wpY_evaluate
          refine ym_vl (D := ry_D C yk yf ys yi) (ww := ry_W vv) (tt := tt) (nv := nv) (ds := ds) (fi := fi) (by show xc_N C ≤ 29; omega) (fun _ _ _ => br_f (by decide) ?_) (fun h => absurd rfl (h x hx))
          refine ym_vs (C := C) (D := ry_D C yk yf ys yi) (ww := ry_W vv) (tt := tt) (nv := nv) (ds := ds) (fi := fi) hC hD (fun _ _ _ => br_f (by decide) ?_) (fun h => absurd rfl (h s hs))
          refine ym_vi (C := C) (D := ry_D C yk yf ys yi) (ww := ry_W vv) (tt := tt) (nv := nv) (ds := ds) (fi := fi) hC hD (fun _ _ _ => br_f (by decide) ?_) (fun h => absurd rfl (h w hw))
          refine ym_comp (C := C) (D := ry_D C yk yf ys yi) (ww := ry_W vv) (tt := tt) (nv := nv) (ds := ds) (fi := fi) hC hD (fun f' hf' => ?_)
          refine ym_lv (C := C) (D := ry_D C yk yf ys yi) (ww := ry_W vv) (tt := tt) (nv := f') (ds := ds) (fi := fi) (s := s) (u := w) hC hx (hf' _ (by omega)) ⟨hr.symm, ?_⟩
          exact re_in (C := C) (vv := vv) (dd := dd) (sm := f) (aa := aa) (bb := bb) (ee := ee) (oo := oo) (ll := ll) (pp := pp) (ff := ff) (hh := hh) (kk := kk) (yk := yk) (yf := yf) (ys := ys) (yi := yi) (tt := tt) (nv := f') (ds := ds) (fi := fi) hI
        refine br_c (fun hz => yy 0 ?_) (fun hz => yy 1 ?_)
        · rw [(sl_pos _).1.mp hz]; rfl
        · rw [ts_nf (fun y => hz ((sl_pos _).1.mpr y))]; rfl
      · unfold wpY_evaluate
        refine ym_vl (D := ry_D C yk yf ys yi) (ww := ry_W vv) (tt := tt) (nv := nv) (ds := ds) (fi := fi) (by show xc_N C ≤ 29; omega) (fun _ _ _ => br_f (by decide) ?_) (fun h => absurd rfl (h x hx))
        refine ym_vs (C := C) (D := ry_D C yk yf ys yi) (ww := ry_W vv) (tt := tt) (nv := nv) (ds := ds) (fi := fi) hC hD (fun _ _ _ => br_f (by decide) ?_) (fun h => absurd rfl (h s hs))
        exact ym_vi (C := C) (D := ry_D C yk yf ys yi) (ww := ry_W vv) (tt := tt) (nv := nv) (ds := ds) (fi := fi) hC hD (fun s hs es => absurd es (hn s hs)) (fun _ => br_t rfl ⟨rfl, re_in hI⟩)
    · unfold wpY_evaluate
      refine ym_vl (D := ry_D C yk yf ys yi) (ww := ry_W vv) (tt := tt) (nv := nv) (ds := ds) (fi := fi) (by show xc_N C ≤ 29; omega) (fun _ _ _ => br_f (by decide) ?_) (fun h => absurd rfl (h x hx))
      exact ym_vs (C := C) (D := ry_D C yk yf ys yi) (ww := ry_W vv) (tt := tt) (nv := nv) (ds := ds) (fi := fi) hC hD (fun s hs es => absurd es (hn s hs)) (fun _ => br_t rfl ⟨rfl, re_in hI⟩)
  · unfold wpY_evaluate
    exact ym_vl (D := ry_D C yk yf ys yi) (ww := ry_W vv) (tt := tt) (nv := nv) (ds := ds) (fi := fi) (by show xc_N C ≤ 29; omega) (fun s hs es => absurd es (hn s hs)) (fun _ => br_t rfl ⟨rfl, re_in hI⟩)
end
section
/-! the deciding methods -/
theorem tr_can {C : gt_C} {n : Nat} {ts ti : Nat → Nat} (h : tr_P C n ts ti) (h0 : ts 0 < 2 ^ xc_nl C) : cr_can C n (ts 0) := by
  obtain ⟨a, b, _⟩ := h 0 (Nat.zero_le _)
  exact cr_can_go.mpr ⟨h0, ti 0, a, b⟩
theorem tr_eq {C : gt_C} {n : Nat} {ts ti ts' ti' : Nat → Nat} (h : tr_P C n ts ti) (i : cr_ini C (ts 0)) (l : ∀ s, s < ts 0 → cr_ini C s → ¬ cr_can C n s) (h' : tr_P C n ts' ti') (i' : cr_ini C (ts' 0)) (l' : ∀ s, s < ts' 0 → cr_ini C s → ¬ cr_can C n s) : ∀ k, k ≤ n → ts k = ts' k ∧ ti k = ti' k := by
  refine tr_u h h' ?_
  rcases Nat.lt_trichotomy (ts 0) (ts' 0) with z | z | z
  · exact absurd (tr_can h i.1) (l' _ z i)
  · exact z
  · exact absurd (tr_can h' i'.1) (l _ z i')
theorem i_vc_step {k : Nat} {u : SX} {v : SY} (I : i_Rel k u v) (hk : k + 4 ≤ 2051) : wpX_step (fun r u' => wpY_step (fun r' v' => r' = r ∧ i_Rel (k + 4) u' v') v) u := by
  refine re_el (P := fun u v => wpX_step (fun r u' => wpY_step (fun r' v' => r' = r ∧ i_Rel (k + 4) u' v') v) u) ?_ I
  intro C vv dd sm aa bb ee oo ll pp ff hh kk yk yf ys yi tt nv ds fi hI
  obtain ⟨h1, h2, h3, h4, h5, h6, h7, h8⟩ := hI
  have hI : rl_I C vv dd ll yk yf ys yi tt := ⟨h1, h2, h3, h4, h5, h6, h7, h8⟩
  have hC := h1
  have hb := cr_b hC
  have p64 := cr_p64 hC
  have hD := h2
  refine br_c (fun g0 => ?_) (fun g0 => br_f g0 ⟨rfl, re_in hI⟩)
  have hp : xv_ph vv = 1 := (nI_eq (b := 1) (by omega) (by omega)).mp g0
  obtain ⟨q1, q2⟩ := h7 (by omega)
  refine br_c (fun g1 => ?_) (fun g1 => br_t g0 (br_f g1 ⟨rfl, re_in hI⟩))
  have hlt : xv_fr vv < 64 := (nI_ltI (b := 64) (by omega) (by omega)).mp g1
  refine xm_ft (C := C) (vv := vv) (dd := dd) (sm := sm) (aa := aa) (bb := bb) (ee := ee) (oo := oo) (ll := ll) (pp := pp) (ff := ff) (hh := hh) (kk := kk) hC hlt q1 (fun f d ts ti hd htr hini hle => br_f (by decide) ?_) (fun f d ts ti hd hno => br_t rfl (nm_r (nI_1 _) ?_))
  · refine br_t g0 (br_t g1 ?_)
    refine ym_ff (C := C) (D := ry_D C yk yf ys yi) (ww := ry_W vv) (tt := tt) (nv := nv) (ds := ds) (fi := fi) hC hD hlt (fun f' g hok => ?_)
    refine ym_ft (C := C) (D := ry_D C yk yf ys yi) (ww := ry_W vv) (tt := tt) (nv := f') (ds := ds) (fi := g) hC hD hlt hok (fun f2 t htr' hini' hle' => br_f (by decide) ⟨rfl, ?_⟩) (fun hno => absurd (tr_can htr hini.1) (hno _ hini))
    exact re_in (C := C) (vv := ((3, xv_fr vv, xv_cc vv, xv_cm vv, xv_cv vv, ts, ti) : gt_V)) (dd := d) (sm := f) (aa := aa) (bb := bb) (ee := ee) (oo := oo) (ll := ll) (pp := pp) (ff := ff) (hh := hh) (kk := kk) (yk := yk) (yf := yf) (ys := ys) (yi := yi) (tt := t) (nv := f2) (ds := ds) (fi := g) ⟨h1, h2, ⟨by show 3 ≤ 4; omega, h3.2⟩, h4, h5, fun z => absurd z (by show ¬ (3 : Nat) = 0; omega), fun _ => ⟨hd, q2⟩, fun _ => ⟨hlt, tr_eq htr hini hle htr' hini' hle'⟩⟩
  · refine br_t g0 (br_t g1 ?_)
    refine ym_ff (C := C) (D := ry_D C yk yf ys yi) (ww := ry_W vv) (tt := tt) (nv := nv) (ds := ds) (fi := fi) hC hD hlt (fun f' g hok => ?_)
    refine ym_ft (C := C) (D := ry_D C yk yf ys yi) (ww := ry_W vv) (tt := tt) (nv := f') (ds := ds) (fi := g) hC hD hlt hok (fun f2 t htr' hini' hle' => absurd (tr_can htr' hini'.1) (hno _ hini')) (fun _ => br_t rfl (nm_r (nI_1 _) ⟨rfl, ?_⟩))
    exact re_in (C := C) (vv := ((xv_ph vv, xv_fr vv + 1, xv_cc vv, xv_cm vv, xv_cv vv, ts, ti) : gt_V)) (dd := d) (sm := f) (aa := aa) (bb := bb) (ee := ee) (oo := oo) (ll := ll) (pp := pp) (ff := ff) (hh := hh) (kk := kk) (yk := yk) (yf := yf) (ys := ys) (yi := yi) (tt := tt) (nv := f') (ds := ds) (fi := g) ⟨h1, h2, ⟨h3.1, by show xv_fr vv + 1 ≤ 64; omega⟩, h4, h5, h6, fun _ => ⟨hd, q2⟩, fun z => absurd z (by show ¬ xv_ph vv = 3; omega)⟩
section
variable {C : gt_C}
variable {D : gu_C} {ww : gu_V} {tt : gu_T} {nv : (Nat → Nat)} {ds : (Nat → Int32)} {fi : (Nat → Int32)}
theorem ym_pr18 {post : Int32 → SY → Prop} (hC : cr_OK C) (hD : rl_C C D) (hok : ff_ok C 64 fi) (K1 : ∀ n (f : Nat → Nat) t, n < 64 → tr_P C n (yt_ts t) (yt_ti t) → cr_ini C (yt_ts t 0) → (∀ s, s < yt_ts t 0 → cr_ini C s → ¬ cr_can C n s) → (∀ j, j < n → ∀ s, cr_ini C s → ¬ cr_can C j s) → post 3 (mk_Y D (((n, yv_cc ww, 3, yv_cm ww, yv_cv ww) : gu_V)) t f ds fi)) (K0 : (∀ j, j < 64 → ∀ s, cr_ini C s → ¬ cr_can C j s) → post 2 (mk_Y D (((yv_fr ww, 0, 2, yv_cm ww, yv_cv ww) : gu_V)) tt nv ds fi)) : ∀ q n, 64 - n < q → n ≤ 64 → (∀ j, j < n → ∀ s, cr_ini C s → ¬ cr_can C j s) → wY_prove_18 post q (nI n) (nI (yc_ci D)) (nI (yc_cl D)) (nI (yc_cg D)) (nI (yc_N D)) (nI (yc_ni D)) (nI (yc_nl D)) (nI (yc_ng D)) (nI (yv_fr ww)) (nI (yv_cc ww)) (nI (yv_ph ww)) (fun zi => nI (yc_kind D zi)) (fun zi => nI (yc_fst D zi)) (fun zi => nI (yc_snd D zi)) (fun zi => nI (nv zi)) (fun zi => nI (yc_ini D zi)) (fun zi => nI (yc_root D zi)) (fun zi => nI (yv_cm ww zi)) (fun zi => nI (yv_cv ww zi)) (fun zi => nI (yt_ts tt zi)) (fun zi => nI (yt_ti tt zi)) ds fi := by
  intro q
  induction q with
  | zero => intro n h; omega
  | succ q ih =>
    intro n hq hn hno
    refine pk_lt 63 n (fun h => K0 (fun j hj => hno j (by omega))) (fun h => ?_)
    refine ym_ft (C := C) (D := D) (ww := ww) (tt := tt) (nv := nv) (ds := ds) (fi := fi) hC hD (by omega) (fun m s hm hs => hok m s (by omega) hs) (fun f t htr hini hle => br_f (by decide) (K1 n f t (by omega) htr hini hle hno)) (fun hn0 => br_t rfl (nm_r (nI_1 n) (ih (n + 1) (by omega) (by omega) (bt_lt.mpr ⟨hno, hn0⟩))))
end
theorem go_b {C : gt_C} {m v s : Nat} : go_P C ((1, m, v) : gt_P) s ↔ cr_bs C s := ⟨fun h => h.2 i1n0, fun h => ⟨fun y => absurd y i1n0, fun _ => h⟩⟩
theorem go_n {C : gt_C} {k : Nat} (h : ∀ s, cr_R C k s → ¬ cr_bs C s) : ∀ s, cr_ini C s → ¬ cr_can C k s := by
  intro s hs hc
  obtain ⟨t, h1, h2⟩ := cr_can_R k 0 (s := s) hs hc
  rw [Nat.zero_add] at h1
  exact h t h1 h2
theorem i_vc_prove {k : Nat} {u : SX} {v : SY} (I : i_Rel k u v) (hk : k + 4 ≤ 2051) : wpX_prove (fun r u' => wpY_prove (fun r' v' => r' = r ∧ i_Rel (k + 4) u' v') v) u := by
  refine re_el (P := fun u v => wpX_prove (fun r u' => wpY_prove (fun r' v' => r' = r ∧ i_Rel (k + 4) u' v') v) u) ?_ I
  intro C vv dd sm aa bb ee oo ll pp ff hh kk yk yf ys yi tt nv ds fi hI
  obtain ⟨h1, h2, h3, h4, h5, h6, h7, h8⟩ := hI
  have hI : rl_I C vv dd ll yk yf ys yi tt := ⟨h1, h2, h3, h4, h5, h6, h7, h8⟩
  have hC := h1
  have hb := cr_b hC
  have p64 := cr_p64 hC
  have hD := h2
  refine br_c (fun g0 => ?_) (fun g0 => br_f g0 ⟨rfl, re_in hI⟩)
  have hp : xv_ph vv = 1 := (nI_eq (b := 1) (by omega) (by omega)).mp g0
  obtain ⟨q1, q2⟩ := h7 (by omega)
  refine xm_ld (C := C) (vv := vv) (dd := dd) (sm := sm) (aa := aa) (bb := bb) (ee := ee) (oo := oo) (ll := ll) (pp := ((1, xp_gm pp, xp_gv pp) : gt_P)) (ff := ff) (hh := hh) (kk := kk) hC (fun z => absurd z i1n0) q2 (fun n a b e o f g h z l hn hl hex hno => ?_) (fun a b e o f g h z l hl hno => ?_)
  · refine br_f (nI_pos (by omega)) ?_
    obtain ⟨s, s1, s2⟩ := hex
    obtain ⟨s0, i0, c0⟩ := cr_R_can n 0 s1 (go_b.mp s2)
    rw [Nat.add_zero] at c0
    refine xm_ft (C := C) (vv := vv) (dd := dd) (sm := f) (aa := a) (bb := b) (ee := e) (oo := o) (ll := l) (pp := ((1, xp_gm pp, xp_gv pp) : gt_P)) (ff := g) (hh := h) (kk := z) hC hn q1 (fun f1 d ts ti hd htr hini hle => br_f (by decide) ?_) (fun f1 d ts ti hd hno1 => absurd c0 (hno1 s0 i0))
    refine br_t g0 ?_
    refine ym_ff (C := C) (D := ry_D C yk yf ys yi) (ww := ry_W vv) (tt := tt) (nv := nv) (ds := ds) (fi := fi) (k := 63) hC hD (by omega) (fun f' g' hok => ?_)
    refine ⟨65, ym_pr18 (C := C) (D := ry_D C yk yf ys yi) (ww := ry_W vv) (tt := tt) (nv := f') (ds := ds) (fi := g') hC hD hok (fun m f2 t hm htr' hini' hle' hno' => ?_) (fun hnone => absurd c0 (hnone n hn s0 i0)) 65 0 (by omega) (by omega) (fun j hj => absurd hj (by omega))⟩
    have emn : m = n := by
      rcases Nat.lt_trichotomy m n with y | y | y
      · exact absurd (tr_can htr' hini'.1) (go_n (fun s hs hbs => hno m y s hs (go_b.mpr hbs)) _ hini')
      · exact y
      · exact absurd c0 (hno' n y s0 i0)
    subst emn
    refine ⟨rfl, ?_⟩
    exact re_in (C := C) (vv := ((3, m, xv_cc vv, xv_cm vv, xv_cv vv, ts, ti) : gt_V)) (dd := d) (sm := f1) (aa := a) (bb := b) (ee := e) (oo := o) (ll := l) (pp := ((1, xp_gm pp, xp_gv pp) : gt_P)) (ff := g) (hh := h) (kk := z) (yk := yk) (yf := yf) (ys := ys) (yi := yi) (tt := t) (nv := f2) (ds := ds) (fi := g') ⟨h1, h2, ⟨by show 3 ≤ 4; omega, by show m ≤ 64; omega⟩, h4, h5, fun z => absurd z (by show ¬ (3 : Nat) = 0; omega), fun _ => ⟨hd, hl⟩, fun _ => ⟨hn, tr_eq htr hini hle htr' hini' hle'⟩⟩
  · refine br_t (by decide) ?_
    refine br_t g0 ?_
    refine ym_ff (C := C) (D := ry_D C yk yf ys yi) (ww := ry_W vv) (tt := tt) (nv := nv) (ds := ds) (fi := fi) (k := 63) hC hD (by omega) (fun f' g' hok => ?_)
    refine ⟨65, ym_pr18 (C := C) (D := ry_D C yk yf ys yi) (ww := ry_W vv) (tt := tt) (nv := f') (ds := ds) (fi := g') hC hD hok (fun m f2 t hm htr' hini' hle' hno' => absurd (tr_can htr' hini'.1) (go_n (fun s hs hbs => hno m s hs (go_b.mpr hbs)) _ hini')) (fun hnone => ⟨rfl, ?_⟩) 65 0 (by omega) (by omega) (fun j hj => absurd hj (by omega))⟩
    exact re_in (C := C) (vv := ((2, xv_fr vv, 0, xv_cm vv, xv_cv vv, xv_ts vv, xv_ti vv) : gt_V)) (dd := dd) (sm := f) (aa := a) (bb := b) (ee := e) (oo := o) (ll := l) (pp := ((1, xp_gm pp, xp_gv pp) : gt_P)) (ff := g) (hh := h) (kk := z) (yk := yk) (yf := yf) (ys := ys) (yi := yi) (tt := tt) (nv := f') (ds := ds) (fi := g') ⟨h1, h2, ⟨by show 2 ≤ 4; omega, h3.2⟩, ⟨Nat.zero_le _, fun i hi => absurd hi (Nat.not_lt_zero _)⟩, Nat.zero_le _, fun z => absurd z (by show ¬ (2 : Nat) = 0; omega), fun _ => ⟨q1, hl⟩, fun z => absurd z (by show ¬ (2 : Nat) = 3; omega)⟩
theorem i_vc_distance {k : Nat} {u : SX} {v : SY} (I : i_Rel k u v) (hk : k + 4 ≤ 2051) (v1 : Int32) (v2 : Int32) : wpX_distance (fun r u' => wpY_distance (fun r' v' => r' = r ∧ i_Rel (k + 4) u' v') v v1 v2) u v1 v2 := by
  refine re_el (P := fun u v => wpX_distance (fun r u' => wpY_distance (fun r' v' => r' = r ∧ i_Rel (k + 4) u' v') v v1 v2) u v1 v2) ?_ I
  intro C vv dd sm aa bb ee oo ll pp ff hh kk yk yf ys yi tt nv ds fi hI
  obtain ⟨h1, h2, h3, h4, h5, h6, h7, h8⟩ := hI
  have hI : rl_I C vv dd ll yk yf ys yi tt := ⟨h1, h2, h3, h4, h5, h6, h7, h8⟩
  have hC := h1
  have hb := cr_b hC
  have p64 := cr_p64 hC
  have hD := h2
  refine br_c (fun g0 => br_t g0 ⟨rfl, re_in hI⟩) (fun g0 => ?_)
  have hp : xv_ph vv ≠ 0 := fun z => g0 ((bq_nI0 (by omega)).mpr z)
  obtain ⟨q1, q2⟩ := h7 hp
  refine xm_is (C := C) (vv := vv) (dd := dd) (sm := sm) (aa := aa) (bb := bb) (ee := ee) (oo := oo) (ll := ll) (pp := pp) (ff := ff) (hh := hh) (kk := kk) hC (fun m hm em => br_f (by decide) ?_) (fun hn => br_t rfl (br_f g0 ?_))
  · subst em
    have yv : ∀ {post : Int32 → Prop}, post 1 → wpY_validState post (mk_Y (ry_D C yk yf ys yi) (ry_W vv) tt nv ds fi) (nI m) := fun h => ym_vs (C := C) (D := ry_D C yk yf ys yi) (ww := ry_W vv) (tt := tt) (nv := nv) (ds := ds) (fi := fi) hC hD (fun _ _ _ => h) (fun h => absurd rfl (h m hm))
    refine br_c (fun g1 => br_f g0 (yv (br_f (by decide) (br_t g1 ⟨rfl, re_in hI⟩)))) (fun g1 => br_c (fun g2 => ?_) (fun g2 => br_f g0 (yv (br_f (by decide) (br_f g1 (br_f g2 ⟨rfl, re_in hI⟩))))))
    obtain ⟨w, hw, rfl⟩ := nI_of g1
    have hz : bq_an w m = 0 := by
      have g2' := g2
      rw [bq_anI, bq_nI0 (Nat.lt_of_le_of_lt (bq_le _ _) hw)] at g2'
      exact g2'
    have hok : cu_ok C m w := by
      refine ⟨hm, ?_⟩
      apply Nat.eq_of_testBit_eq
      intro i
      have := (bq_z.mp hz) i
      rw [bq_an_tb] at this
      rw [Nat.testBit_and]
      cases a : w.testBit i <;> cases b : m.testBit i <;> rw [a, b] at this <;> first | rfl | exact absurd this (by decide)
    have hwl := cu_vlt hok
    have go : ∀ (r : Int32) (u' : SX), (∀ (f' : Nat → Nat) g', dd_ok C 63 g' → wpY_cubeDistance (fun r' => r' = r ∧ i_Rel (k + 4) u' (mk_Y (ry_D C yk yf ys yi) (ry_W vv) tt f' g' fi)) (mk_Y (ry_D C yk yf ys yi) (ry_W vv) tt f' g' fi) (nI m) (nI w)) → wpY_distance (fun r' v' => r' = r ∧ i_Rel (k + 4) u' v') (mk_Y (ry_D C yk yf ys yi) (ry_W vv) tt nv ds fi) (nI m) (nI w) := by
      intro r u' H
      refine br_f g0 (yv (br_f (by decide) (br_f g1 (br_t g2 ?_))))
      exact ym_fd (C := C) (D := ry_D C yk yf ys yi) (ww := ry_W vv) (tt := tt) (nv := nv) (ds := ds) (fi := fi) hC hD (fun f' g' hg => H f' g' hg)
    refine xm_cd (C := C) (vv := vv) (dd := dd) (sm := sm) (aa := aa) (bb := bb) (ee := ee) (oo := oo) (ll := ll) (pp := pp) (ff := ff) (hh := hh) (kk := kk) hC hok q2 (fun n a b e o f g h z l p hn hl hex hno => go _ _ (fun f' g' hg => ?_)) (fun a b e o f g h z l p hl hno => go _ _ (fun f' g' hg => ?_))
    · refine ym_cd (C := C) (D := ry_D C yk yf ys yi) (ww := ry_W vv) (tt := tt) (nv := f') (ds := g') (fi := fi) hC hD (by omega) hg (fun j hj hex' hno' => ?_) (fun hnr => ?_)
      · have ejn : j = n := by
          obtain ⟨s, s1, s2⟩ := hex
          obtain ⟨s', s1', s2'⟩ := hex'
          rcases Nat.lt_trichotomy j n with y | y | y
          · exact absurd s2' (hno j y s' s1')
          · exact y
          · exact absurd s2 (hno' n y s s1)
        subst ejn
        exact ⟨rfl, re_in (C := C) (vv := vv) (dd := dd) (sm := f) (aa := a) (bb := b) (ee := e) (oo := o) (ll := l) (pp := p) (ff := g) (hh := h) (kk := z) (yk := yk) (yf := yf) (ys := ys) (yi := yi) (tt := tt) (nv := f') (ds := g') (fi := fi) ⟨h1, h2, h3, h4, h5, h6, fun _ => ⟨q1, hl⟩, h8⟩⟩
      · obtain ⟨s, s1, s2⟩ := hex
        exact absurd s2 (hnr n s s1)
    · refine ym_cd (C := C) (D := ry_D C yk yf ys yi) (ww := ry_W vv) (tt := tt) (nv := f') (ds := g') (fi := fi) hC hD (by omega) hg (fun j hj hex' hno' => ?_) (fun hnr => ⟨rfl, ?_⟩)
      · obtain ⟨s', s1', s2'⟩ := hex'
        exact absurd s2' (hno j s' s1')
      · exact re_in (C := C) (vv := vv) (dd := dd) (sm := f) (aa := a) (bb := b) (ee := e) (oo := o) (ll := l) (pp := p) (ff := g) (hh := h) (kk := z) (yk := yk) (yf := yf) (ys := ys) (yi := yi) (tt := tt) (nv := f') (ds := g') (fi := fi) ⟨h1, h2, h3, h4, h5, h6, fun _ => ⟨q1, hl⟩, h8⟩
  · exact ym_vs (C := C) (D := ry_D C yk yf ys yi) (ww := ry_W vv) (tt := tt) (nv := nv) (ds := ds) (fi := fi) hC hD (fun s hs es => absurd es (hn s hs)) (fun _ => br_t rfl ⟨rfl, re_in hI⟩)
theorem yo_op {C : gt_C} {vv : gt_V} {s : Nat} : yo_S C (ry_W vv) s ↔ ∃ q, q < xv_cc vv + 1 ∧ op_S C vv q s := by
  constructor
  · intro ⟨hs, hn, u, hu, h⟩
    rcases h with h | ⟨hl, i, hi, hc⟩
    · exact ⟨0, by omega, hs, hn, u, hu, fun _ => h, fun j y => absurd y (by omega)⟩
    · have hi' : i < xv_cc vv := hi
      exact ⟨i + 1, by omega, hs, hn, u, hu, fun y => absurd y (by omega), fun j y => by rw [← Nat.succ.inj y]; exact ⟨hl, hc⟩⟩
  · intro ⟨q, hq, hs, hn, u, hu, h0, h1⟩
    refine ⟨hs, hn, u, hu, ?_⟩
    cases q with
    | zero => exact Or.inl (h0 rfl)
    | succ q => exact Or.inr ⟨(h1 q rfl).1, q, by show q < xv_cc vv; omega, (h1 q rfl).2⟩
theorem ct_all : ∀ n, ct_n (fun _ => true) n = n := by
  intro n
  induction n with
  | zero => rfl
  | succ n ih => show ct_n (fun _ => true) n + 1 = n + 1; rw [ih]
theorem ex_lt {vv : gt_V} {s : Nat} (hs : s < 64) (h : op_N vv s) : ex_n vv < 64 := by
  have := ct_lt (p := fun s => bo_b (¬ op_N vv s)) (q := fun _ => true) (k := s) 64 (fun _ _ _ => rfl) hs (bo_f.mpr (fun z => z h)) rfl
  rw [ct_all] at this
  exact this
theorem ex_new {vv : gt_V} {s m v : Nat} (hs : s < 64) (h : op_N vv s) (hc : cu_in m v s) : ex_n vv < ex_n (((xv_ph vv, xv_fr vv, xv_cc vv + 1, up_n (xv_cm vv) (xv_cc vv) m, up_n (xv_cv vv) (xv_cc vv) v, xv_ts vv, xv_ti vv) : gt_V)) := by
  refine ct_lt (k := s) 64 (fun t _ ht => ?_) hs (bo_f.mpr (fun z => z h)) (bo_t.mpr (fun z => ?_))
  · have ht := bo_t.mp ht
    refine bo_t.mpr (fun z => ht (fun i hi => ?_))
    have := z i (Nat.lt_succ_of_lt hi)
    change ¬ cu_in (up_n (xv_cm vv) (xv_cc vv) m i) (up_n (xv_cv vv) (xv_cc vv) v i) t at this
    rw [up_o (by omega), up_o (by omega)] at this
    exact this
  · have := z (xv_cc vv) (Nat.lt_succ_self _)
    change ¬ cu_in (up_n (xv_cm vv) (xv_cc vv) m (xv_cc vv)) (up_n (xv_cv vv) (xv_cc vv) v (xv_cc vv)) s at this
    rw [up_s, up_s] at this
    exact this hc
theorem i_vc_strengthen {k : Nat} {u : SX} {v : SY} (I : i_Rel k u v) (hk : k + 4 ≤ 2051) : wpX_strengthen (fun r u' => wpY_strengthen (fun r' v' => r' = r ∧ i_Rel (k + 4) u' v') v) u := by
  refine re_el (P := fun u v => wpX_strengthen (fun r u' => wpY_strengthen (fun r' v' => r' = r ∧ i_Rel (k + 4) u' v') v) u) ?_ I
  intro C vv dd sm aa bb ee oo ll pp ff hh kk yk yf ys yi tt nv ds fi hI
  obtain ⟨h1, h2, h3, h4, h5, h6, h7, h8⟩ := hI
  have hI : rl_I C vv dd ll yk yf ys yi tt := ⟨h1, h2, h3, h4, h5, h6, h7, h8⟩
  have hC := h1
  have hb := cr_b hC
  have p64 := cr_p64 hC
  have hD := h2
  refine br_c (fun g0 => ?_) (fun g0 => br_f g0 ⟨rfl, re_in hI⟩)
  have hp : xv_ph vv = 2 := (nI_eq (b := 2) (by omega) (by omega)).mp g0
  obtain ⟨q1, q2⟩ := h7 (by omega)
  have hcc := h4.1
  have hcv : ∀ i, i < xv_cc vv → xv_cv vv i < 64 := fun i hi => by have := cu_vlt (h4.2 i hi); omega
  have pp2 := Nat.two_pow_pos (xc_nl C)
  have go : ∀ (post : Int32 → SY → Prop), (∃ q, wY_strengthen_29 post (nI (2 ^ xc_nl C)) (nI (2 ^ xc_ni C)) q (-1) (nI 0) (nI (yc_ci (ry_D C yk yf ys yi))) (nI (yc_cl (ry_D C yk yf ys yi))) (nI (yc_cg (ry_D C yk yf ys yi))) (nI (yc_N (ry_D C yk yf ys yi))) (nI (yc_ni (ry_D C yk yf ys yi))) (nI (yc_nl (ry_D C yk yf ys yi))) (nI (yc_ng (ry_D C yk yf ys yi))) (nI (yv_fr (ry_W vv))) (nI (yv_cc (ry_W vv))) (nI (yv_ph (ry_W vv))) (fun zi => nI (yc_kind (ry_D C yk yf ys yi) zi)) (fun zi => nI (yc_fst (ry_D C yk yf ys yi) zi)) (fun zi => nI (yc_snd (ry_D C yk yf ys yi) zi)) (fun zi => nI (nv zi)) (fun zi => nI (yc_ini (ry_D C yk yf ys yi) zi)) (fun zi => nI (yc_root (ry_D C yk yf ys yi) zi)) (fun zi => nI (yv_cm (ry_W vv) zi)) (fun zi => nI (yv_cv (ry_W vv) zi)) (fun zi => nI (yt_ts tt zi)) (fun zi => nI (yt_ti tt zi)) ds fi) → wpY_strengthen post (mk_Y (ry_D C yk yf ys yi) (ry_W vv) tt nv ds fi) := by
    intro post H
    exact br_t g0 (nm_r (e' := nI (2 ^ xc_nl C)) (bq_pow (by show xc_nl C < 31; omega)) (nm_r (e' := nI (2 ^ xc_ni C)) (bq_pow (by show xc_ni C < 31; omega)) H))
  refine xm_lo (C := C) (vv := vv) (dd := dd) (sm := sm) (aa := aa) (bb := bb) (ee := ee) (oo := oo) (ll := ll) (pp := pp) (ff := ff) (hh := hh) (kk := kk) hC h4 (fun x a b e o hx => ?_)
  rcases hx with ⟨rfl, hnone⟩ | ⟨s, rfl, hs, ⟨q, hq, hop⟩, hmin⟩
  · refine br_t (by decide) (go _ ?_)
    refine ⟨2 ^ xc_nl C + 1, ym_st29 (C := C) (D := ry_D C yk yf ys yi) (ww := ry_W vv) (tt := tt) (fi := fi) hC hD hcc hcv (fun f g s hy _ _ => ?_) (fun f hno => ⟨rfl, ?_⟩) (2 ^ xc_nl C + 1) 0 (-1) nv (Nat.lt_succ_self _) (Nat.zero_le _) (Or.inl ⟨rfl, fun s hs => absurd hs (by omega)⟩)⟩
    · obtain ⟨q, hq, hop⟩ := yo_op.mp hy
      exact absurd hop (hnone q hq s)
    · exact re_in (C := C) (vv := ((4, xv_fr vv, xv_cc vv, xv_cm vv, xv_cv vv, xv_ts vv, xv_ti vv) : gt_V)) (dd := dd) (sm := sm) (aa := a) (bb := b) (ee := e) (oo := o) (ll := ll) (pp := pp) (ff := ff) (hh := hh) (kk := kk) (yk := yk) (yf := yf) (ys := ys) (yi := yi) (tt := tt) (nv := f) (ds := ds) (fi := fi) ⟨h1, h2, ⟨by show 4 ≤ 4; omega, h3.2⟩, h4, h5, fun z => absurd z (by show ¬ (4 : Nat) = 0; omega), fun _ => ⟨q1, q2⟩, fun z => absurd z (by show ¬ (4 : Nat) = 3; omega)⟩
  · have hexl := ex_lt (vv := vv) (s := s) (by omega) hop.2.1
    have hc64 : xv_cc vv < 64 := by omega
    have hm : cu_ok C (2 ^ xc_nl C - 1) s := by
      refine ⟨by omega, ?_⟩
      rw [Nat.and_two_pow_sub_one_eq_mod, Nat.mod_eq_of_lt hs]
    have hsw := sw_ok hm (xc_nl C)
    have hsin : cu_in (sw_f C (2 ^ xc_nl C - 1) s (xc_nl C)).1 (sw_f C (2 ^ xc_nl C - 1) s (xc_nl C)).2 s := cv_in hm.2 hsw.2 hm.2
    have hnew := ex_new (s := s) (m := (sw_f C (2 ^ xc_nl C - 1) s (xc_nl C)).1) (v := (sw_f C (2 ^ xc_nl C - 1) s (xc_nl C)).2) (by omega) hop.2.1 hsin
    refine br_f (nI_pos (by omega)) (br_t (nI_lt (b := 64) hc64 (by omega)) ?_)
    refine xm_last (C := C) (vv := vv) (dd := dd) (sm := sm) (aa := a) (bb := b) (ee := e) (oo := o) (ll := ll) (pp := pp) (ff := ff) (hh := hh) (kk := kk) hC ?_
    refine ⟨xc_nl C + 1, xm_st48 (m := 2 ^ xc_nl C - 1) (v := s) hC hm hc64 (fun a1 b1 e1 o1 f1 g1 h1' z1 l1 p1 hl1 => ?_) (xc_nl C + 1) 0 a b e o sm ff hh kk ll pp (by omega) (by omega) q2⟩
    refine go _ ?_
    refine ⟨2 ^ xc_nl C + 1, ym_st29 (C := C) (D := ry_D C yk yf ys yi) (ww := ry_W vv) (tt := tt) (fi := fi) hC hD hcc hcv (fun f g s' hy hle hg => ?_) (fun f hno => absurd (yo_op.mpr ⟨q, hq, hop⟩) (hno s)) (2 ^ xc_nl C + 1) 0 (-1) nv (Nat.lt_succ_self _) (Nat.zero_le _) (Or.inl ⟨rfl, fun s hs => absurd hs (by omega)⟩)⟩
    have es : s' = s := by
      obtain ⟨q', hq', hop'⟩ := yo_op.mp hy
      have i1 := hmin q' hq' s' hop'
      rcases Nat.lt_or_ge s s' with y | y
      · exact absurd (yo_op.mpr ⟨q, hq, hop⟩) (hle s y)
      · omega
    subst es
    refine ⟨xc_nl C + 1, ym_st144 (C := C) (D := ry_D C yk yf ys yi) (ww := ry_W vv) (tt := tt) (nv := f) (ds := g) (fi := fi) (m := 2 ^ xc_nl C - 1) (v := s') hC hD hm hc64 hg ⟨?_, ?_⟩ (xc_nl C + 1) 0 (by omega) (by omega)⟩
    · rw [hp]; rfl
    · refine re_in (C := C) (vv := ((xv_ph vv, xv_fr vv, xv_cc vv + 1, up_n (xv_cm vv) (xv_cc vv) (sw_f C (2 ^ xc_nl C - 1) s' (xc_nl C)).1, up_n (xv_cv vv) (xv_cc vv) (sw_f C (2 ^ xc_nl C - 1) s' (xc_nl C)).2, xv_ts vv, xv_ti vv) : gt_V)) (dd := dd) (sm := f1) (aa := a1) (bb := b1) (ee := e1) (oo := o1) (ll := l1) (pp := p1) (ff := g1) (hh := h1') (kk := z1) (yk := yk) (yf := yf) (ys := ys) (yi := yi) (tt := tt) (nv := f) (ds := g) (fi := fi) ⟨h1, h2, h3, ⟨by show xv_cc vv + 1 ≤ 64; omega, fun i hi => ?_⟩, by show xv_cc vv + 1 ≤ ex_n _; omega, fun z => absurd z (by show ¬ xv_ph vv = 0; omega), fun _ => ⟨q1, hl1⟩, fun z => absurd z (by show ¬ xv_ph vv = 3; omega)⟩
      have hi' : i < xv_cc vv + 1 := hi
      show cu_ok C (up_n (xv_cm vv) (xv_cc vv) (sw_f C (2 ^ xc_nl C - 1) s' (xc_nl C)).1 i) (up_n (xv_cv vv) (xv_cc vv) (sw_f C (2 ^ xc_nl C - 1) s' (xc_nl C)).2 i)
      by_cases ei : i = xv_cc vv
      · subst ei; rw [up_s, up_s]; exact hsw.1
      · rw [up_o ei, up_o ei]; exact h4.2 i (by omega)
end
