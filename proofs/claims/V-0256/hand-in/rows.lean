section
/-! pure rows to paste: stores, nI and lN arithmetic, masks, shifts, narrowing, branches by naturals (pk_le, pk_lt, pk_eq), loops (lp1 .. lp16: the measure of the state; rp1 ..: recursion), negatives. Take what you need -/
theorem pk_us {f : Nat → Int32} {k : Nat} {x : Int32} : upd f k x k = x := if_pos rfl
theorem pk_un {f : Nat → Int32} {k j : Nat} {x : Int32} (h : j ≠ k) : upd f k x j = f j := if_neg h
theorem pk_uLs {f : Nat → Int64} {k : Nat} {x : Int64} : vp_updL f k x k = x := if_pos rfl
theorem pk_uLn {f : Nat → Int64} {k j : Nat} {x : Int64} (h : j ≠ k) : vp_updL f k x j = f j := if_neg h
theorem pk_sub {a b : Nat} (h : b ≤ a) : nI a - nI b = nI (a - b) := by
  obtain ⟨c, rfl⟩ : ∃ c, a = c + b := ⟨a - b, by omega⟩
  rw [← nI_add, Int32.add_sub_cancel, Nat.add_sub_cancel]
theorem pk_m1 (n : Nat) : nI (n + 1) + (-1) = nI n := by
  rw [← nI_1, Int32.add_assoc, show (1 : Int32) + (-1) = 0 from rfl, Int32.add_zero]
theorem pk_mul (a b : Nat) : nI a * nI b = nI (a * b) := (Int32.ofNat_mul a b).symm
theorem pk_div {a d : Nat} (ha : a < 2 ^ 31) (h0 : 0 < d) (hd : d < 2 ^ 31) : nI a / nI d = nI (a / d) := by
  apply Int32.toInt_inj.mp
  rw [lg_idiv_nonneg (by rw [nI_toInt ha]; omega) (by rw [nI_toInt hd]; omega), nI_toInt ha, nI_toInt hd, nI_toInt (Nat.lt_of_le_of_lt (Nat.div_le_self a d) ha)]
  first | rfl | exact (Int.natCast_ediv _ _).symm
theorem pk_rem {a d : Nat} (ha : a < 2 ^ 31) (h0 : 0 < d) (hd : d < 2 ^ 31) : nI a - nI a / nI d * nI d = nI (a % d) := by
  rw [pk_div ha h0 hd, pk_mul, pk_sub (Nat.div_mul_le_self a d)]
  exact congrArg nI (by have := Nat.div_add_mod' a d; omega)
theorem pk_sub_toInt {a b : Nat} (ha : a < 2 ^ 30) (hb : b < 2 ^ 30) : (nI a - nI b).toInt = (a : Int) - b := by
  rw [Int32.toInt_sub, nI_toInt (by omega), nI_toInt (by omega)]
  exact Int.bmod_eq_of_le (by omega) (by omega)
theorem pk_sneg {a b : Nat} (hb : b < 2 ^ 30) (h : a < b) : nI a - nI b < 0 := by
  rw [Int32.lt_iff_toInt_lt, pk_sub_toInt (by omega) hb, show (0 : Int32).toInt = 0 from by decide]
  omega
theorem pk_ix (x : Int32) {n : Nat} (hn : n < 2 ^ 31) : x < 0 ∨ nI n ≤ x ∨ ∃ j : Nat, j < n ∧ x = nI j := by
  by_cases h : x < 0
  · exact Or.inl h
  · obtain ⟨j, hj, rfl⟩ := nI_of h
    by_cases h2 : j < n
    · exact Or.inr (Or.inr ⟨j, h2, rfl⟩)
    · exact Or.inr (Or.inl (nI_le (by omega) hj))
theorem pk_le {x y : Int32} {A B : Prop} (a b : Nat) (f : a ≤ b → A) (g : b < a → B) (hx : x = nI a := by rfl) (hy : y = nI b := by rfl) (ha : a < 2 ^ 31 := by omega) (hb : b < 2 ^ 31 := by omega) : (x ≤ y → A) ∧ (¬ x ≤ y → B) := by
  subst hx hy
  rw [nI_leI ha hb]
  exact ⟨f, fun z => g (by omega)⟩
theorem pk_lt {x y : Int32} {A B : Prop} (a b : Nat) (f : a < b → A) (g : b ≤ a → B) (hx : x = nI a := by rfl) (hy : y = nI b := by rfl) (ha : a < 2 ^ 31 := by omega) (hb : b < 2 ^ 31 := by omega) : (x < y → A) ∧ (¬ x < y → B) := by
  subst hx hy
  rw [nI_ltI ha hb]
  exact ⟨f, fun z => g (by omega)⟩
theorem pk_eq {x y : Int32} {A B : Prop} (a b : Nat) (f : a = b → A) (g : a ≠ b → B) (hx : x = nI a := by rfl) (hy : y = nI b := by rfl) (ha : a < 2 ^ 31 := by omega) (hb : b < 2 ^ 31 := by omega) : (x = y → A) ∧ (¬ x = y → B) := by
  subst hx hy
  rw [nI_eq ha hb]
  exact ⟨f, g⟩
theorem pk_in {x : Int32} (n N : Nat) (h : n < N) (hx : x = nI n := by rfl) (hN : N < 2 ^ 31 := by omega) : vp_in x N := by
  subst hx
  exact vp_in_nI h hN
theorem pk_cl {x : Int32} (n : Nat) (hx : x = nI n := by rfl) (h : n < 2 ^ 31 := by omega) : x.toNatClampNeg = n := by
  subst hx
  exact nI_clamp h
theorem pk_tn {n : Nat} (h : n < 2 ^ 32) : (nI n).toBitVec.toNat = n := Nat.mod_eq_of_lt h
theorem pk_and (x : Int32) {m : Int32} (k : Nat) (hm : m.toBitVec.toNat = 2 ^ k - 1) : x &&& m = nI (x.toBitVec.toNat % 2 ^ k) := by
  apply Int32.toBitVec_inj.mp
  apply BitVec.eq_of_toNat_eq
  rw [Int32.toBitVec_and, BitVec.toNat_and, hm, Nat.and_two_pow_sub_one_eq_mod]
  show _ = (BitVec.ofNat 32 _).toNat
  rw [BitVec.toNat_ofNat]
  exact (Nat.mod_eq_of_lt (Nat.lt_of_le_of_lt (Nat.mod_le _ _) x.toBitVec.isLt)).symm
theorem pk_andN {n : Nat} (h : n < 2 ^ 32) {m : Int32} (k : Nat) (hm : m.toBitVec.toNat = 2 ^ k - 1) : nI n &&& m = nI (n % 2 ^ k) := by
  rw [pk_and _ k hm, pk_tn h]
theorem pk_andE (x : Int32) {m : Int32} (k : Nat) (hm : m.toBitVec.toNat = 2 ^ k - 1) : ∃ j : Nat, j < 2 ^ k ∧ x &&& m = nI j := ⟨_, Nat.mod_lt _ (Nat.two_pow_pos k), pk_and x k hm⟩
theorem pk_andIn (x : Int32) {m : Int32} (k : Nat) (hm : m.toBitVec.toNat = 2 ^ k - 1) (hk : k ≤ 30) : vp_in (x &&& m) (2 ^ k) := by
  obtain ⟨j, hj, e⟩ := pk_andE x k hm
  rw [e]
  exact vp_in_nI hj (Nat.lt_of_le_of_lt (Nat.pow_le_pow_right (by decide) hk) (by decide))
theorem pk_shl (a s : Int32) (k : Nat) (hs : (s.toBitVec.smod 32).toNat = k) : (a <<< s).toBitVec.toNat = a.toBitVec.toNat * 2 ^ k % 2 ^ 32 := by
  show (a.toBitVec <<< (s.toBitVec.smod 32).toNat).toNat = _
  rw [hs, BitVec.toNat_shiftLeft, Nat.shiftLeft_eq]
theorem pk_shlN {n : Nat} (s : Int32) (k : Nat) (hs : (s.toBitVec.smod 32).toNat = k) (h : n * 2 ^ k < 2 ^ 32) : nI n <<< s = nI (n * 2 ^ k) := by
  apply Int32.toBitVec_inj.mp
  apply BitVec.eq_of_toNat_eq
  have hn : n < 2 ^ 32 := Nat.lt_of_le_of_lt (Nat.le_mul_of_pos_right n (Nat.two_pow_pos k)) h
  rw [pk_shl _ _ k hs, pk_tn hn, pk_tn h, Nat.mod_eq_of_lt h]
theorem pk_shr (a s : Int32) (k : Nat) (hs : (s.toBitVec.smod 32).toNat = k) : (a >>> s).toInt = a.toInt >>> k := by
  show (a.toBitVec.sshiftRight (s.toBitVec.smod 32).toNat).toInt = _
  rw [hs, BitVec.toInt_sshiftRight]
  rfl
theorem pk_shrN {n : Nat} (h : n < 2 ^ 31) (s : Int32) (k : Nat) (hs : (s.toBitVec.smod 32).toNat = k) : nI n >>> s = nI (n / 2 ^ k) := by
  apply Int32.toInt_inj.mp
  have h2 : n / 2 ^ k ≤ n := Nat.div_le_self _ _
  rw [pk_shr _ _ k hs, nI_toInt h, nI_toInt (by omega), Int.shiftRight_eq_div_pow]
  rfl
theorem pk_ushr (x s : Int32) (k : Nat) (hs : ((s.toUInt32 &&& Int32.toUInt32 31).toBitVec % 32).toNat = k) : (x.toUInt32 >>> (s.toUInt32 &&& Int32.toUInt32 31)).toInt32.toBitVec.toNat = x.toBitVec.toNat / 2 ^ k := by
  have e : (x.toUInt32 >>> (s.toUInt32 &&& Int32.toUInt32 31)).toInt32.toBitVec = x.toBitVec >>> k := by
    rw [← hs]
    exact UInt32.toBitVec_shiftRight _ _
  rw [e, BitVec.toNat_ushiftRight, Nat.shiftRight_eq_div_pow]
theorem pk_ushrN {n : Nat} (hn : n < 2 ^ 32) (s : Int32) (k : Nat) (hs : ((s.toUInt32 &&& Int32.toUInt32 31).toBitVec % 32).toNat = k) : ((nI n).toUInt32 >>> (s.toUInt32 &&& Int32.toUInt32 31)).toInt32 = nI (n / 2 ^ k) := by
  apply Int32.toBitVec_inj.mp
  apply BitVec.eq_of_toNat_eq
  rw [pk_ushr _ s k hs, pk_tn hn, pk_tn (Nat.lt_of_le_of_lt (Nat.div_le_self _ _) hn)]
theorem pk_nb (z : Int32) : narrow .byte (.int z.toInt8.toInt32) = .int z.toInt8.toInt32 := congrArg Value.int (by simp)
theorem pk_ns (z : Int32) : narrow .short (.int z.toInt16.toInt32) = .int z.toInt16.toInt32 := congrArg Value.int (by simp)
theorem pk_fb (r : Int32) : fits .byte (.int r.toInt8.toInt32) = true := by
  have ⟨a, b⟩ := lg_i2b_range r
  have h1 : (-128 : Int32).toInt = -128 := by decide
  have h2 : (127 : Int32).toInt = 127 := by decide
  simp only [fits, Bool.and_eq_true, decide_eq_true_eq, Int32.le_iff_toInt_le, h1, h2]
  omega
theorem pk_fs (r : Int32) : fits .short (.int r.toInt16.toInt32) = true := by
  have ⟨a, b⟩ := lg_i2s_range r
  have h1 : (-32768 : Int32).toInt = -32768 := by decide
  have h2 : (32767 : Int32).toInt = 32767 := by decide
  simp only [fits, Bool.and_eq_true, decide_eq_true_eq, Int32.le_iff_toInt_le, h1, h2]
  omega
theorem pk_charN {q : Nat} (hq : q < 65536) : narrow .char (.int (nI q)) = .int (nI q) ∧ fits .char (.int (nI q)) = true := by
  constructor
  · have e : (nI q).toUInt32.toUInt16.toUInt32.toInt32 = nI q := by
      apply Int32.toBitVec_inj.mp
      apply BitVec.eq_of_toNat_eq
      show (nI q).toUInt32.toUInt16.toUInt32.toNat = q % 2 ^ 32
      rw [UInt16.toNat_toUInt32, UInt32.toNat_toUInt16, show (nI q).toUInt32.toNat = q % 2 ^ 32 from rfl]
      omega
    exact congrArg Value.int e
  · have a : (0 : Int32) ≤ nI q := nI_pos' (by omega)
    have b : nI q ≤ 65535 := nI_le (b := 65535) (by omega) (by decide)
    show (decide ((0 : Int32) ≤ nI q) && decide (nI q ≤ 65535)) = true
    rw [decide_eq_true a, decide_eq_true b]
    rfl
theorem pk_char (x : Int32) : (x.toUInt32 % 65536).toInt32 = nI (x.toBitVec.toNat % 65536) := by
  apply Int32.toBitVec_inj.mp
  apply BitVec.eq_of_toNat_eq
  rw [pk_tn (by omega)]
  show (x.toUInt32 % 65536).toNat = _
  rw [UInt32.toNat_mod]
  rfl
theorem pk_nc (x : Int32) : narrow .char (.int (x.toUInt32 % 65536).toInt32) = .int (x.toUInt32 % 65536).toInt32 := by
  rw [pk_char]
  exact (pk_charN (Nat.mod_lt _ (by decide))).1
theorem pk_fc (x : Int32) : fits .char (.int (x.toUInt32 % 65536).toInt32) = true := by
  rw [pk_char]
  exact (pk_charN (Nat.mod_lt _ (by decide))).2
theorem pk_vb (z : Int32) : vp_nar .byte z.toInt8.toInt32 = z.toInt8.toInt32 := by rw [vp_nar_byte]; simp
theorem pk_vs (z : Int32) : vp_nar .short z.toInt16.toInt32 = z.toInt16.toInt32 := by rw [vp_nar_short]; simp
theorem pk_vc (z : Int32) : vp_nar .char (z.toUInt32 % 65536).toInt32 = (z.toUInt32 % 65536).toInt32 := Value.int.inj (pk_nc z)
theorem pk_lT {n : Nat} (h : n < 2 ^ 63) : (lN n).toInt = (n : Int) := lg_ofNat_toInt h
theorem pk_lLT {a b : Nat} (ha : a < 2 ^ 63) (hb : b < 2 ^ 63) : lN a < lN b ↔ a < b := by
  rw [Int64.lt_iff_toInt_lt, pk_lT ha, pk_lT hb]; omega
theorem pk_lLE {a b : Nat} (ha : a < 2 ^ 63) (hb : b < 2 ^ 63) : lN a ≤ lN b ↔ a ≤ b := by
  rw [Int64.le_iff_toInt_le, pk_lT ha, pk_lT hb]; omega
theorem pk_lEQ {a b : Nat} (ha : a < 2 ^ 63) (hb : b < 2 ^ 63) : lN a = lN b ↔ a = b := by
  rw [← Int64.toInt_inj, pk_lT ha, pk_lT hb]; omega
theorem pk_lOf {x : Int64} (h : ¬ x < 0) : ∃ k : Nat, k < 2 ^ 63 ∧ x = lN k := by
  rw [Int64.lt_iff_toInt_lt] at h
  have h0 : (0 : Int64).toInt = 0 := by decide
  have hx := Int64.toInt_lt x
  refine ⟨x.toInt.toNat, by omega, Int64.toInt_inj.mp ?_⟩
  rw [pk_lT (by omega)]
  omega
theorem pk_lDiv {a b : Nat} (ha : a < 2 ^ 63) (h0 : 0 < b) (hb : b < 2 ^ 63) : lN a / lN b = lN (a / b) := by
  apply Int64.toInt_inj.mp
  rw [lg_ldiv_nonneg (by rw [pk_lT ha]; omega) (by rw [pk_lT hb]; omega), pk_lT ha, pk_lT hb, pk_lT (Nat.lt_of_le_of_lt (Nat.div_le_self a b) ha)]
  rfl
theorem pk_lRem {a b : Nat} (ha : a < 2 ^ 63) (h0 : 0 < b) (hb : b < 2 ^ 63) : lN a - lN a / lN b * lN b = lN (a % b) := by
  rw [pk_lDiv ha h0 hb, lN_mul, lN_sub (Nat.div_mul_le_self a b)]
  exact congrArg lN (by have := Nat.div_add_mod' a b; omega)
theorem pk_loop {σ : Type} (W : Nat → Nat → σ → Prop) (I : Nat → σ → Prop) (e i0 : Nat) (s : σ) (hi : i0 ≤ e) (h0 : I i0 s) (hx : ∀ n s, I e s → W (n + 1) e s)
    (hs : ∀ n i s, i < e → I i s → (∀ s', I (i + 1) s' → W n (i + 1) s') → W (n + 1) i s) : ∃ n, W n i0 s :=
  ⟨e + 1, loop_i W I e hx hs (e + 1) i0 s hi (by omega) h0⟩
theorem pk_loopD {σ : Type} (W : Nat → Nat → σ → Prop) (I : Nat → σ → Prop) (hx : ∀ n s, I 0 s → W (n + 1) 0 s)
    (hs : ∀ n i s, I (i + 1) s → (∀ s', I i s' → W n i s') → W (n + 1) (i + 1) s) : ∀ (e : Nat) (s : σ), I e s → W (e + 1) e s := by
  intro e
  induction e with
  | zero => exact fun s h => hx 0 s h
  | succ e ih => exact fun s h => hs (e + 1) e s h (fun s' h' => ih s' h')
theorem lp1 {A1 : Type} (W : Nat → A1 → Prop) (I : A1 → Prop) (μ : A1 → Nat) (hs : ∀ (n : Nat) (a1 : A1), I a1 → (∀ (b1 : A1), I b1 → μ b1 < μ a1 → W n b1) → W (n + 1) a1) (a1 : A1) (h : I a1) : ∃ n, W n a1 :=
  loop_m (σ := A1) (fun n s => W n s) (fun s => I s) (fun s => μ s) (fun n s hI hk => hs n s hI (fun b1 h9 hm => hk b1 h9 hm)) a1 h
theorem lp2 {A1 A2 : Type} (W : Nat → A1 → A2 → Prop) (I : A1 → A2 → Prop) (μ : A1 → A2 → Nat) (hs : ∀ (n : Nat) (a1 : A1) (a2 : A2), I a1 a2 → (∀ (b1 : A1) (b2 : A2), I b1 b2 → μ b1 b2 < μ a1 a2 → W n b1 b2) → W (n + 1) a1 a2) (a1 : A1) (a2 : A2) (h : I a1 a2) : ∃ n, W n a1 a2 :=
  loop_m (σ := A1 × A2) (fun n s => W n s.1 s.2) (fun s => I s.1 s.2) (fun s => μ s.1 s.2) (fun n s hI hk => hs n s.1 s.2 hI (fun b1 b2 h9 hm => hk (b1, b2) h9 hm)) (a1, a2) h
theorem lp3 {A1 A2 A3 : Type} (W : Nat → A1 → A2 → A3 → Prop) (I : A1 → A2 → A3 → Prop) (μ : A1 → A2 → A3 → Nat) (hs : ∀ (n : Nat) (a1 : A1) (a2 : A2) (a3 : A3), I a1 a2 a3 → (∀ (b1 : A1) (b2 : A2) (b3 : A3), I b1 b2 b3 → μ b1 b2 b3 < μ a1 a2 a3 → W n b1 b2 b3) → W (n + 1) a1 a2 a3) (a1 : A1) (a2 : A2) (a3 : A3) (h : I a1 a2 a3) : ∃ n, W n a1 a2 a3 :=
  loop_m (σ := A1 × A2 × A3) (fun n s => W n s.1 s.2.1 s.2.2) (fun s => I s.1 s.2.1 s.2.2) (fun s => μ s.1 s.2.1 s.2.2) (fun n s hI hk => hs n s.1 s.2.1 s.2.2 hI (fun b1 b2 b3 h9 hm => hk (b1, b2, b3) h9 hm)) (a1, a2, a3) h
theorem lp4 {A1 A2 A3 A4 : Type} (W : Nat → A1 → A2 → A3 → A4 → Prop) (I : A1 → A2 → A3 → A4 → Prop) (μ : A1 → A2 → A3 → A4 → Nat) (hs : ∀ (n : Nat) (a1 : A1) (a2 : A2) (a3 : A3) (a4 : A4), I a1 a2 a3 a4 → (∀ (b1 : A1) (b2 : A2) (b3 : A3) (b4 : A4), I b1 b2 b3 b4 → μ b1 b2 b3 b4 < μ a1 a2 a3 a4 → W n b1 b2 b3 b4) → W (n + 1) a1 a2 a3 a4) (a1 : A1) (a2 : A2) (a3 : A3) (a4 : A4) (h : I a1 a2 a3 a4) : ∃ n, W n a1 a2 a3 a4 :=
  loop_m (σ := A1 × A2 × A3 × A4) (fun n s => W n s.1 s.2.1 s.2.2.1 s.2.2.2) (fun s => I s.1 s.2.1 s.2.2.1 s.2.2.2) (fun s => μ s.1 s.2.1 s.2.2.1 s.2.2.2) (fun n s hI hk => hs n s.1 s.2.1 s.2.2.1 s.2.2.2 hI (fun b1 b2 b3 b4 h9 hm => hk (b1, b2, b3, b4) h9 hm)) (a1, a2, a3, a4) h
theorem lp5 {A1 A2 A3 A4 A5 : Type} (W : Nat → A1 → A2 → A3 → A4 → A5 → Prop) (I : A1 → A2 → A3 → A4 → A5 → Prop) (μ : A1 → A2 → A3 → A4 → A5 → Nat) (hs : ∀ (n : Nat) (a1 : A1) (a2 : A2) (a3 : A3) (a4 : A4) (a5 : A5), I a1 a2 a3 a4 a5 → (∀ (b1 : A1) (b2 : A2) (b3 : A3) (b4 : A4) (b5 : A5), I b1 b2 b3 b4 b5 → μ b1 b2 b3 b4 b5 < μ a1 a2 a3 a4 a5 → W n b1 b2 b3 b4 b5) → W (n + 1) a1 a2 a3 a4 a5) (a1 : A1) (a2 : A2) (a3 : A3) (a4 : A4) (a5 : A5) (h : I a1 a2 a3 a4 a5) : ∃ n, W n a1 a2 a3 a4 a5 :=
  loop_m (σ := A1 × A2 × A3 × A4 × A5) (fun n s => W n s.1 s.2.1 s.2.2.1 s.2.2.2.1 s.2.2.2.2) (fun s => I s.1 s.2.1 s.2.2.1 s.2.2.2.1 s.2.2.2.2) (fun s => μ s.1 s.2.1 s.2.2.1 s.2.2.2.1 s.2.2.2.2) (fun n s hI hk => hs n s.1 s.2.1 s.2.2.1 s.2.2.2.1 s.2.2.2.2 hI (fun b1 b2 b3 b4 b5 h9 hm => hk (b1, b2, b3, b4, b5) h9 hm)) (a1, a2, a3, a4, a5) h
theorem lp6 {A1 A2 A3 A4 A5 A6 : Type} (W : Nat → A1 → A2 → A3 → A4 → A5 → A6 → Prop) (I : A1 → A2 → A3 → A4 → A5 → A6 → Prop) (μ : A1 → A2 → A3 → A4 → A5 → A6 → Nat) (hs : ∀ (n : Nat) (a1 : A1) (a2 : A2) (a3 : A3) (a4 : A4) (a5 : A5) (a6 : A6), I a1 a2 a3 a4 a5 a6 → (∀ (b1 : A1) (b2 : A2) (b3 : A3) (b4 : A4) (b5 : A5) (b6 : A6), I b1 b2 b3 b4 b5 b6 → μ b1 b2 b3 b4 b5 b6 < μ a1 a2 a3 a4 a5 a6 → W n b1 b2 b3 b4 b5 b6) → W (n + 1) a1 a2 a3 a4 a5 a6) (a1 : A1) (a2 : A2) (a3 : A3) (a4 : A4) (a5 : A5) (a6 : A6) (h : I a1 a2 a3 a4 a5 a6) : ∃ n, W n a1 a2 a3 a4 a5 a6 :=
  loop_m (σ := A1 × A2 × A3 × A4 × A5 × A6) (fun n s => W n s.1 s.2.1 s.2.2.1 s.2.2.2.1 s.2.2.2.2.1 s.2.2.2.2.2) (fun s => I s.1 s.2.1 s.2.2.1 s.2.2.2.1 s.2.2.2.2.1 s.2.2.2.2.2) (fun s => μ s.1 s.2.1 s.2.2.1 s.2.2.2.1 s.2.2.2.2.1 s.2.2.2.2.2) (fun n s hI hk => hs n s.1 s.2.1 s.2.2.1 s.2.2.2.1 s.2.2.2.2.1 s.2.2.2.2.2 hI (fun b1 b2 b3 b4 b5 b6 h9 hm => hk (b1, b2, b3, b4, b5, b6) h9 hm)) (a1, a2, a3, a4, a5, a6) h
theorem lp7 {A1 A2 A3 A4 A5 A6 A7 : Type} (W : Nat → A1 → A2 → A3 → A4 → A5 → A6 → A7 → Prop) (I : A1 → A2 → A3 → A4 → A5 → A6 → A7 → Prop) (μ : A1 → A2 → A3 → A4 → A5 → A6 → A7 → Nat) (hs : ∀ (n : Nat) (a1 : A1) (a2 : A2) (a3 : A3) (a4 : A4) (a5 : A5) (a6 : A6) (a7 : A7), I a1 a2 a3 a4 a5 a6 a7 → (∀ (b1 : A1) (b2 : A2) (b3 : A3) (b4 : A4) (b5 : A5) (b6 : A6) (b7 : A7), I b1 b2 b3 b4 b5 b6 b7 → μ b1 b2 b3 b4 b5 b6 b7 < μ a1 a2 a3 a4 a5 a6 a7 → W n b1 b2 b3 b4 b5 b6 b7) → W (n + 1) a1 a2 a3 a4 a5 a6 a7) (a1 : A1) (a2 : A2) (a3 : A3) (a4 : A4) (a5 : A5) (a6 : A6) (a7 : A7) (h : I a1 a2 a3 a4 a5 a6 a7) : ∃ n, W n a1 a2 a3 a4 a5 a6 a7 :=
  loop_m (σ := A1 × A2 × A3 × A4 × A5 × A6 × A7) (fun n s => W n s.1 s.2.1 s.2.2.1 s.2.2.2.1 s.2.2.2.2.1 s.2.2.2.2.2.1 s.2.2.2.2.2.2) (fun s => I s.1 s.2.1 s.2.2.1 s.2.2.2.1 s.2.2.2.2.1 s.2.2.2.2.2.1 s.2.2.2.2.2.2) (fun s => μ s.1 s.2.1 s.2.2.1 s.2.2.2.1 s.2.2.2.2.1 s.2.2.2.2.2.1 s.2.2.2.2.2.2) (fun n s hI hk => hs n s.1 s.2.1 s.2.2.1 s.2.2.2.1 s.2.2.2.2.1 s.2.2.2.2.2.1 s.2.2.2.2.2.2 hI (fun b1 b2 b3 b4 b5 b6 b7 h9 hm => hk (b1, b2, b3, b4, b5, b6, b7) h9 hm)) (a1, a2, a3, a4, a5, a6, a7) h
theorem lp8 {A1 A2 A3 A4 A5 A6 A7 A8 : Type} (W : Nat → A1 → A2 → A3 → A4 → A5 → A6 → A7 → A8 → Prop) (I : A1 → A2 → A3 → A4 → A5 → A6 → A7 → A8 → Prop) (μ : A1 → A2 → A3 → A4 → A5 → A6 → A7 → A8 → Nat) (hs : ∀ (n : Nat) (a1 : A1) (a2 : A2) (a3 : A3) (a4 : A4) (a5 : A5) (a6 : A6) (a7 : A7) (a8 : A8), I a1 a2 a3 a4 a5 a6 a7 a8 → (∀ (b1 : A1) (b2 : A2) (b3 : A3) (b4 : A4) (b5 : A5) (b6 : A6) (b7 : A7) (b8 : A8), I b1 b2 b3 b4 b5 b6 b7 b8 → μ b1 b2 b3 b4 b5 b6 b7 b8 < μ a1 a2 a3 a4 a5 a6 a7 a8 → W n b1 b2 b3 b4 b5 b6 b7 b8) → W (n + 1) a1 a2 a3 a4 a5 a6 a7 a8) (a1 : A1) (a2 : A2) (a3 : A3) (a4 : A4) (a5 : A5) (a6 : A6) (a7 : A7) (a8 : A8) (h : I a1 a2 a3 a4 a5 a6 a7 a8) : ∃ n, W n a1 a2 a3 a4 a5 a6 a7 a8 :=
  loop_m (σ := A1 × A2 × A3 × A4 × A5 × A6 × A7 × A8) (fun n s => W n s.1 s.2.1 s.2.2.1 s.2.2.2.1 s.2.2.2.2.1 s.2.2.2.2.2.1 s.2.2.2.2.2.2.1 s.2.2.2.2.2.2.2) (fun s => I s.1 s.2.1 s.2.2.1 s.2.2.2.1 s.2.2.2.2.1 s.2.2.2.2.2.1 s.2.2.2.2.2.2.1 s.2.2.2.2.2.2.2) (fun s => μ s.1 s.2.1 s.2.2.1 s.2.2.2.1 s.2.2.2.2.1 s.2.2.2.2.2.1 s.2.2.2.2.2.2.1 s.2.2.2.2.2.2.2) (fun n s hI hk => hs n s.1 s.2.1 s.2.2.1 s.2.2.2.1 s.2.2.2.2.1 s.2.2.2.2.2.1 s.2.2.2.2.2.2.1 s.2.2.2.2.2.2.2 hI (fun b1 b2 b3 b4 b5 b6 b7 b8 h9 hm => hk (b1, b2, b3, b4, b5, b6, b7, b8) h9 hm)) (a1, a2, a3, a4, a5, a6, a7, a8) h
theorem lp9 {A1 A2 A3 A4 A5 A6 A7 A8 A9 : Type} (W : Nat → A1 → A2 → A3 → A4 → A5 → A6 → A7 → A8 → A9 → Prop) (I : A1 → A2 → A3 → A4 → A5 → A6 → A7 → A8 → A9 → Prop) (μ : A1 → A2 → A3 → A4 → A5 → A6 → A7 → A8 → A9 → Nat) (hs : ∀ (n : Nat) (a1 : A1) (a2 : A2) (a3 : A3) (a4 : A4) (a5 : A5) (a6 : A6) (a7 : A7) (a8 : A8) (a9 : A9), I a1 a2 a3 a4 a5 a6 a7 a8 a9 → (∀ (b1 : A1) (b2 : A2) (b3 : A3) (b4 : A4) (b5 : A5) (b6 : A6) (b7 : A7) (b8 : A8) (b9 : A9), I b1 b2 b3 b4 b5 b6 b7 b8 b9 → μ b1 b2 b3 b4 b5 b6 b7 b8 b9 < μ a1 a2 a3 a4 a5 a6 a7 a8 a9 → W n b1 b2 b3 b4 b5 b6 b7 b8 b9) → W (n + 1) a1 a2 a3 a4 a5 a6 a7 a8 a9) (a1 : A1) (a2 : A2) (a3 : A3) (a4 : A4) (a5 : A5) (a6 : A6) (a7 : A7) (a8 : A8) (a9 : A9) (h : I a1 a2 a3 a4 a5 a6 a7 a8 a9) : ∃ n, W n a1 a2 a3 a4 a5 a6 a7 a8 a9 :=
  loop_m (σ := A1 × A2 × A3 × A4 × A5 × A6 × A7 × A8 × A9) (fun n s => W n s.1 s.2.1 s.2.2.1 s.2.2.2.1 s.2.2.2.2.1 s.2.2.2.2.2.1 s.2.2.2.2.2.2.1 s.2.2.2.2.2.2.2.1 s.2.2.2.2.2.2.2.2) (fun s => I s.1 s.2.1 s.2.2.1 s.2.2.2.1 s.2.2.2.2.1 s.2.2.2.2.2.1 s.2.2.2.2.2.2.1 s.2.2.2.2.2.2.2.1 s.2.2.2.2.2.2.2.2) (fun s => μ s.1 s.2.1 s.2.2.1 s.2.2.2.1 s.2.2.2.2.1 s.2.2.2.2.2.1 s.2.2.2.2.2.2.1 s.2.2.2.2.2.2.2.1 s.2.2.2.2.2.2.2.2) (fun n s hI hk => hs n s.1 s.2.1 s.2.2.1 s.2.2.2.1 s.2.2.2.2.1 s.2.2.2.2.2.1 s.2.2.2.2.2.2.1 s.2.2.2.2.2.2.2.1 s.2.2.2.2.2.2.2.2 hI (fun b1 b2 b3 b4 b5 b6 b7 b8 b9 h9 hm => hk (b1, b2, b3, b4, b5, b6, b7, b8, b9) h9 hm)) (a1, a2, a3, a4, a5, a6, a7, a8, a9) h
theorem lp10 {A1 A2 A3 A4 A5 A6 A7 A8 A9 A10 : Type} (W : Nat → A1 → A2 → A3 → A4 → A5 → A6 → A7 → A8 → A9 → A10 → Prop) (I : A1 → A2 → A3 → A4 → A5 → A6 → A7 → A8 → A9 → A10 → Prop) (μ : A1 → A2 → A3 → A4 → A5 → A6 → A7 → A8 → A9 → A10 → Nat) (hs : ∀ (n : Nat) (a1 : A1) (a2 : A2) (a3 : A3) (a4 : A4) (a5 : A5) (a6 : A6) (a7 : A7) (a8 : A8) (a9 : A9) (a10 : A10), I a1 a2 a3 a4 a5 a6 a7 a8 a9 a10 → (∀ (b1 : A1) (b2 : A2) (b3 : A3) (b4 : A4) (b5 : A5) (b6 : A6) (b7 : A7) (b8 : A8) (b9 : A9) (b10 : A10), I b1 b2 b3 b4 b5 b6 b7 b8 b9 b10 → μ b1 b2 b3 b4 b5 b6 b7 b8 b9 b10 < μ a1 a2 a3 a4 a5 a6 a7 a8 a9 a10 → W n b1 b2 b3 b4 b5 b6 b7 b8 b9 b10) → W (n + 1) a1 a2 a3 a4 a5 a6 a7 a8 a9 a10) (a1 : A1) (a2 : A2) (a3 : A3) (a4 : A4) (a5 : A5) (a6 : A6) (a7 : A7) (a8 : A8) (a9 : A9) (a10 : A10) (h : I a1 a2 a3 a4 a5 a6 a7 a8 a9 a10) : ∃ n, W n a1 a2 a3 a4 a5 a6 a7 a8 a9 a10 :=
  loop_m (σ := A1 × A2 × A3 × A4 × A5 × A6 × A7 × A8 × A9 × A10) (fun n s => W n s.1 s.2.1 s.2.2.1 s.2.2.2.1 s.2.2.2.2.1 s.2.2.2.2.2.1 s.2.2.2.2.2.2.1 s.2.2.2.2.2.2.2.1 s.2.2.2.2.2.2.2.2.1 s.2.2.2.2.2.2.2.2.2) (fun s => I s.1 s.2.1 s.2.2.1 s.2.2.2.1 s.2.2.2.2.1 s.2.2.2.2.2.1 s.2.2.2.2.2.2.1 s.2.2.2.2.2.2.2.1 s.2.2.2.2.2.2.2.2.1 s.2.2.2.2.2.2.2.2.2) (fun s => μ s.1 s.2.1 s.2.2.1 s.2.2.2.1 s.2.2.2.2.1 s.2.2.2.2.2.1 s.2.2.2.2.2.2.1 s.2.2.2.2.2.2.2.1 s.2.2.2.2.2.2.2.2.1 s.2.2.2.2.2.2.2.2.2) (fun n s hI hk => hs n s.1 s.2.1 s.2.2.1 s.2.2.2.1 s.2.2.2.2.1 s.2.2.2.2.2.1 s.2.2.2.2.2.2.1 s.2.2.2.2.2.2.2.1 s.2.2.2.2.2.2.2.2.1 s.2.2.2.2.2.2.2.2.2 hI (fun b1 b2 b3 b4 b5 b6 b7 b8 b9 b10 h9 hm => hk (b1, b2, b3, b4, b5, b6, b7, b8, b9, b10) h9 hm)) (a1, a2, a3, a4, a5, a6, a7, a8, a9, a10) h
theorem lp11 {A1 A2 A3 A4 A5 A6 A7 A8 A9 A10 A11 : Type} (W : Nat → A1 → A2 → A3 → A4 → A5 → A6 → A7 → A8 → A9 → A10 → A11 → Prop) (I : A1 → A2 → A3 → A4 → A5 → A6 → A7 → A8 → A9 → A10 → A11 → Prop) (μ : A1 → A2 → A3 → A4 → A5 → A6 → A7 → A8 → A9 → A10 → A11 → Nat) (hs : ∀ (n : Nat) (a1 : A1) (a2 : A2) (a3 : A3) (a4 : A4) (a5 : A5) (a6 : A6) (a7 : A7) (a8 : A8) (a9 : A9) (a10 : A10) (a11 : A11), I a1 a2 a3 a4 a5 a6 a7 a8 a9 a10 a11 → (∀ (b1 : A1) (b2 : A2) (b3 : A3) (b4 : A4) (b5 : A5) (b6 : A6) (b7 : A7) (b8 : A8) (b9 : A9) (b10 : A10) (b11 : A11), I b1 b2 b3 b4 b5 b6 b7 b8 b9 b10 b11 → μ b1 b2 b3 b4 b5 b6 b7 b8 b9 b10 b11 < μ a1 a2 a3 a4 a5 a6 a7 a8 a9 a10 a11 → W n b1 b2 b3 b4 b5 b6 b7 b8 b9 b10 b11) → W (n + 1) a1 a2 a3 a4 a5 a6 a7 a8 a9 a10 a11) (a1 : A1) (a2 : A2) (a3 : A3) (a4 : A4) (a5 : A5) (a6 : A6) (a7 : A7) (a8 : A8) (a9 : A9) (a10 : A10) (a11 : A11) (h : I a1 a2 a3 a4 a5 a6 a7 a8 a9 a10 a11) : ∃ n, W n a1 a2 a3 a4 a5 a6 a7 a8 a9 a10 a11 :=
  loop_m (σ := A1 × A2 × A3 × A4 × A5 × A6 × A7 × A8 × A9 × A10 × A11) (fun n s => W n s.1 s.2.1 s.2.2.1 s.2.2.2.1 s.2.2.2.2.1 s.2.2.2.2.2.1 s.2.2.2.2.2.2.1 s.2.2.2.2.2.2.2.1 s.2.2.2.2.2.2.2.2.1 s.2.2.2.2.2.2.2.2.2.1 s.2.2.2.2.2.2.2.2.2.2) (fun s => I s.1 s.2.1 s.2.2.1 s.2.2.2.1 s.2.2.2.2.1 s.2.2.2.2.2.1 s.2.2.2.2.2.2.1 s.2.2.2.2.2.2.2.1 s.2.2.2.2.2.2.2.2.1 s.2.2.2.2.2.2.2.2.2.1 s.2.2.2.2.2.2.2.2.2.2) (fun s => μ s.1 s.2.1 s.2.2.1 s.2.2.2.1 s.2.2.2.2.1 s.2.2.2.2.2.1 s.2.2.2.2.2.2.1 s.2.2.2.2.2.2.2.1 s.2.2.2.2.2.2.2.2.1 s.2.2.2.2.2.2.2.2.2.1 s.2.2.2.2.2.2.2.2.2.2) (fun n s hI hk => hs n s.1 s.2.1 s.2.2.1 s.2.2.2.1 s.2.2.2.2.1 s.2.2.2.2.2.1 s.2.2.2.2.2.2.1 s.2.2.2.2.2.2.2.1 s.2.2.2.2.2.2.2.2.1 s.2.2.2.2.2.2.2.2.2.1 s.2.2.2.2.2.2.2.2.2.2 hI (fun b1 b2 b3 b4 b5 b6 b7 b8 b9 b10 b11 h9 hm => hk (b1, b2, b3, b4, b5, b6, b7, b8, b9, b10, b11) h9 hm)) (a1, a2, a3, a4, a5, a6, a7, a8, a9, a10, a11) h
theorem lp12 {A1 A2 A3 A4 A5 A6 A7 A8 A9 A10 A11 A12 : Type} (W : Nat → A1 → A2 → A3 → A4 → A5 → A6 → A7 → A8 → A9 → A10 → A11 → A12 → Prop) (I : A1 → A2 → A3 → A4 → A5 → A6 → A7 → A8 → A9 → A10 → A11 → A12 → Prop) (μ : A1 → A2 → A3 → A4 → A5 → A6 → A7 → A8 → A9 → A10 → A11 → A12 → Nat) (hs : ∀ (n : Nat) (a1 : A1) (a2 : A2) (a3 : A3) (a4 : A4) (a5 : A5) (a6 : A6) (a7 : A7) (a8 : A8) (a9 : A9) (a10 : A10) (a11 : A11) (a12 : A12), I a1 a2 a3 a4 a5 a6 a7 a8 a9 a10 a11 a12 → (∀ (b1 : A1) (b2 : A2) (b3 : A3) (b4 : A4) (b5 : A5) (b6 : A6) (b7 : A7) (b8 : A8) (b9 : A9) (b10 : A10) (b11 : A11) (b12 : A12), I b1 b2 b3 b4 b5 b6 b7 b8 b9 b10 b11 b12 → μ b1 b2 b3 b4 b5 b6 b7 b8 b9 b10 b11 b12 < μ a1 a2 a3 a4 a5 a6 a7 a8 a9 a10 a11 a12 → W n b1 b2 b3 b4 b5 b6 b7 b8 b9 b10 b11 b12) → W (n + 1) a1 a2 a3 a4 a5 a6 a7 a8 a9 a10 a11 a12) (a1 : A1) (a2 : A2) (a3 : A3) (a4 : A4) (a5 : A5) (a6 : A6) (a7 : A7) (a8 : A8) (a9 : A9) (a10 : A10) (a11 : A11) (a12 : A12) (h : I a1 a2 a3 a4 a5 a6 a7 a8 a9 a10 a11 a12) : ∃ n, W n a1 a2 a3 a4 a5 a6 a7 a8 a9 a10 a11 a12 :=
  loop_m (σ := A1 × A2 × A3 × A4 × A5 × A6 × A7 × A8 × A9 × A10 × A11 × A12) (fun n s => W n s.1 s.2.1 s.2.2.1 s.2.2.2.1 s.2.2.2.2.1 s.2.2.2.2.2.1 s.2.2.2.2.2.2.1 s.2.2.2.2.2.2.2.1 s.2.2.2.2.2.2.2.2.1 s.2.2.2.2.2.2.2.2.2.1 s.2.2.2.2.2.2.2.2.2.2.1 s.2.2.2.2.2.2.2.2.2.2.2) (fun s => I s.1 s.2.1 s.2.2.1 s.2.2.2.1 s.2.2.2.2.1 s.2.2.2.2.2.1 s.2.2.2.2.2.2.1 s.2.2.2.2.2.2.2.1 s.2.2.2.2.2.2.2.2.1 s.2.2.2.2.2.2.2.2.2.1 s.2.2.2.2.2.2.2.2.2.2.1 s.2.2.2.2.2.2.2.2.2.2.2) (fun s => μ s.1 s.2.1 s.2.2.1 s.2.2.2.1 s.2.2.2.2.1 s.2.2.2.2.2.1 s.2.2.2.2.2.2.1 s.2.2.2.2.2.2.2.1 s.2.2.2.2.2.2.2.2.1 s.2.2.2.2.2.2.2.2.2.1 s.2.2.2.2.2.2.2.2.2.2.1 s.2.2.2.2.2.2.2.2.2.2.2) (fun n s hI hk => hs n s.1 s.2.1 s.2.2.1 s.2.2.2.1 s.2.2.2.2.1 s.2.2.2.2.2.1 s.2.2.2.2.2.2.1 s.2.2.2.2.2.2.2.1 s.2.2.2.2.2.2.2.2.1 s.2.2.2.2.2.2.2.2.2.1 s.2.2.2.2.2.2.2.2.2.2.1 s.2.2.2.2.2.2.2.2.2.2.2 hI (fun b1 b2 b3 b4 b5 b6 b7 b8 b9 b10 b11 b12 h9 hm => hk (b1, b2, b3, b4, b5, b6, b7, b8, b9, b10, b11, b12) h9 hm)) (a1, a2, a3, a4, a5, a6, a7, a8, a9, a10, a11, a12) h
theorem lp13 {A1 A2 A3 A4 A5 A6 A7 A8 A9 A10 A11 A12 A13 : Type} (W : Nat → A1 → A2 → A3 → A4 → A5 → A6 → A7 → A8 → A9 → A10 → A11 → A12 → A13 → Prop) (I : A1 → A2 → A3 → A4 → A5 → A6 → A7 → A8 → A9 → A10 → A11 → A12 → A13 → Prop) (μ : A1 → A2 → A3 → A4 → A5 → A6 → A7 → A8 → A9 → A10 → A11 → A12 → A13 → Nat) (hs : ∀ (n : Nat) (a1 : A1) (a2 : A2) (a3 : A3) (a4 : A4) (a5 : A5) (a6 : A6) (a7 : A7) (a8 : A8) (a9 : A9) (a10 : A10) (a11 : A11) (a12 : A12) (a13 : A13), I a1 a2 a3 a4 a5 a6 a7 a8 a9 a10 a11 a12 a13 → (∀ (b1 : A1) (b2 : A2) (b3 : A3) (b4 : A4) (b5 : A5) (b6 : A6) (b7 : A7) (b8 : A8) (b9 : A9) (b10 : A10) (b11 : A11) (b12 : A12) (b13 : A13), I b1 b2 b3 b4 b5 b6 b7 b8 b9 b10 b11 b12 b13 → μ b1 b2 b3 b4 b5 b6 b7 b8 b9 b10 b11 b12 b13 < μ a1 a2 a3 a4 a5 a6 a7 a8 a9 a10 a11 a12 a13 → W n b1 b2 b3 b4 b5 b6 b7 b8 b9 b10 b11 b12 b13) → W (n + 1) a1 a2 a3 a4 a5 a6 a7 a8 a9 a10 a11 a12 a13) (a1 : A1) (a2 : A2) (a3 : A3) (a4 : A4) (a5 : A5) (a6 : A6) (a7 : A7) (a8 : A8) (a9 : A9) (a10 : A10) (a11 : A11) (a12 : A12) (a13 : A13) (h : I a1 a2 a3 a4 a5 a6 a7 a8 a9 a10 a11 a12 a13) : ∃ n, W n a1 a2 a3 a4 a5 a6 a7 a8 a9 a10 a11 a12 a13 :=
  loop_m (σ := A1 × A2 × A3 × A4 × A5 × A6 × A7 × A8 × A9 × A10 × A11 × A12 × A13) (fun n s => W n s.1 s.2.1 s.2.2.1 s.2.2.2.1 s.2.2.2.2.1 s.2.2.2.2.2.1 s.2.2.2.2.2.2.1 s.2.2.2.2.2.2.2.1 s.2.2.2.2.2.2.2.2.1 s.2.2.2.2.2.2.2.2.2.1 s.2.2.2.2.2.2.2.2.2.2.1 s.2.2.2.2.2.2.2.2.2.2.2.1 s.2.2.2.2.2.2.2.2.2.2.2.2) (fun s => I s.1 s.2.1 s.2.2.1 s.2.2.2.1 s.2.2.2.2.1 s.2.2.2.2.2.1 s.2.2.2.2.2.2.1 s.2.2.2.2.2.2.2.1 s.2.2.2.2.2.2.2.2.1 s.2.2.2.2.2.2.2.2.2.1 s.2.2.2.2.2.2.2.2.2.2.1 s.2.2.2.2.2.2.2.2.2.2.2.1 s.2.2.2.2.2.2.2.2.2.2.2.2) (fun s => μ s.1 s.2.1 s.2.2.1 s.2.2.2.1 s.2.2.2.2.1 s.2.2.2.2.2.1 s.2.2.2.2.2.2.1 s.2.2.2.2.2.2.2.1 s.2.2.2.2.2.2.2.2.1 s.2.2.2.2.2.2.2.2.2.1 s.2.2.2.2.2.2.2.2.2.2.1 s.2.2.2.2.2.2.2.2.2.2.2.1 s.2.2.2.2.2.2.2.2.2.2.2.2) (fun n s hI hk => hs n s.1 s.2.1 s.2.2.1 s.2.2.2.1 s.2.2.2.2.1 s.2.2.2.2.2.1 s.2.2.2.2.2.2.1 s.2.2.2.2.2.2.2.1 s.2.2.2.2.2.2.2.2.1 s.2.2.2.2.2.2.2.2.2.1 s.2.2.2.2.2.2.2.2.2.2.1 s.2.2.2.2.2.2.2.2.2.2.2.1 s.2.2.2.2.2.2.2.2.2.2.2.2 hI (fun b1 b2 b3 b4 b5 b6 b7 b8 b9 b10 b11 b12 b13 h9 hm => hk (b1, b2, b3, b4, b5, b6, b7, b8, b9, b10, b11, b12, b13) h9 hm)) (a1, a2, a3, a4, a5, a6, a7, a8, a9, a10, a11, a12, a13) h
theorem lp14 {A1 A2 A3 A4 A5 A6 A7 A8 A9 A10 A11 A12 A13 A14 : Type} (W : Nat → A1 → A2 → A3 → A4 → A5 → A6 → A7 → A8 → A9 → A10 → A11 → A12 → A13 → A14 → Prop) (I : A1 → A2 → A3 → A4 → A5 → A6 → A7 → A8 → A9 → A10 → A11 → A12 → A13 → A14 → Prop) (μ : A1 → A2 → A3 → A4 → A5 → A6 → A7 → A8 → A9 → A10 → A11 → A12 → A13 → A14 → Nat) (hs : ∀ (n : Nat) (a1 : A1) (a2 : A2) (a3 : A3) (a4 : A4) (a5 : A5) (a6 : A6) (a7 : A7) (a8 : A8) (a9 : A9) (a10 : A10) (a11 : A11) (a12 : A12) (a13 : A13) (a14 : A14), I a1 a2 a3 a4 a5 a6 a7 a8 a9 a10 a11 a12 a13 a14 → (∀ (b1 : A1) (b2 : A2) (b3 : A3) (b4 : A4) (b5 : A5) (b6 : A6) (b7 : A7) (b8 : A8) (b9 : A9) (b10 : A10) (b11 : A11) (b12 : A12) (b13 : A13) (b14 : A14), I b1 b2 b3 b4 b5 b6 b7 b8 b9 b10 b11 b12 b13 b14 → μ b1 b2 b3 b4 b5 b6 b7 b8 b9 b10 b11 b12 b13 b14 < μ a1 a2 a3 a4 a5 a6 a7 a8 a9 a10 a11 a12 a13 a14 → W n b1 b2 b3 b4 b5 b6 b7 b8 b9 b10 b11 b12 b13 b14) → W (n + 1) a1 a2 a3 a4 a5 a6 a7 a8 a9 a10 a11 a12 a13 a14) (a1 : A1) (a2 : A2) (a3 : A3) (a4 : A4) (a5 : A5) (a6 : A6) (a7 : A7) (a8 : A8) (a9 : A9) (a10 : A10) (a11 : A11) (a12 : A12) (a13 : A13) (a14 : A14) (h : I a1 a2 a3 a4 a5 a6 a7 a8 a9 a10 a11 a12 a13 a14) : ∃ n, W n a1 a2 a3 a4 a5 a6 a7 a8 a9 a10 a11 a12 a13 a14 :=
  loop_m (σ := A1 × A2 × A3 × A4 × A5 × A6 × A7 × A8 × A9 × A10 × A11 × A12 × A13 × A14) (fun n s => W n s.1 s.2.1 s.2.2.1 s.2.2.2.1 s.2.2.2.2.1 s.2.2.2.2.2.1 s.2.2.2.2.2.2.1 s.2.2.2.2.2.2.2.1 s.2.2.2.2.2.2.2.2.1 s.2.2.2.2.2.2.2.2.2.1 s.2.2.2.2.2.2.2.2.2.2.1 s.2.2.2.2.2.2.2.2.2.2.2.1 s.2.2.2.2.2.2.2.2.2.2.2.2.1 s.2.2.2.2.2.2.2.2.2.2.2.2.2) (fun s => I s.1 s.2.1 s.2.2.1 s.2.2.2.1 s.2.2.2.2.1 s.2.2.2.2.2.1 s.2.2.2.2.2.2.1 s.2.2.2.2.2.2.2.1 s.2.2.2.2.2.2.2.2.1 s.2.2.2.2.2.2.2.2.2.1 s.2.2.2.2.2.2.2.2.2.2.1 s.2.2.2.2.2.2.2.2.2.2.2.1 s.2.2.2.2.2.2.2.2.2.2.2.2.1 s.2.2.2.2.2.2.2.2.2.2.2.2.2) (fun s => μ s.1 s.2.1 s.2.2.1 s.2.2.2.1 s.2.2.2.2.1 s.2.2.2.2.2.1 s.2.2.2.2.2.2.1 s.2.2.2.2.2.2.2.1 s.2.2.2.2.2.2.2.2.1 s.2.2.2.2.2.2.2.2.2.1 s.2.2.2.2.2.2.2.2.2.2.1 s.2.2.2.2.2.2.2.2.2.2.2.1 s.2.2.2.2.2.2.2.2.2.2.2.2.1 s.2.2.2.2.2.2.2.2.2.2.2.2.2) (fun n s hI hk => hs n s.1 s.2.1 s.2.2.1 s.2.2.2.1 s.2.2.2.2.1 s.2.2.2.2.2.1 s.2.2.2.2.2.2.1 s.2.2.2.2.2.2.2.1 s.2.2.2.2.2.2.2.2.1 s.2.2.2.2.2.2.2.2.2.1 s.2.2.2.2.2.2.2.2.2.2.1 s.2.2.2.2.2.2.2.2.2.2.2.1 s.2.2.2.2.2.2.2.2.2.2.2.2.1 s.2.2.2.2.2.2.2.2.2.2.2.2.2 hI (fun b1 b2 b3 b4 b5 b6 b7 b8 b9 b10 b11 b12 b13 b14 h9 hm => hk (b1, b2, b3, b4, b5, b6, b7, b8, b9, b10, b11, b12, b13, b14) h9 hm)) (a1, a2, a3, a4, a5, a6, a7, a8, a9, a10, a11, a12, a13, a14) h
theorem lp15 {A1 A2 A3 A4 A5 A6 A7 A8 A9 A10 A11 A12 A13 A14 A15 : Type} (W : Nat → A1 → A2 → A3 → A4 → A5 → A6 → A7 → A8 → A9 → A10 → A11 → A12 → A13 → A14 → A15 → Prop) (I : A1 → A2 → A3 → A4 → A5 → A6 → A7 → A8 → A9 → A10 → A11 → A12 → A13 → A14 → A15 → Prop) (μ : A1 → A2 → A3 → A4 → A5 → A6 → A7 → A8 → A9 → A10 → A11 → A12 → A13 → A14 → A15 → Nat) (hs : ∀ (n : Nat) (a1 : A1) (a2 : A2) (a3 : A3) (a4 : A4) (a5 : A5) (a6 : A6) (a7 : A7) (a8 : A8) (a9 : A9) (a10 : A10) (a11 : A11) (a12 : A12) (a13 : A13) (a14 : A14) (a15 : A15), I a1 a2 a3 a4 a5 a6 a7 a8 a9 a10 a11 a12 a13 a14 a15 → (∀ (b1 : A1) (b2 : A2) (b3 : A3) (b4 : A4) (b5 : A5) (b6 : A6) (b7 : A7) (b8 : A8) (b9 : A9) (b10 : A10) (b11 : A11) (b12 : A12) (b13 : A13) (b14 : A14) (b15 : A15), I b1 b2 b3 b4 b5 b6 b7 b8 b9 b10 b11 b12 b13 b14 b15 → μ b1 b2 b3 b4 b5 b6 b7 b8 b9 b10 b11 b12 b13 b14 b15 < μ a1 a2 a3 a4 a5 a6 a7 a8 a9 a10 a11 a12 a13 a14 a15 → W n b1 b2 b3 b4 b5 b6 b7 b8 b9 b10 b11 b12 b13 b14 b15) → W (n + 1) a1 a2 a3 a4 a5 a6 a7 a8 a9 a10 a11 a12 a13 a14 a15) (a1 : A1) (a2 : A2) (a3 : A3) (a4 : A4) (a5 : A5) (a6 : A6) (a7 : A7) (a8 : A8) (a9 : A9) (a10 : A10) (a11 : A11) (a12 : A12) (a13 : A13) (a14 : A14) (a15 : A15) (h : I a1 a2 a3 a4 a5 a6 a7 a8 a9 a10 a11 a12 a13 a14 a15) : ∃ n, W n a1 a2 a3 a4 a5 a6 a7 a8 a9 a10 a11 a12 a13 a14 a15 :=
  loop_m (σ := A1 × A2 × A3 × A4 × A5 × A6 × A7 × A8 × A9 × A10 × A11 × A12 × A13 × A14 × A15) (fun n s => W n s.1 s.2.1 s.2.2.1 s.2.2.2.1 s.2.2.2.2.1 s.2.2.2.2.2.1 s.2.2.2.2.2.2.1 s.2.2.2.2.2.2.2.1 s.2.2.2.2.2.2.2.2.1 s.2.2.2.2.2.2.2.2.2.1 s.2.2.2.2.2.2.2.2.2.2.1 s.2.2.2.2.2.2.2.2.2.2.2.1 s.2.2.2.2.2.2.2.2.2.2.2.2.1 s.2.2.2.2.2.2.2.2.2.2.2.2.2.1 s.2.2.2.2.2.2.2.2.2.2.2.2.2.2) (fun s => I s.1 s.2.1 s.2.2.1 s.2.2.2.1 s.2.2.2.2.1 s.2.2.2.2.2.1 s.2.2.2.2.2.2.1 s.2.2.2.2.2.2.2.1 s.2.2.2.2.2.2.2.2.1 s.2.2.2.2.2.2.2.2.2.1 s.2.2.2.2.2.2.2.2.2.2.1 s.2.2.2.2.2.2.2.2.2.2.2.1 s.2.2.2.2.2.2.2.2.2.2.2.2.1 s.2.2.2.2.2.2.2.2.2.2.2.2.2.1 s.2.2.2.2.2.2.2.2.2.2.2.2.2.2) (fun s => μ s.1 s.2.1 s.2.2.1 s.2.2.2.1 s.2.2.2.2.1 s.2.2.2.2.2.1 s.2.2.2.2.2.2.1 s.2.2.2.2.2.2.2.1 s.2.2.2.2.2.2.2.2.1 s.2.2.2.2.2.2.2.2.2.1 s.2.2.2.2.2.2.2.2.2.2.1 s.2.2.2.2.2.2.2.2.2.2.2.1 s.2.2.2.2.2.2.2.2.2.2.2.2.1 s.2.2.2.2.2.2.2.2.2.2.2.2.2.1 s.2.2.2.2.2.2.2.2.2.2.2.2.2.2) (fun n s hI hk => hs n s.1 s.2.1 s.2.2.1 s.2.2.2.1 s.2.2.2.2.1 s.2.2.2.2.2.1 s.2.2.2.2.2.2.1 s.2.2.2.2.2.2.2.1 s.2.2.2.2.2.2.2.2.1 s.2.2.2.2.2.2.2.2.2.1 s.2.2.2.2.2.2.2.2.2.2.1 s.2.2.2.2.2.2.2.2.2.2.2.1 s.2.2.2.2.2.2.2.2.2.2.2.2.1 s.2.2.2.2.2.2.2.2.2.2.2.2.2.1 s.2.2.2.2.2.2.2.2.2.2.2.2.2.2 hI (fun b1 b2 b3 b4 b5 b6 b7 b8 b9 b10 b11 b12 b13 b14 b15 h9 hm => hk (b1, b2, b3, b4, b5, b6, b7, b8, b9, b10, b11, b12, b13, b14, b15) h9 hm)) (a1, a2, a3, a4, a5, a6, a7, a8, a9, a10, a11, a12, a13, a14, a15) h
theorem lp16 {A1 A2 A3 A4 A5 A6 A7 A8 A9 A10 A11 A12 A13 A14 A15 A16 : Type} (W : Nat → A1 → A2 → A3 → A4 → A5 → A6 → A7 → A8 → A9 → A10 → A11 → A12 → A13 → A14 → A15 → A16 → Prop) (I : A1 → A2 → A3 → A4 → A5 → A6 → A7 → A8 → A9 → A10 → A11 → A12 → A13 → A14 → A15 → A16 → Prop) (μ : A1 → A2 → A3 → A4 → A5 → A6 → A7 → A8 → A9 → A10 → A11 → A12 → A13 → A14 → A15 → A16 → Nat) (hs : ∀ (n : Nat) (a1 : A1) (a2 : A2) (a3 : A3) (a4 : A4) (a5 : A5) (a6 : A6) (a7 : A7) (a8 : A8) (a9 : A9) (a10 : A10) (a11 : A11) (a12 : A12) (a13 : A13) (a14 : A14) (a15 : A15) (a16 : A16), I a1 a2 a3 a4 a5 a6 a7 a8 a9 a10 a11 a12 a13 a14 a15 a16 → (∀ (b1 : A1) (b2 : A2) (b3 : A3) (b4 : A4) (b5 : A5) (b6 : A6) (b7 : A7) (b8 : A8) (b9 : A9) (b10 : A10) (b11 : A11) (b12 : A12) (b13 : A13) (b14 : A14) (b15 : A15) (b16 : A16), I b1 b2 b3 b4 b5 b6 b7 b8 b9 b10 b11 b12 b13 b14 b15 b16 → μ b1 b2 b3 b4 b5 b6 b7 b8 b9 b10 b11 b12 b13 b14 b15 b16 < μ a1 a2 a3 a4 a5 a6 a7 a8 a9 a10 a11 a12 a13 a14 a15 a16 → W n b1 b2 b3 b4 b5 b6 b7 b8 b9 b10 b11 b12 b13 b14 b15 b16) → W (n + 1) a1 a2 a3 a4 a5 a6 a7 a8 a9 a10 a11 a12 a13 a14 a15 a16) (a1 : A1) (a2 : A2) (a3 : A3) (a4 : A4) (a5 : A5) (a6 : A6) (a7 : A7) (a8 : A8) (a9 : A9) (a10 : A10) (a11 : A11) (a12 : A12) (a13 : A13) (a14 : A14) (a15 : A15) (a16 : A16) (h : I a1 a2 a3 a4 a5 a6 a7 a8 a9 a10 a11 a12 a13 a14 a15 a16) : ∃ n, W n a1 a2 a3 a4 a5 a6 a7 a8 a9 a10 a11 a12 a13 a14 a15 a16 :=
  loop_m (σ := A1 × A2 × A3 × A4 × A5 × A6 × A7 × A8 × A9 × A10 × A11 × A12 × A13 × A14 × A15 × A16) (fun n s => W n s.1 s.2.1 s.2.2.1 s.2.2.2.1 s.2.2.2.2.1 s.2.2.2.2.2.1 s.2.2.2.2.2.2.1 s.2.2.2.2.2.2.2.1 s.2.2.2.2.2.2.2.2.1 s.2.2.2.2.2.2.2.2.2.1 s.2.2.2.2.2.2.2.2.2.2.1 s.2.2.2.2.2.2.2.2.2.2.2.1 s.2.2.2.2.2.2.2.2.2.2.2.2.1 s.2.2.2.2.2.2.2.2.2.2.2.2.2.1 s.2.2.2.2.2.2.2.2.2.2.2.2.2.2.1 s.2.2.2.2.2.2.2.2.2.2.2.2.2.2.2) (fun s => I s.1 s.2.1 s.2.2.1 s.2.2.2.1 s.2.2.2.2.1 s.2.2.2.2.2.1 s.2.2.2.2.2.2.1 s.2.2.2.2.2.2.2.1 s.2.2.2.2.2.2.2.2.1 s.2.2.2.2.2.2.2.2.2.1 s.2.2.2.2.2.2.2.2.2.2.1 s.2.2.2.2.2.2.2.2.2.2.2.1 s.2.2.2.2.2.2.2.2.2.2.2.2.1 s.2.2.2.2.2.2.2.2.2.2.2.2.2.1 s.2.2.2.2.2.2.2.2.2.2.2.2.2.2.1 s.2.2.2.2.2.2.2.2.2.2.2.2.2.2.2) (fun s => μ s.1 s.2.1 s.2.2.1 s.2.2.2.1 s.2.2.2.2.1 s.2.2.2.2.2.1 s.2.2.2.2.2.2.1 s.2.2.2.2.2.2.2.1 s.2.2.2.2.2.2.2.2.1 s.2.2.2.2.2.2.2.2.2.1 s.2.2.2.2.2.2.2.2.2.2.1 s.2.2.2.2.2.2.2.2.2.2.2.1 s.2.2.2.2.2.2.2.2.2.2.2.2.1 s.2.2.2.2.2.2.2.2.2.2.2.2.2.1 s.2.2.2.2.2.2.2.2.2.2.2.2.2.2.1 s.2.2.2.2.2.2.2.2.2.2.2.2.2.2.2) (fun n s hI hk => hs n s.1 s.2.1 s.2.2.1 s.2.2.2.1 s.2.2.2.2.1 s.2.2.2.2.2.1 s.2.2.2.2.2.2.1 s.2.2.2.2.2.2.2.1 s.2.2.2.2.2.2.2.2.1 s.2.2.2.2.2.2.2.2.2.1 s.2.2.2.2.2.2.2.2.2.2.1 s.2.2.2.2.2.2.2.2.2.2.2.1 s.2.2.2.2.2.2.2.2.2.2.2.2.1 s.2.2.2.2.2.2.2.2.2.2.2.2.2.1 s.2.2.2.2.2.2.2.2.2.2.2.2.2.2.1 s.2.2.2.2.2.2.2.2.2.2.2.2.2.2.2 hI (fun b1 b2 b3 b4 b5 b6 b7 b8 b9 b10 b11 b12 b13 b14 b15 b16 h9 hm => hk (b1, b2, b3, b4, b5, b6, b7, b8, b9, b10, b11, b12, b13, b14, b15, b16) h9 hm)) (a1, a2, a3, a4, a5, a6, a7, a8, a9, a10, a11, a12, a13, a14, a15, a16) h
theorem pk_least (P : Nat → Prop) (h : ∃ k, P k) : ∃ k, P k ∧ ∀ j, j < k → ¬ P j := by
  obtain ⟨k, hk⟩ := h
  induction k using Nat.strongRecOn with
  | ind k ih =>
    by_cases e : ∃ j, j < k ∧ P j
    · obtain ⟨j, hj, pj⟩ := e
      exact ih j hj pj
    · exact ⟨k, hk, fun j hj pj => e ⟨j, hj, pj⟩⟩
theorem rp1 {ρ A1 : Type} (W : Nat → (ρ → Prop) → A1 → Prop) (ok : A1 → Prop) (μ : A1 → Nat) (val : A1 → ρ)
    (hs : ∀ (d : Nat) (post : ρ → Prop) (a1 : A1), ok a1 → post (val a1) → (∀ (post' : ρ → Prop) (b1 : A1), ok b1 → μ b1 < μ a1 → post' (val b1) → W d post' b1) → W (d + 1) post a1) :
    ∀ (d : Nat) (post : ρ → Prop) (a1 : A1), ok a1 → μ a1 < d → post (val a1) → W d post a1 := by
  intro d
  induction d with
  | zero => intro post a1 _ h; omega
  | succ d ih =>
    intro post a1 ho hm hp
    exact hs d post a1 ho hp (fun post' b1 ho' hm' hp' => ih post' b1 ho' (by omega) hp')
theorem rp2 {ρ A1 A2 : Type} (W : Nat → (ρ → Prop) → A1 → A2 → Prop) (ok : A1 → A2 → Prop) (μ : A1 → A2 → Nat) (val : A1 → A2 → ρ)
    (hs : ∀ (d : Nat) (post : ρ → Prop) (a1 : A1) (a2 : A2), ok a1 a2 → post (val a1 a2) → (∀ (post' : ρ → Prop) (b1 : A1) (b2 : A2), ok b1 b2 → μ b1 b2 < μ a1 a2 → post' (val b1 b2) → W d post' b1 b2) → W (d + 1) post a1 a2) :
    ∀ (d : Nat) (post : ρ → Prop) (a1 : A1) (a2 : A2), ok a1 a2 → μ a1 a2 < d → post (val a1 a2) → W d post a1 a2 := by
  intro d
  induction d with
  | zero => intro post a1 a2 _ h; omega
  | succ d ih =>
    intro post a1 a2 ho hm hp
    exact hs d post a1 a2 ho hp (fun post' b1 b2 ho' hm' hp' => ih post' b1 b2 ho' (by omega) hp')
theorem rp3 {ρ A1 A2 A3 : Type} (W : Nat → (ρ → Prop) → A1 → A2 → A3 → Prop) (ok : A1 → A2 → A3 → Prop) (μ : A1 → A2 → A3 → Nat) (val : A1 → A2 → A3 → ρ)
    (hs : ∀ (d : Nat) (post : ρ → Prop) (a1 : A1) (a2 : A2) (a3 : A3), ok a1 a2 a3 → post (val a1 a2 a3) → (∀ (post' : ρ → Prop) (b1 : A1) (b2 : A2) (b3 : A3), ok b1 b2 b3 → μ b1 b2 b3 < μ a1 a2 a3 → post' (val b1 b2 b3) → W d post' b1 b2 b3) → W (d + 1) post a1 a2 a3) :
    ∀ (d : Nat) (post : ρ → Prop) (a1 : A1) (a2 : A2) (a3 : A3), ok a1 a2 a3 → μ a1 a2 a3 < d → post (val a1 a2 a3) → W d post a1 a2 a3 := by
  intro d
  induction d with
  | zero => intro post a1 a2 a3 _ h; omega
  | succ d ih =>
    intro post a1 a2 a3 ho hm hp
    exact hs d post a1 a2 a3 ho hp (fun post' b1 b2 b3 ho' hm' hp' => ih post' b1 b2 b3 ho' (by omega) hp')
theorem rp4 {ρ A1 A2 A3 A4 : Type} (W : Nat → (ρ → Prop) → A1 → A2 → A3 → A4 → Prop) (ok : A1 → A2 → A3 → A4 → Prop) (μ : A1 → A2 → A3 → A4 → Nat) (val : A1 → A2 → A3 → A4 → ρ)
    (hs : ∀ (d : Nat) (post : ρ → Prop) (a1 : A1) (a2 : A2) (a3 : A3) (a4 : A4), ok a1 a2 a3 a4 → post (val a1 a2 a3 a4) → (∀ (post' : ρ → Prop) (b1 : A1) (b2 : A2) (b3 : A3) (b4 : A4), ok b1 b2 b3 b4 → μ b1 b2 b3 b4 < μ a1 a2 a3 a4 → post' (val b1 b2 b3 b4) → W d post' b1 b2 b3 b4) → W (d + 1) post a1 a2 a3 a4) :
    ∀ (d : Nat) (post : ρ → Prop) (a1 : A1) (a2 : A2) (a3 : A3) (a4 : A4), ok a1 a2 a3 a4 → μ a1 a2 a3 a4 < d → post (val a1 a2 a3 a4) → W d post a1 a2 a3 a4 := by
  intro d
  induction d with
  | zero => intro post a1 a2 a3 a4 _ h; omega
  | succ d ih =>
    intro post a1 a2 a3 a4 ho hm hp
    exact hs d post a1 a2 a3 a4 ho hp (fun post' b1 b2 b3 b4 ho' hm' hp' => ih post' b1 b2 b3 b4 ho' (by omega) hp')
theorem rp5 {ρ A1 A2 A3 A4 A5 : Type} (W : Nat → (ρ → Prop) → A1 → A2 → A3 → A4 → A5 → Prop) (ok : A1 → A2 → A3 → A4 → A5 → Prop) (μ : A1 → A2 → A3 → A4 → A5 → Nat) (val : A1 → A2 → A3 → A4 → A5 → ρ)
    (hs : ∀ (d : Nat) (post : ρ → Prop) (a1 : A1) (a2 : A2) (a3 : A3) (a4 : A4) (a5 : A5), ok a1 a2 a3 a4 a5 → post (val a1 a2 a3 a4 a5) → (∀ (post' : ρ → Prop) (b1 : A1) (b2 : A2) (b3 : A3) (b4 : A4) (b5 : A5), ok b1 b2 b3 b4 b5 → μ b1 b2 b3 b4 b5 < μ a1 a2 a3 a4 a5 → post' (val b1 b2 b3 b4 b5) → W d post' b1 b2 b3 b4 b5) → W (d + 1) post a1 a2 a3 a4 a5) :
    ∀ (d : Nat) (post : ρ → Prop) (a1 : A1) (a2 : A2) (a3 : A3) (a4 : A4) (a5 : A5), ok a1 a2 a3 a4 a5 → μ a1 a2 a3 a4 a5 < d → post (val a1 a2 a3 a4 a5) → W d post a1 a2 a3 a4 a5 := by
  intro d
  induction d with
  | zero => intro post a1 a2 a3 a4 a5 _ h; omega
  | succ d ih =>
    intro post a1 a2 a3 a4 a5 ho hm hp
    exact hs d post a1 a2 a3 a4 a5 ho hp (fun post' b1 b2 b3 b4 b5 ho' hm' hp' => ih post' b1 b2 b3 b4 b5 ho' (by omega) hp')
theorem rp6 {ρ A1 A2 A3 A4 A5 A6 : Type} (W : Nat → (ρ → Prop) → A1 → A2 → A3 → A4 → A5 → A6 → Prop) (ok : A1 → A2 → A3 → A4 → A5 → A6 → Prop) (μ : A1 → A2 → A3 → A4 → A5 → A6 → Nat) (val : A1 → A2 → A3 → A4 → A5 → A6 → ρ)
    (hs : ∀ (d : Nat) (post : ρ → Prop) (a1 : A1) (a2 : A2) (a3 : A3) (a4 : A4) (a5 : A5) (a6 : A6), ok a1 a2 a3 a4 a5 a6 → post (val a1 a2 a3 a4 a5 a6) → (∀ (post' : ρ → Prop) (b1 : A1) (b2 : A2) (b3 : A3) (b4 : A4) (b5 : A5) (b6 : A6), ok b1 b2 b3 b4 b5 b6 → μ b1 b2 b3 b4 b5 b6 < μ a1 a2 a3 a4 a5 a6 → post' (val b1 b2 b3 b4 b5 b6) → W d post' b1 b2 b3 b4 b5 b6) → W (d + 1) post a1 a2 a3 a4 a5 a6) :
    ∀ (d : Nat) (post : ρ → Prop) (a1 : A1) (a2 : A2) (a3 : A3) (a4 : A4) (a5 : A5) (a6 : A6), ok a1 a2 a3 a4 a5 a6 → μ a1 a2 a3 a4 a5 a6 < d → post (val a1 a2 a3 a4 a5 a6) → W d post a1 a2 a3 a4 a5 a6 := by
  intro d
  induction d with
  | zero => intro post a1 a2 a3 a4 a5 a6 _ h; omega
  | succ d ih =>
    intro post a1 a2 a3 a4 a5 a6 ho hm hp
    exact hs d post a1 a2 a3 a4 a5 a6 ho hp (fun post' b1 b2 b3 b4 b5 b6 ho' hm' hp' => ih post' b1 b2 b3 b4 b5 b6 ho' (by omega) hp')
theorem rec_p {σ ρ : Type} (W : Nat → (ρ → Prop) → σ → Prop) (ok : σ → Prop) (μ : σ → Nat) (val : σ → ρ)
    (hs : ∀ d s post, ok s → post (val s) → (∀ s' post', ok s' → μ s' < μ s → post' (val s') → W d post' s') → W (d + 1) post s) :
    ∀ d s post, ok s → μ s < d → post (val s) → W d post s := by
  intro d
  induction d with
  | zero => intro s post _ h; omega
  | succ d ih =>
    intro s post ho hm hp
    exact hs d s post ho hp (fun s' post' ho' hm' hp' => ih s' post' ho' (by omega) hp')
theorem rec_q {σ ρ : Type} (W : Nat → (ρ → Prop) → σ → Prop) (ok : σ → Prop) (μ : σ → Nat) (Q : σ → ρ → Prop)
    (hs : ∀ d s post, ok s → (∀ r, Q s r → post r) → (∀ s' post', ok s' → μ s' < μ s → (∀ r, Q s' r → post' r) → W d post' s') → W (d + 1) post s) :
    ∀ d s post, ok s → μ s < d → (∀ r, Q s r → post r) → W d post s := by
  intro d
  induction d with
  | zero => intro s post _ h; omega
  | succ d ih =>
    intro s post ho hm hp
    exact hs d s post ho hp (fun s' post' ho' hm' hp' => ih s' post' ho' (by omega) hp')
def bx_sum (f : Nat → Int32) : Nat → Int32
  | 0 => 0
  | n + 1 => bx_sum f n + f n
theorem ek_u {A : Prop} {B : Nat → Prop} {k N : Nat} (hk : k < N) (h : B k) : (some k = none → A) ∧ (∀ y : Nat, some k = some y → (y < N ∧ B y)) :=
  ⟨fun z => absurd z (Option.some_ne_none k), fun _ e => (by cases e; exact ⟨hk, h⟩)⟩
theorem ek_nu {A : Prop} {B : Nat → Prop} (h : A) : ((none : Option Nat) = none → A) ∧ (∀ y : Nat, (none : Option Nat) = some y → B y) :=
  ⟨fun _ => h, fun _ e => (by cases e)⟩
theorem ek_if {c d A B : Prop} (e : c ↔ d) (f : d → A) (g : ¬ d → B) : (c → A) ∧ (¬ c → B) :=
  ⟨fun z => f (e.mp z), fun z => g (fun y => z (e.mpr y))⟩
theorem ek_v {α : Sort _} {P : α → Prop} {a b : α} (e : a = b) (h : P b) : P a := e ▸ h
theorem co_some {x : Option Nat} {A : Prop} {B : Nat → Prop} (i : Nat) (h : B i) (hx : x = some i := by rfl) : (x = none → A) ∧ (∀ y : Nat, x = some y → B y) := by
  subst hx
  exact ⟨fun e => (nomatch e), fun y e => Option.some.inj e ▸ h⟩
theorem co_none {x : Option Nat} {A : Prop} {B : Nat → Prop} (h : A) (hx : x = none := by rfl) : (x = none → A) ∧ (∀ y : Nat, x = some y → B y) := by
  subst hx
  exact ⟨fun _ => h, fun y e => (nomatch e)⟩
theorem co_any {x : Option Nat} {A : Prop} {B : Nat → Prop} (hn : x = none → A) (hs : ∀ i : Nat, x = some i → B i) : (x = none → A) ∧ (∀ y : Nat, x = some y → B y) := ⟨hn, hs⟩
theorem co_2 {P : Nat → Prop} (h0 : P 0) (h1 : P 1) {i : Nat} (hi : i < 2) : P i :=
  match i, hi with
  | 0, _ => h0
  | 1, _ => h1
theorem co_3 {P : Nat → Prop} (h0 : P 0) (h1 : P 1) (h2 : P 2) {i : Nat} (hi : i < 3) : P i :=
  match i, hi with
  | 0, _ => h0
  | 1, _ => h1
  | 2, _ => h2
theorem co_4 {P : Nat → Prop} (h0 : P 0) (h1 : P 1) (h2 : P 2) (h3 : P 3) {i : Nat} (hi : i < 4) : P i :=
  match i, hi with
  | 0, _ => h0
  | 1, _ => h1
  | 2, _ => h2
  | 3, _ => h3
theorem co_dec {N : Nat} {P : Nat → Prop} [DecidablePred P] (h : (List.range N).all (fun i => decide (P i)) = true) {i : Nat} (hi : i < N) : P i := by
  have := List.all_eq_true.mp h i (List.mem_range.mpr hi)
  exact of_decide_eq_true this
theorem co_tab {α : Type} {l : List α} {d : α} {P : α → Prop} (h : ∀ a, a ∈ l → P a) {i : Nat} (hi : i < l.length) : P (l.getD i d) := by
  rw [List.getD_eq_getElem?_getD, List.getElem?_eq_getElem hi]
  exact h _ (List.getElem_mem hi)
theorem pk_mu {x : Int32} {L : Nat} (h0 : ¬ x < 0) (h : ¬ nI L ≤ x) (hL : L < 2 ^ 31) : ∃ j : Nat, j < L ∧ x = nI j ∧ x + 1 = nI (j + 1) ∧ x.toNatClampNeg = j ∧ L - (x + 1).toNatClampNeg < L - x.toNatClampNeg := by
  obtain ⟨j, hj, rfl⟩ := nI_of h0
  have hl : j < L := Nat.not_le.mp fun q => h (nI_le q hj)
  refine ⟨j, hl, rfl, nI_1 j, nI_clamp hj, ?_⟩
  rw [nI_1, nI_clamp (by omega), nI_clamp hj]
  omega
theorem op_s {α : Type} {r : Option α} {A : Prop} {B : α → Prop} {y : α} (h : r = some y) (b : B y) : (r = none → A) ∧ ∀ z, r = some z → B z :=
  ⟨fun e => (by rw [h] at e; cases e), fun z e => (by rw [h] at e; cases e; exact b)⟩
def l_holds {α : Type} (a : Nat → Option Nat) (LP : List Nat) (p : Nat → α) (c : Nat) (b : Nat → α) : Prop :=
  ∀ j, j < c → ∃ y, a j = some y ∧ y ∈ LP ∧ p y = b j
theorem l_holds_0 {α : Type} {a : Nat → Option Nat} {LP : List Nat} {p b : Nat → α} : l_holds a LP p 0 b := fun j h => absurd h (Nat.not_lt_zero j)
theorem l_in_new (LP : List Nat) (q : Nat) : q ∈ LP ++ [q] := List.mem_append.mpr (Or.inr (List.mem_singleton.mpr rfl))
def l_sum (b : Nat → Int32) : Nat → Int32
  | 0 => 0
  | k + 1 => l_sum b k + b k
theorem sb_shr0 (x : Int32) : x >>> ((0 : Int32) &&& 31) = x := by
  rw [show ((0 : Int32) &&& 31) = 0 by decide]
  simp
theorem sb_shl0 (x : Int32) : x <<< ((0 : Int32) &&& 31) = x := by
  rw [show ((0 : Int32) &&& 31) = 0 by decide]
  simp
theorem sb_cl0 : (0 : Int32).toNatClampNeg = 0 := by decide
theorem sb_m1 {p : Nat} (h : 0 < p) : nI p + (-1) = nI (p - 1) := by
  obtain ⟨q, rfl⟩ : ∃ q, p = q + 1 := ⟨p - 1, by omega⟩
  exact pk_m1 q
def sb_b (c : Nat) : Int32 := (nI c).toInt8.toInt32
theorem sb_byte : ∀ c, c < 256 → sb_b c &&& 255 = nI c ∧ ((nI c).toUInt32 % 65536).toInt32 = nI c ∧ nI c ≤ 255 := by decide +kernel
def sb_Fit (a : Nat → Int32) : Prop := ∀ j, fits .byte (.int (a j)) = true
def sb_Lat (t : Nat → Nat) (n : Nat) (a : Nat → Int32) : Prop := ∀ j, j < n → t j < 256 ∧ a j = sb_b (t j)
theorem sb_fitB (c : Nat) : fits .byte (.int (sb_b c)) = true := pk_fb _
theorem sb_fit0 : sb_Fit (fun _ => 0) := fun _ => by
  show fits .byte (.int 0) = true
  decide
theorem sb_fitU {a : Nat → Int32} {k : Nat} {x : Int32} (h : sb_Fit a) (hx : fits .byte (.int x) = true) : sb_Fit (upd a k x) := by
  intro j
  by_cases e : j = k
  · subst e
    rw [pk_us]
    exact hx
  · rw [pk_un e]
    exact h j
def sb_cat (t : Nat → Nat) (n : Nat) (s : Nat → Nat) : Nat → Nat := fun j => if j < n then t j else s (j - n)
theorem sb_cat_lo {t s : Nat → Nat} {n j : Nat} (h : j < n) : sb_cat t n s j = t j := if_pos h
theorem sb_cat_hi {t s : Nat → Nat} {n j : Nat} : sb_cat t n s (n + j) = s j := by
  show (if n + j < n then t (n + j) else s (n + j - n)) = s j
  rw [if_neg (by omega), Nat.add_sub_cancel_left]
theorem sb_latPut {t s : Nat → Nat} {n w : Nat} {a a' : Nat → Int32} (h : sb_Lat t n a) (hk : ∀ j, j < n → a' j = a j) (hs : ∀ i, i < w → s i < 256 ∧ a' (n + i) = sb_b (s i)) : sb_Lat (sb_cat t n s) (n + w) a' := by
  intro j hj
  by_cases e : j < n
  · rw [sb_cat_lo e, hk j e]
    exact h j e
  · obtain ⟨i, rfl⟩ : ∃ i, j = n + i := ⟨j - n, by omega⟩
    rw [sb_cat_hi]
    exact hs i (by omega)
theorem sb_latKeep {t : Nat → Nat} {n : Nat} {a a' : Nat → Int32} (h : sb_Lat t n a) (hk : ∀ j, j < n → a' j = a j) : sb_Lat t n a' := fun j hj => by
  rw [hk j hj]
  exact h j hj
def sb_cap (q m : Nat) : Nat := if q ≤ m then m else if 2 * m + 2 < q then q else 2 * m + 2
def sb_Room (q m mc ms : Nat) : Prop := q ≤ m ∨ (1 ≤ mc ∧ sb_cap q m ≤ ms ∧ sb_cap q m ≤ 65536)
theorem sb_cap_ge (q m : Nat) : q ≤ sb_cap q m := by
  unfold sb_cap
  split
  · omega
  · split <;> omega
theorem sb_cap_gem (q m : Nat) : m ≤ sb_cap q m := by
  unfold sb_cap
  split
  · omega
  · split <;> omega
theorem sb_cap_le {q m mc ms : Nat} (hm : m ≤ 65536) (hr : sb_Room q m mc ms) : sb_cap q m ≤ 65536 := by
  rcases hr with h | h
  · rw [sb_cap, if_pos h]
    exact hm
  · exact h.2.2
theorem sb_at {P : Int32 → Prop} {x y : Int32} (e : x = y) (h : P y) : P x := e ▸ h
def sb_dg (w : Nat) : Nat := if w < 10 then 1 else if w < 100 then 2 else if w < 1000 then 3 else if w < 10000 then 4 else if w < 100000 then 5 else if w < 1000000 then 6 else if w < 10000000 then 7 else if w < 100000000 then 8 else if w < 1000000000 then 9 else 10
def sb_dec (v : Nat) : Nat → Nat := fun i => 48 + v / 10 ^ (sb_dg v - 1 - i) % 10
theorem sb_dg_in (w : Nat) : 1 ≤ sb_dg w ∧ sb_dg w ≤ 10 := by
  unfold sb_dg
  constructor <;> (repeat' split) <;> omega
theorem sb_dg100 {w : Nat} (h : 100 ≤ w) (hw : w < 2 ^ 31) : sb_dg w = sb_dg (w / 100) + 2 := by
  rw [sb_dg, sb_dg, if_neg (show ¬ w < 10 by omega), if_neg (show ¬ w < 100 by omega)]
  by_cases h3 : w < 1000
  · rw [if_pos h3, if_pos (show w / 100 < 10 by omega)]
  rw [if_neg h3, if_neg (show ¬ w / 100 < 10 by omega)]
  by_cases h4 : w < 10000
  · rw [if_pos h4, if_pos (show w / 100 < 100 by omega)]
  rw [if_neg h4, if_neg (show ¬ w / 100 < 100 by omega)]
  by_cases h5 : w < 100000
  · rw [if_pos h5, if_pos (show w / 100 < 1000 by omega)]
  rw [if_neg h5, if_neg (show ¬ w / 100 < 1000 by omega)]
  by_cases h6 : w < 1000000
  · rw [if_pos h6, if_pos (show w / 100 < 10000 by omega)]
  rw [if_neg h6, if_neg (show ¬ w / 100 < 10000 by omega)]
  by_cases h7 : w < 10000000
  · rw [if_pos h7, if_pos (show w / 100 < 100000 by omega)]
  rw [if_neg h7, if_neg (show ¬ w / 100 < 100000 by omega)]
  by_cases h8 : w < 100000000
  · rw [if_pos h8, if_pos (show w / 100 < 1000000 by omega)]
  rw [if_neg h8, if_neg (show ¬ w / 100 < 1000000 by omega)]
  by_cases h9 : w < 1000000000
  · rw [if_pos h9, if_pos (show w / 100 < 10000000 by omega)]
  rw [if_neg h9, if_neg (show ¬ w / 100 < 10000000 by omega)]
  rw [if_pos (show w / 100 < 100000000 by omega)]
theorem sb_negT {w : Nat} (h : w < 2 ^ 31) : (-nI w).toInt = -(w : Int) := by
  rw [Int32.toInt_neg, nI_toInt h]
  exact Int.bmod_eq_of_le (by omega) (by omega)
theorem sb_nle {a b : Nat} (ha : a < 2 ^ 31) (hb : b < 2 ^ 31) : -nI a ≤ -nI b ↔ b ≤ a := by
  rw [Int32.le_iff_toInt_le, sb_negT ha, sb_negT hb]
  omega
theorem sb_nlt {a b : Nat} (ha : a < 2 ^ 31) (hb : b < 2 ^ 31) : -nI a < -nI b ↔ b < a := by
  rw [Int32.lt_iff_toInt_lt, sb_negT ha, sb_negT hb]
  omega
theorem sb_cmp {A B : Prop} {x : Int32} (v c : Nat) (f : c ≤ v → A) (g : v < c → B) (hv : v < 2 ^ 31) (hx : x = -nI c := by rfl) (hc : c < 2 ^ 31 := by omega) : (-nI v ≤ x → A) ∧ (¬ -nI v ≤ x → B) := by
  subst hx
  rw [sb_nle hv hc]
  exact ⟨f, fun z => g (by omega)⟩
theorem sb_ndiv {w : Nat} (hw : w < 2 ^ 31) : (-nI w) / 100 = -nI (w / 100) := by
  apply Int32.toInt_inj.mp
  have h100 : (100 : Int32).toInt = 100 := by decide
  rw [Int32.toInt_div, sb_negT hw, h100, sb_negT (by omega), Int.neg_tdiv, Int.tdiv_eq_ediv_of_nonneg (by omega), Int.bmod_eq_of_le (by omega) (by omega)]
  omega
theorem sb_nrem {w : Nat} (hw : w < 2 ^ 31) : (-nI (w / 100)) * 100 - (-nI w) = nI (w % 100) := by
  have h := pk_rem (a := w) (d := 100) hw (by decide) (by decide)
  rw [pk_div hw (by decide) (by decide)] at h
  rw [← h]
  show (-nI (w / 100)) * nI 100 - (-nI w) = nI w - nI (w / 100) * nI 100
  rw [Int32.neg_mul, Int32.sub_neg, Int32.add_comm, ← Int32.sub_eq_add_neg]
end
section
/-! rows on bits, shifts and unsigned numbers, to paste: each family out of a closed proof of our own, whole with what it rests on; each by itself clean at Lean in its own claim (generation 39, form 5). Take a family whole -/
/-! ===== Int32 by its bits: bt x i ===== -/
def bt (x : Int32) (i : Nat) : Bool := x.toBitVec.getLsbD i
theorem b_ext {x y : Int32} (h : ∀ i, i < 32 → bt x i = bt y i) : x = y := Int32.toBitVec_inj.mp (BitVec.eq_of_getLsbD_eq (fun i hi => h i hi))
theorem b_or (x y : Int32) (i : Nat) : bt (x ||| y) i = (bt x i || bt y i) := by unfold bt; rw [Int32.toBitVec_or, BitVec.getLsbD_or]
theorem b_and (x y : Int32) (i : Nat) : bt (x &&& y) i = (bt x i && bt y i) := by unfold bt; rw [Int32.toBitVec_and, BitVec.getLsbD_and]
theorem b_xor (x y : Int32) (i : Nat) : bt (x ^^^ y) i = (bt x i ^^ bt y i) := by unfold bt; rw [Int32.toBitVec_xor, BitVec.getLsbD_xor]
theorem b_big {x : Int32} {i : Nat} (h : 32 ≤ i) : bt x i = false := BitVec.getLsbD_of_ge _ _ h
theorem b_255 (i : Nat) : bt 255 i = decide (i < 8) := by
  rcases Nat.lt_or_ge i 32 with h | h
  · exact (by decide +kernel : ∀ i, i < 32 → bt 255 i = decide (i < 8)) i h
  · rw [b_big h, decide_eq_false (by omega)]
theorem b_65535 (i : Nat) : bt 65535 i = decide (i < 16) := by
  rcases Nat.lt_or_ge i 32 with h | h
  · exact (by decide +kernel : ∀ i, i < 32 → bt 65535 i = decide (i < 16)) i h
  · rw [b_big h, decide_eq_false (by omega)]
theorem b_m1 : ∀ i, i < 32 → bt (-1) i = true := by decide +kernel
theorem b_0 (i : Nat) : bt 0 i = false := BitVec.getLsbD_zero
theorem s_l : ∀ n, n < 32 → ((nI n &&& 31).toBitVec.smod 32).toNat = n := by decide +kernel
theorem s_u : ∀ n, n < 32 → (((nI n).toUInt32 &&& Int32.toUInt32 31).toBitVec % 32).toNat = n := by decide +kernel
theorem b_shl (n : Nat) (hn : n < 32) (x : Int32) {i : Nat} (hi : i < 32) : bt (x <<< (nI n &&& 31)) i = (decide (n ≤ i) && bt x (i - n)) := by
  unfold bt
  rw [Int32.toBitVec_shiftLeft]
  show (x.toBitVec <<< ((nI n &&& 31).toBitVec.smod 32).toNat).getLsbD i = _
  rw [s_l n hn, BitVec.getLsbD_shiftLeft]
  rcases Nat.lt_or_ge i n with h | h
  · simp [h, Nat.not_le.mpr h]
  · simp [hi, h, Nat.not_lt.mpr h]
theorem b_ushr (n : Nat) (hn : n < 32) (x : Int32) (i : Nat) : bt ((x.toUInt32 >>> ((nI n).toUInt32 &&& Int32.toUInt32 31)).toInt32) i = bt x (n + i) := by
  show (x.toUInt32 >>> ((nI n).toUInt32 &&& Int32.toUInt32 31)).toBitVec.getLsbD i = x.toUInt32.toBitVec.getLsbD (n + i)
  rw [UInt32.toBitVec_shiftRight]
  show (x.toUInt32.toBitVec >>> (((nI n).toUInt32 &&& Int32.toUInt32 31).toBitVec % 32).toNat).getLsbD i = _
  rw [s_u n hn, BitVec.getLsbD_ushiftRight]
theorem b_sshr (n : Nat) (hn : n < 32) (x : Int32) {i : Nat} (hi : i < 32) : bt (x >>> (nI n &&& 31)) i = if n + i < 32 then bt x (n + i) else bt x 31 := by
  unfold bt
  rw [Int32.toBitVec_shiftRight]
  show (x.toBitVec.sshiftRight ((nI n &&& 31).toBitVec.smod 32).toNat).getLsbD i = _
  rw [s_l n hn, BitVec.getLsbD_sshiftRight, BitVec.msb_eq_getLsbD_last]
  simp [hi]
theorem b_shl8 (x : Int32) {i : Nat} (hi : i < 32) : bt (x <<< ((8 : Int32) &&& 31)) i = (decide (8 ≤ i) && bt x (i - 8)) := b_shl 8 (by omega) x hi
theorem b_shl16 (x : Int32) {i : Nat} (hi : i < 32) : bt (x <<< ((16 : Int32) &&& 31)) i = (decide (16 ≤ i) && bt x (i - 16)) := b_shl 16 (by omega) x hi
theorem b_shl24 (x : Int32) {i : Nat} (hi : i < 32) : bt (x <<< ((24 : Int32) &&& 31)) i = (decide (24 ≤ i) && bt x (i - 24)) := b_shl 24 (by omega) x hi
theorem b_sshr8 (x : Int32) {i : Nat} (hi : i < 32) : bt (x >>> ((8 : Int32) &&& 31)) i = if 8 + i < 32 then bt x (8 + i) else bt x 31 := b_sshr 8 (by omega) x hi
/-! ===== nI under and, xor, >>>, one bit, 65535 ===== -/
theorem nx_and (a b : Nat) : nI a &&& nI b = nI (a &&& b) := by
  apply Int32.toBitVec_inj.1
  show BitVec.ofNat 32 a &&& BitVec.ofNat 32 b = BitVec.ofNat 32 (a &&& b)
  apply BitVec.eq_of_getLsbD_eq
  intro i hi
  simp [hi]
theorem nx_xor (a b : Nat) : nI a ^^^ nI b = nI (a ^^^ b) := by
  apply Int32.toBitVec_inj.1
  show BitVec.ofNat 32 a ^^^ BitVec.ofNat 32 b = BitVec.ofNat 32 (a ^^^ b)
  apply BitVec.eq_of_getLsbD_eq
  intro i hi
  simp [hi]
theorem nx_cnt : ∀ j : Fin 32, (UInt32.ofNat j.val &&& Int32.toUInt32 31).toNat % 32 = j.val := by decide +kernel
theorem nx_ush {k j : Nat} (hk : k < 65536) (hj : j < 32) : ((nI k).toUInt32 >>> ((nI j).toUInt32 &&& Int32.toUInt32 31)).toInt32 = nI (k >>> j) := by
  have hs : k >>> j ≤ k := by
    rw [Nat.shiftRight_eq_div_pow]
    exact Nat.div_le_self _ _
  have e2 : UInt32.ofNat k >>> (UInt32.ofNat j &&& Int32.toUInt32 31) = UInt32.ofNat (k >>> j) := by
    apply UInt32.toNat_inj.1
    have h1 : (UInt32.ofNat k).toNat = k := Nat.mod_eq_of_lt (by omega)
    have h2 : (UInt32.ofNat (k >>> j)).toNat = k >>> j := Nat.mod_eq_of_lt (by omega)
    rw [UInt32.toNat_shiftRight, nx_cnt ⟨j, hj⟩, h1, h2]
  show (UInt32.ofNat k >>> (UInt32.ofNat j &&& Int32.toUInt32 31)).toInt32 = _
  rw [e2]
  rfl
theorem nx_bit {k j : Nat} (hk : k < 65536) (hj : j < 16) : (((nI k).toUInt32 >>> ((nI j).toUInt32 &&& Int32.toUInt32 31)).toInt32 &&& 1) = 0 ↔ k.testBit j = false := by
  rw [nx_ush hk (by omega)]
  show nI (k >>> j) &&& nI 1 = 0 ↔ _
  rw [nx_and, Nat.and_one_is_mod, ← nI_0, nI_eq (by omega) (by omega), Nat.testBit_eq_decide_div_mod_eq, Nat.shiftRight_eq_div_pow, decide_eq_false_iff_not]
  generalize k / 2 ^ j = z
  omega
theorem nx_mod (k : Nat) : nI k &&& 65535 = nI (k % 65536) := by
  show nI k &&& nI 65535 = _
  rw [nx_and, show (65535 : Nat) = 2 ^ 16 - 1 from rfl, Nat.and_two_pow_sub_one_eq_mod]
theorem nx_m16 {k : Nat} (h : k < 65536) : nI k &&& 65535 = nI k := by rw [nx_mod, Nat.mod_eq_of_lt h]
theorem nx_mask (x : Int32) : ∃ k, k < 65536 ∧ x &&& 65535 = nI k := by
  have e : x = nI x.toBitVec.toNat := by
    apply Int32.toBitVec_inj.1
    show x.toBitVec = BitVec.ofNat 32 x.toBitVec.toNat
    simp
  refine ⟨x.toBitVec.toNat % 65536, Nat.mod_lt _ (by omega), ?_⟩
  rw [← nx_mod, ← e]
/-! ===== Int32 as a set of bits: test, set ===== -/
def nf_M (m : Int32) : Nat := 4294967296 - m.toBitVec.toNat
theorem nf_sh : ∀ l, l < 32 → ((1 : Int32) <<< (nI l &&& 31)).toBitVec = BitVec.twoPow 32 l := by decide +kernel
theorem nf_sl : ∀ l, l < 32 → (((nI l).toUInt32 &&& Int32.toUInt32 31).toBitVec % 32).toNat = l := by decide +kernel
theorem nf_tp : ∀ l, l < 32 → BitVec.twoPow 32 l ≠ 0#32 := by decide +kernel
theorem nf_bit (m : Int32) (l : Nat) (hl : l < 32) : ((m.toUInt32 >>> ((nI l).toUInt32 &&& Int32.toUInt32 31)).toInt32 &&& 1) = 0 ↔ (m &&& ((1 : Int32) <<< (nI l &&& 31))) = 0 := by
  have e : ((m.toUInt32 >>> ((nI l).toUInt32 &&& Int32.toUInt32 31)).toInt32).toBitVec = m.toBitVec >>> l := by
    show m.toBitVec >>> (((nI l).toUInt32 &&& Int32.toUInt32 31).toBitVec % 32) = m.toBitVec >>> l
    rw [BitVec.ushiftRight_eq', nf_sl l hl]
  rw [← Int32.toBitVec_inj, ← Int32.toBitVec_inj, Int32.toBitVec_and, Int32.toBitVec_and, nf_sh l hl, e, BitVec.and_twoPow]
  show (m.toBitVec >>> l &&& 1#32) = 0#32 ↔ _ = 0#32
  rw [BitVec.and_one_eq_setWidth_ofBool_getLsbD, BitVec.getLsbD_ushiftRight, Nat.add_zero]
  cases hb : m.toBitVec.getLsbD l
  · exact ⟨fun _ => by simp, fun _ => by decide⟩
  · exact ⟨fun z => absurd z (by decide), fun z => absurd ((if_pos rfl).symm.trans z) (nf_tp l hl)⟩
theorem nf_gr (m k : Int32) (h : m &&& k = 0) (hk : k ≠ 0) : nf_M (m ||| k) < nf_M m := by
  have hm := m.toBitVec.isLt
  have hm' := (m ||| k).toBitVec.isLt
  have h1 : m.toBitVec.toNat ≤ (m ||| k).toBitVec.toNat := by
    rw [Int32.toBitVec_or, BitVec.toNat_or]
    exact Nat.left_le_or
  have h2 : m.toBitVec.toNat ≠ (m ||| k).toBitVec.toNat := by
    intro e
    have e2 : m = m ||| k := Int32.toBitVec_inj.mp (BitVec.eq_of_toNat_eq e)
    apply hk
    apply Int32.toBitVec_inj.mp
    show k.toBitVec = 0#32
    apply BitVec.eq_of_getLsbD_eq
    intro i hi
    have a : m.toBitVec.getLsbD i = (m.toBitVec.getLsbD i || k.toBitVec.getLsbD i) := by rw [← BitVec.getLsbD_or, ← Int32.toBitVec_or, ← e2]
    have b : (m.toBitVec.getLsbD i && k.toBitVec.getLsbD i) = false := by
      rw [← BitVec.getLsbD_and, ← Int32.toBitVec_and, h]
      exact BitVec.getLsbD_zero
    rw [BitVec.getLsbD_zero]
    revert a b
    cases m.toBitVec.getLsbD i <;> cases k.toBitVec.getLsbD i <;> simp
  unfold nf_M
  omega
/-! ===== a byte read unsigned ===== -/
theorem bp_b (x : Int32) : x.toInt8.toInt32 &&& 255 = x &&& 255 := by
  apply Int32.toBitVec_inj.mp
  rw [Int32.toBitVec_and, Int32.toBitVec_and, Int8.toBitVec_toInt32, Int32.toBitVec_toInt8]
  apply BitVec.eq_of_getLsbD_eq
  intro i hi
  rw [BitVec.getLsbD_and, BitVec.getLsbD_and]
  have hm : ∀ i < 32, 8 ≤ i → (255 : Int32).toBitVec.getLsbD i = false := by decide
  rcases Nat.lt_or_ge i 8 with z | z
  · rw [BitVec.getLsbD_signExtend, BitVec.getLsbD_signExtend, if_pos z, if_pos hi]
    simp only [z, hi, decide_true, Bool.true_and]
  · rw [hm i hi z]; simp
/-! ===== the char cast and 65535 ===== -/
theorem em_w (v : Int32) : ∃ w : Nat, w < 65536 ∧ (v.toUInt32 % 65536).toInt32 = nI w ∧ v &&& 65535 = nI w := by
  have hr := lw_u16_r v
  have h0 : (0 : Int32).toInt = 0 := by decide
  obtain ⟨w, h1, h2⟩ := nI_of (x := lw_u16 v) (by rw [Int32.lt_iff_toInt_lt]; omega)
  have h3 : (v.toUInt32 % 65536).toInt32 = nI w := h2
  rw [h2, nI_toInt h1] at hr
  exact ⟨w, by omega, h3, by rw [← lg_i2c_mask, ← lg_i2c_nf, h3]⟩
/-! ===== Int64 as a set of bits: test, set, clear ===== -/
theorem ts_nf {x : Bool} (h : ¬ x = false) : x = true := by cases x <;> first | rfl | exact absurd rfl h
theorem ts_nt {x : Bool} (h : ¬ x = true) : x = false := by cases x <;> first | rfl | exact absurd rfl h
theorem ts_bit {w : Int64} {s : UInt64} {j : Nat} (hj : j < 64) (hs : s.toNat = j) : ((w.toUInt64 >>> s).toInt64 &&& 1) = 0 ↔ w.toBitVec.getLsbD j = false := by
  have e : (w.toUInt64 >>> s).toInt64.toBitVec = w.toBitVec >>> j := by
    apply BitVec.eq_of_toNat_eq
    show (w.toUInt64 >>> s).toNat = _
    rw [UInt64.toNat_shiftRight, hs, Nat.mod_eq_of_lt hj, BitVec.toNat_ushiftRight]
    rfl
  rw [← Int64.toBitVec_inj, Int64.toBitVec_and, e]
  show w.toBitVec >>> j &&& 1#64 = 0#64 ↔ _
  constructor
  · intro h
    have t := congrArg (fun x => x.getLsbD 0) h
    simpa using t
  · intro h
    apply BitVec.eq_of_getLsbD_eq
    intro i hi
    cases i with
    | zero => simp [h]
    | succ i => simp
theorem ts_or {w m : Int64} {j : Nat} (hj : j < 64) (hm : m.toBitVec = BitVec.twoPow 64 j) : (w ||| m) = w ↔ w.toBitVec.getLsbD j = true := by
  rw [← Int64.toBitVec_inj, Int64.toBitVec_or, hm]
  constructor
  · intro h
    have t := congrArg (fun x => x.getLsbD j) h
    simp only [BitVec.getLsbD_or, BitVec.getLsbD_twoPow] at t
    simpa [hj] using t.symm
  · intro h
    apply BitVec.eq_of_getLsbD_eq
    intro i hi
    rw [BitVec.getLsbD_or, BitVec.getLsbD_twoPow]
    by_cases e : j = i
    · subst e; rw [h, Bool.true_or]
    · simp [e]
theorem ts_and {w m : Int64} {j : Nat} (hj : j < 64) (hm : m.toBitVec = BitVec.twoPow 64 j) : (w &&& (m ^^^ (-1))) = w ↔ w.toBitVec.getLsbD j = false := by
  have ha : (-1 : Int64).toBitVec = BitVec.allOnes 64 := by decide
  rw [← Int64.toBitVec_inj, Int64.toBitVec_and, Int64.toBitVec_xor, hm, ha]
  constructor
  · intro h
    have t := congrArg (fun x => x.getLsbD j) h
    simp only [BitVec.getLsbD_and, BitVec.getLsbD_xor, BitVec.getLsbD_twoPow, BitVec.getLsbD_allOnes] at t
    simpa [hj] using t.symm
  · intro h
    apply BitVec.eq_of_getLsbD_eq
    intro i hi
    rw [BitVec.getLsbD_and, BitVec.getLsbD_xor, BitVec.getLsbD_twoPow, BitVec.getLsbD_allOnes]
    by_cases e : j = i
    · subst e; rw [h, Bool.false_and]
    · simp [e, hi]
/-! ===== lN n to 2^64: shifts, and, or, masks, one bit ===== -/
theorem wb_tb (n : Nat) : (lN n).toBitVec = BitVec.ofNat 64 n := rfl
theorem wb_inj {a b : Int64} (h : a.toBitVec = b.toBitVec) : a = b := Int64.toBitVec_inj.mp h
theorem wb_tn {n : Nat} (h : n < 2 ^ 64) : (lN n).toBitVec.toNat = n := by rw [wb_tb, BitVec.toNat_ofNat, Nat.mod_eq_of_lt h]
theorem wb_of (x : Int64) : ∃ n, n < 2 ^ 64 ∧ x = lN n := ⟨x.toBitVec.toNat, x.toBitVec.isLt, wb_inj (by rw [wb_tb]; simp)⟩
theorem wb_of32 (x : Int32) : ∃ n, n < 2 ^ 32 ∧ x = nI n := ⟨x.toBitVec.toNat, x.toBitVec.isLt, Int32.toBitVec_inj.mp (by show _ = BitVec.ofNat 32 _; simp)⟩
theorem wb_c : ∀ k, k < 64 → ((nI k).toInt64 &&& 63) = lN k := by decide +kernel
theorem wb_cu : ∀ k, k < 64 → ((nI k).toInt64.toUInt64 &&& Int64.toUInt64 63) = UInt64.ofNat k := by decide +kernel
theorem wb_sm : ∀ k, k < 64 → (BitVec.ofNat 64 k).smod 64 = BitVec.ofNat 64 k := by decide +kernel
theorem wb_pw {a b : Nat} (h : a ≤ b) : 2 ^ b = 2 ^ a * 2 ^ (b - a) := by rw [← Nat.pow_add]; congr 1; omega
theorem wb_lt2 {a b : Nat} (h : a < b) : 2 ^ a < 2 ^ b := Nat.pow_lt_pow_right (by decide) h
theorem wb_mod (n : Nat) : lN n = lN (n % 2 ^ 64) := wb_inj (by rw [wb_tb, wb_tb]; apply BitVec.eq_of_toNat_eq; rw [BitVec.toNat_ofNat, BitVec.toNat_ofNat, Nat.mod_mod])
theorem wb_shr {n k : Nat} (hn : n < 2 ^ 64) (hk : k < 64) : ((lN n).toUInt64 >>> ((nI k).toInt64.toUInt64 &&& Int64.toUInt64 63)).toInt64 = lN (n / 2 ^ k) := by
  rw [wb_cu k hk]
  apply wb_inj
  apply BitVec.eq_of_toNat_eq
  show ((lN n).toUInt64 >>> UInt64.ofNat k).toNat = (BitVec.ofNat 64 _).toNat
  have h1 : (UInt64.ofNat k).toNat = k := by
    show (BitVec.ofNat 64 k).toNat = k
    rw [BitVec.toNat_ofNat, Nat.mod_eq_of_lt (by omega)]
  have h2 : (lN n).toUInt64.toNat = n := wb_tn hn
  rw [UInt64.toNat_shiftRight, h1, h2, Nat.mod_eq_of_lt hk, Nat.shiftRight_eq_div_pow, BitVec.toNat_ofNat, Nat.mod_eq_of_lt (Nat.lt_of_le_of_lt (Nat.div_le_self _ _) hn)]
theorem wb_shl (n : Nat) {k : Nat} (hk : k < 64) : lN n <<< ((nI k).toInt64 &&& 63) = lN (n * 2 ^ k) := by
  rw [wb_c k hk]
  apply wb_inj
  rw [Int64.toBitVec_shiftLeft, wb_tb, wb_tb, wb_tb, wb_sm k hk]
  apply BitVec.eq_of_toNat_eq
  rw [BitVec.shiftLeft_eq', BitVec.toNat_shiftLeft, BitVec.toNat_ofNat, BitVec.toNat_ofNat, BitVec.toNat_ofNat, Nat.mod_eq_of_lt (show k < 2 ^ 64 by omega), Nat.shiftLeft_eq, Nat.mul_mod, Nat.mod_mod, ← Nat.mul_mod]
theorem wb_and {a b : Nat} (ha : a < 2 ^ 64) (hb : b < 2 ^ 64) : lN a &&& lN b = lN (a &&& b) := by
  apply wb_inj
  rw [Int64.toBitVec_and, wb_tb, wb_tb, wb_tb]
  apply BitVec.eq_of_toNat_eq
  rw [BitVec.toNat_and, BitVec.toNat_ofNat, BitVec.toNat_ofNat, BitVec.toNat_ofNat, Nat.mod_eq_of_lt ha, Nat.mod_eq_of_lt hb, Nat.mod_eq_of_lt (Nat.and_lt_two_pow _ hb)]
theorem wb_or {a b : Nat} (ha : a < 2 ^ 64) (hb : b < 2 ^ 64) : lN a ||| lN b = lN (a ||| b) := by
  apply wb_inj
  rw [Int64.toBitVec_or, wb_tb, wb_tb, wb_tb]
  apply BitVec.eq_of_toNat_eq
  rw [BitVec.toNat_or, BitVec.toNat_ofNat, BitVec.toNat_ofNat, BitVec.toNat_ofNat, Nat.mod_eq_of_lt ha, Nat.mod_eq_of_lt hb, Nat.mod_eq_of_lt (Nat.or_lt_two_pow ha hb)]
theorem wb_mask {n k : Nat} (hn : n < 2 ^ 64) (hk : k < 64) : lN n &&& lN (2 ^ k - 1) = lN (n % 2 ^ k) := by
  rw [wb_and hn (by have := wb_lt2 hk; omega), Nat.and_two_pow_sub_one_eq_mod]
theorem wb_a1 {n : Nat} (hn : n < 2 ^ 64) : lN n &&& 1 = lN (n % 2) := wb_mask (k := 1) hn (by decide)
theorem wb_bit {n k : Nat} (hn : n < 2 ^ 64) (hk : k < 64) : ((lN n).toUInt64 >>> ((nI k).toInt64.toUInt64 &&& Int64.toUInt64 63)).toInt64 &&& 1 = lN (n / 2 ^ k % 2) := by
  rw [wb_shr hn hk, wb_a1 (Nat.lt_of_le_of_lt (Nat.div_le_self _ _) hn)]
theorem wb_xor {q k : Nat} (hk : k < 63) (h : 2 ^ k ≤ q) (h2 : q < 2 ^ (k + 1)) : lN q ^^^ lN (2 ^ k) = lN (q - 2 ^ k) := by
  obtain ⟨r, rfl⟩ : ∃ r, q = 2 ^ k + r := ⟨q - 2 ^ k, by omega⟩
  have hr : r < 2 ^ k := by rw [Nat.pow_succ] at h2; omega
  have hx : (2 ^ k + r) ^^^ 2 ^ k = r := by
    apply Nat.eq_of_testBit_eq
    intro i
    rw [Nat.testBit_xor, Nat.testBit_two_pow]
    rcases Nat.lt_trichotomy i k with h | h | h
    · rw [Nat.testBit_two_pow_add_gt h]
      simp [show ¬ k = i by omega]
    · subst h
      rw [Nat.testBit_two_pow_add_eq]
      simp
    · have a1 : 2 ^ (k + 1) ≤ 2 ^ i := Nat.pow_le_pow_right (by decide) h
      rw [Nat.testBit_lt_two_pow (show 2 ^ k + r < 2 ^ i by omega), Nat.testBit_lt_two_pow (show r < 2 ^ i by omega)]
      simp [show ¬ k = i by omega]
  have b1 := wb_lt2 (show k + 1 < 64 by omega)
  have b2 := wb_lt2 (show k < 64 by omega)
  apply wb_inj
  rw [Int64.toBitVec_xor, wb_tb, wb_tb, wb_tb]
  apply BitVec.eq_of_toNat_eq
  rw [BitVec.toNat_xor, BitVec.toNat_ofNat, BitVec.toNat_ofNat, BitVec.toNat_ofNat, Nat.mod_eq_of_lt (by omega : 2 ^ k + r < 2 ^ 64), Nat.mod_eq_of_lt b2, hx, Nat.add_sub_cancel_left, Nat.mod_eq_of_lt (by omega)]
/-! ===== lN: masks, 'or' of parts that don't overlap is a sum ===== -/
theorem u_tn {n : Nat} (h : n < 2 ^ 64) : (UInt64.ofNat n).toNat = n := Nat.mod_eq_of_lt h
theorem g_and {a b c : Nat} (ha : a < 2 ^ 64) (hb : b < 2 ^ 64) (hc : a &&& b = c) : lN a &&& lN b = lN c := by
  subst hc
  have h : UInt64.ofNat a &&& UInt64.ofNat b = UInt64.ofNat (a &&& b) := UInt64.toNat_inj.mp (by rw [UInt64.toNat_and, u_tn ha, u_tn hb, u_tn (Nat.and_lt_two_pow a hb)])
  have h2 := congrArg UInt64.toInt64 h
  exact h2
theorem g_and1 {a : Nat} (ha : a < 2 ^ 64) : lN a &&& 1 = lN (a % 2) := g_and (b := 1) ha (by decide) (Nat.and_two_pow_sub_one_eq_mod a 1)
theorem g_mask {a s p : Nat} (hp : 2 ^ s = p) (hs : s < 64) (ha : a < 2 ^ 64) : lN a &&& lN (p - 1) = lN (a % p) := by
  subst hp
  have := Nat.pow_lt_pow_right (show 1 < 2 by decide) hs
  exact g_and ha (by omega) (Nat.and_two_pow_sub_one_eq_mod a s)
theorem g_or {k p a b : Nat} (hp : 2 ^ k = p) (ha : a < p) (h : b * p + a < 2 ^ 64) : lN (b * p) ||| lN a = lN (b * p + a) := by
  subst hp
  have h1 : b * 2 ^ k ||| a = b * 2 ^ k + a := by rw [← Nat.shiftLeft_eq, Nat.shiftLeft_add_eq_or_of_lt ha]
  have h3 : UInt64.ofNat (b * 2 ^ k) ||| UInt64.ofNat a = UInt64.ofNat (b * 2 ^ k + a) := UInt64.toNat_inj.mp (by rw [UInt64.toNat_or, u_tn (by omega), u_tn (by omega), u_tn h, h1])
  have h2 := congrArg UInt64.toInt64 h3
  exact h2
theorem g_or' {k p a b : Nat} (hp : 2 ^ k = p) (ha : a < p) (h : a + b * p < 2 ^ 64) : lN a ||| lN (b * p) = lN (a + b * p) := by
  rw [Int64.or_comm, g_or hp ha (by omega), Nat.add_comm]
theorem g_ushr {a k p : Nat} {y : UInt64} (hy : y = UInt64.ofNat k) (hk : k < 64) (hp : 2 ^ k = p) (ha : a < 2 ^ 64) : ((lN a).toUInt64 >>> y).toInt64 = lN (a / p) := by
  subst hy hp
  have h : UInt64.ofNat a >>> UInt64.ofNat k = UInt64.ofNat (a / 2 ^ k) := UInt64.toNat_inj.mp (by rw [UInt64.toNat_shiftRight, u_tn ha, u_tn (by omega), u_tn (Nat.lt_of_le_of_lt (Nat.div_le_self _ _) ha), Nat.mod_eq_of_lt hk, Nat.shiftRight_eq_div_pow])
  have h2 := congrArg UInt64.toInt64 h
  exact h2
theorem g_shl {a k p : Nat} {y : Int64} (hy : y.toBitVec.smod 64 = BitVec.ofNat 64 k) (hk : k < 64) (hp : 2 ^ k = p) (ha : a < 2 ^ 64) : lN a <<< y = lN (a * p) := by
  subst hp
  apply Int64.toBitVec_inj.mp
  rw [Int64.toBitVec_shiftLeft, hy]
  apply BitVec.eq_of_toNat_eq
  have hb : (lN a).toBitVec.toNat = a := Nat.mod_eq_of_lt ha
  have hk' : (BitVec.ofNat 64 k).toNat = k := Nat.mod_eq_of_lt (by omega)
  have h : ((lN a).toBitVec <<< BitVec.ofNat 64 k).toNat = (a * 2 ^ k) % 2 ^ 64 := by simp only [BitVec.shiftLeft_eq', BitVec.toNat_shiftLeft, hb, hk', Nat.shiftLeft_eq]
  exact h
/-! ===== lN to 2^62 under >> and >>> ===== -/
theorem pf_lI {a : Nat} (h : a < 2 ^ 63) : (lN a).toInt = (a : Int) := lg_ofNat_toInt h
theorem pf_shr {a d : Nat} {D : Int64} (hD : (D.toBitVec.smod 64).toNat = d) (h : a < 2 ^ 62) : lN a >>> D = lN (a / 2 ^ d) := by
  have hd : a / 2 ^ d ≤ a := Nat.div_le_self _ _
  apply Int64.toInt_inj.mp
  have e : (lN a >>> D).toInt = (lN a).toInt >>> d := by
    rw [← hD]
    exact BitVec.toInt_sshiftRight ..
  rw [e, Int.shiftRight_eq_div_pow, pf_lI (by omega), pf_lI (by omega)]
  rfl
theorem pf_ushr {a d : Nat} {D : UInt64} (hD : D.toNat % 64 = d) (h : a < 2 ^ 62) : ((lN a).toUInt64 >>> D).toInt64 = lN (a / 2 ^ d) := by
  have hd : a / 2 ^ d ≤ a := Nat.div_le_self _ _
  have e : (lN a).toUInt64 >>> D = UInt64.ofNat (a / 2 ^ d) := UInt64.toNat_inj.mp (by
    rw [UInt64.toNat_shiftRight, hD, Nat.shiftRight_eq_div_pow, UInt64.toNat_ofNat']
    show (UInt64.ofNat a).toNat / 2 ^ d = _
    rw [UInt64.toNat_ofNat', Nat.mod_eq_of_lt (by omega), Nat.mod_eq_of_lt (by omega)])
  rw [e]
  rfl
theorem pf_andw (x : Int64) : ∃ m, m < 2 ^ 32 ∧ x &&& 4294967295 = lN m := ⟨x.toBitVec.toNat % 2 ^ 32, Nat.mod_lt _ (by decide), Int64.toBitVec_inj.mp (BitVec.eq_of_toNat_eq (by
  show (x.toBitVec &&& 4294967295#64).toNat = (BitVec.ofNat 64 (x.toBitVec.toNat % 2 ^ 32)).toNat
  rw [BitVec.toNat_and, show (4294967295#64).toNat = 2 ^ 32 - 1 from by decide, Nat.and_two_pow_sub_one_eq_mod, BitVec.toNat_ofNat]
  omega))⟩
/-! ===== Int64 as an unsigned number: uN x ===== -/
def uN (x : Int64) : Nat := x.toUInt64.toNat
theorem uN_lt (x : Int64) : uN x < 18446744073709551616 := x.toUInt64.toNat_lt
theorem uN_inj {x y : Int64} (h : uN x = uN y) : x = y := congrArg UInt64.toInt64 (UInt64.toNat_inj.mp h)
theorem uN_add (x y : Int64) : uN (x + y) = (uN x + uN y) % 18446744073709551616 := by
  show (x.toUInt64 + y.toUInt64).toNat = _
  exact UInt64.toNat_add _ _
theorem uN_mul (x y : Int64) : uN (x * y) = (uN x * uN y) % 18446744073709551616 := by
  show (x.toUInt64 * y.toUInt64).toNat = _
  exact UInt64.toNat_mul _ _
theorem uN_shl (x : Int64) : uN (x <<< ((1 : Int32).toInt64 &&& 63)) = (2 * uN x) % 18446744073709551616 := by
  have h : (((1 : Int32).toInt64 &&& 63).toBitVec.smod 64).toNat = 1 := by decide
  show (x.toBitVec <<< (((1 : Int32).toInt64 &&& 63).toBitVec.smod 64).toNat).toNat = _
  rw [h, BitVec.toNat_shiftLeft, Nat.shiftLeft_eq, Nat.mul_comm]
  rfl
theorem uN_shr (x : Int64) (s : UInt64) : uN (x.toUInt64 >>> s).toInt64 = uN x / 2 ^ (s.toNat % 64) := by
  show (x.toUInt64 >>> s).toNat = _
  rw [UInt64.toNat_shiftRight, Nat.shiftRight_eq_div_pow]
  rfl
theorem uN_s32 (x : Int64) : uN (x.toUInt64 >>> ((32 : Int32).toInt64.toUInt64 &&& Int64.toUInt64 63)).toInt64 = uN x / 4294967296 := by
  have h : ((32 : Int32).toInt64.toUInt64 &&& Int64.toUInt64 63).toNat % 64 = 32 := by decide
  rw [uN_shr, h]
theorem uN_s63 (x : Int64) : uN (x.toUInt64 >>> ((63 : Int32).toInt64.toUInt64 &&& Int64.toUInt64 63)).toInt64 = uN x / 9223372036854775808 := by
  have h : ((63 : Int32).toInt64.toUInt64 &&& Int64.toUInt64 63).toNat % 64 = 63 := by decide
  rw [uN_shr, h]
theorem uN_lo (x : Int64) : uN (x &&& 4294967295) = uN x % 4294967296 := by
  show (x.toUInt64 &&& Int64.toUInt64 4294967295).toNat = _
  rw [UInt64.toNat_and]
  exact Nat.and_two_pow_sub_one_eq_mod _ 32
theorem uN_bit (x : Int64) : (x &&& 1) = 0 ↔ uN x % 2 = 0 := by
  have h : uN (x &&& 1) = uN x % 2 := by
    show (x.toUInt64 &&& Int64.toUInt64 1).toNat = _
    rw [UInt64.toNat_and]
    exact Nat.and_two_pow_sub_one_eq_mod _ 1
  rw [← h]
  exact ⟨fun z => by rw [z]; rfl, fun z => uN_inj (z.trans rfl)⟩
theorem uN_or {x y : Int64} (hy : uN y < 2) : uN ((x <<< ((1 : Int32).toInt64 &&& 63)) ||| y) = (2 * uN x) % 18446744073709551616 + uN y := by
  have h1 : uN ((x <<< ((1 : Int32).toInt64 &&& 63)) ||| y) = uN (x <<< ((1 : Int32).toInt64 &&& 63)) ||| uN y := UInt64.toNat_or _ _
  have h2 : (2 * uN x) % 18446744073709551616 = 2 ^ 1 * (uN x % 9223372036854775808) := by omega
  rw [h1, uN_shl, h2]
  exact (Nat.two_pow_add_eq_or_of_lt (i := 1) hy _).symm
theorem nat_xor {a : Nat} (h : a < 18446744073709551616) : a ^^^ 2 ^ 63 = (a + 9223372036854775808) % 18446744073709551616 := by
  have h1 : (a ^^^ 2 ^ 63) % 2 ^ 63 = a % 2 ^ 63 := by rw [Nat.xor_mod_two_pow, Nat.mod_self, Nat.xor_zero]
  have h2 : (a ^^^ 2 ^ 63) / 2 ^ 63 = (a / 2 ^ 63) ^^^ 1 := by rw [Nat.xor_div_two_pow, Nat.div_self (Nat.two_pow_pos 63)]
  have h3 : a / 2 ^ 63 = 0 ∨ a / 2 ^ 63 = 1 := by omega
  generalize a ^^^ 2 ^ 63 = t at h1 h2
  rcases h3 with h3 | h3
  · rw [h3] at h2
    have h2 : t / 2 ^ 63 = 1 := h2
    omega
  · rw [h3] at h2
    have h2 : t / 2 ^ 63 = 0 := h2
    omega
theorem uN_xor (x : Int64) : uN (x ^^^ (-9223372036854775808)) = (uN x + 9223372036854775808) % 18446744073709551616 := by
  rw [← nat_xor (uN_lt x)]
  exact UInt64.toNat_xor _ _
theorem uN_int (x : Int64) : x.toInt = if 2 * uN x < 18446744073709551616 then (uN x : Int) else (uN x : Int) - 18446744073709551616 := BitVec.toInt_eq_toNat_cond _
theorem uN_le (x y : Int64) : (x ^^^ (-9223372036854775808)) ≤ (y ^^^ (-9223372036854775808)) ↔ uN x ≤ uN y := by
  have hx := uN_lt x
  have hy := uN_lt y
  rw [Int64.le_iff_toInt_le, uN_int, uN_int, uN_xor, uN_xor]
  omega
theorem uN_sk (x : Int64) {k : Nat} (hk : k < 64) : uN (x.toUInt64 >>> ((nI k).toInt64.toUInt64 &&& Int64.toUInt64 63)).toInt64 = uN x / 2 ^ k := by
  have h : ((nI k).toInt64.toUInt64 &&& Int64.toUInt64 63).toNat % 64 = k := by
    rw [nI_l (by omega), UInt64.toNat_and]
    have e : (lN k).toUInt64.toNat = k % 2 ^ 64 := rfl
    have e2 : (Int64.toUInt64 63).toNat = 2 ^ 6 - 1 := by decide
    rw [e, e2, Nat.and_two_pow_sub_one_eq_mod]
    omega
  rw [uN_shr, h]
/-! ===== unsigned comparison by xor with the least ===== -/
theorem lN_bv (n : Nat) : (lN n).toBitVec = BitVec.ofNat 64 n := rfl
theorem lN_nat {n : Nat} (h : n < 2 ^ 64) : (lN n).toBitVec.toNat = n := by rw [lN_bv, BitVec.toNat_ofNat]; exact Nat.mod_eq_of_lt h
theorem lN_xor (a b : Nat) : lN a ^^^ lN b = lN (a ^^^ b) := by
  apply Int64.toBitVec_inj.mp; rw [Int64.toBitVec_xor, lN_bv, lN_bv, lN_bv]; apply BitVec.eq_of_getLsbD_eq; intro i hi; simp [BitVec.getLsbD_ofNat, Nat.testBit_xor, hi]
theorem lN_ti {m : Nat} (h : m < 2 ^ 64) : (lN m).toInt = if m < 2 ^ 63 then (m : Int) else (m : Int) - 2 ^ 64 := by
  have c := BitVec.toInt_eq_toNat_cond (lN m).toBitVec
  rw [lN_nat h] at c
  show (lN m).toBitVec.toInt = _
  rw [c]
  split <;> split <;> omega
theorem xor63 {x : Nat} (h : x < 2 ^ 63) : x ^^^ 2 ^ 63 = 2 ^ 63 + x := by
  apply Nat.eq_of_testBit_eq
  intro i
  rw [Nat.testBit_xor, Nat.testBit_two_pow]
  rcases Nat.lt_trichotomy i 63 with z | z | z
  · rw [Nat.testBit_two_pow_add_gt z, decide_eq_false (by omega)]; simp
  · subst z; rw [Nat.testBit_two_pow_add_eq]; simp
  · have hp : 2 ^ 64 ≤ 2 ^ i := Nat.pow_le_pow_right (by decide) z
    rw [Nat.testBit_lt_two_pow (show x < 2 ^ i by omega), Nat.testBit_lt_two_pow (show 2 ^ 63 + x < 2 ^ i by omega), decide_eq_false (by omega)]; rfl
theorem xorS {a : Nat} (h : a < 2 ^ 64) : (lN a ^^^ (-9223372036854775808)).toInt = (a : Int) - 2 ^ 63 := by
  rw [show (-9223372036854775808 : Int64) = lN (2 ^ 63) from by decide +kernel, lN_xor]
  rcases Nat.lt_or_ge a (2 ^ 63) with z | z
  · rw [xor63 z, lN_ti (by omega), if_neg (by omega)]; omega
  · obtain ⟨x, rfl⟩ : ∃ x, a = 2 ^ 63 + x := ⟨a - 2 ^ 63, by omega⟩
    rw [← xor63 (by omega), Nat.xor_assoc, Nat.xor_self, Nat.xor_zero, lN_ti (by omega), if_pos (by omega), xor63 (by omega)]; omega
theorem ultL {a b : Nat} (ha : a < 2 ^ 64) (hb : b < 2 ^ 64) : ((lN b ^^^ (-9223372036854775808)) ≤ (lN a ^^^ (-9223372036854775808))) ↔ b ≤ a := by
  rw [Int64.le_iff_toInt_le, xorS ha, xorS hb]; omega
/-! ===== Int64 masks of n low bits ===== -/
theorem cr_bits (W U M : BitVec 64) : ((W &&& U) &&& (U &&& (M ^^^ BitVec.allOnes 64))) = 0#64 ↔ (W &&& U) &&& M = W &&& U := by
  constructor
  · intro h
    apply BitVec.eq_of_getLsbD_eq
    intro i hi
    have e := congrArg (fun x => BitVec.getLsbD x i) h
    simp only [BitVec.getLsbD_and, BitVec.getLsbD_xor, BitVec.getLsbD_allOnes, BitVec.getLsbD_zero, hi, decide_true] at e ⊢
    revert e
    cases W.getLsbD i <;> cases U.getLsbD i <;> cases M.getLsbD i <;> decide
  · intro h
    apply BitVec.eq_of_getLsbD_eq
    intro i hi
    have e := congrArg (fun x => BitVec.getLsbD x i) h
    simp only [BitVec.getLsbD_and, BitVec.getLsbD_xor, BitVec.getLsbD_allOnes, BitVec.getLsbD_zero, hi, decide_true] at e ⊢
    revert e
    cases W.getLsbD i <;> cases U.getLsbD i <;> cases M.getLsbD i <;> decide
theorem cr_mask (w U m : Int64) (n : Nat) (hm : m.toBitVec.toNat = 2 ^ n - 1) : ((w &&& U) &&& (U &&& (m ^^^ (-1)))) = 0 ↔ (w &&& U).toBitVec.toNat < 2 ^ n := by
  have e0 : (-1 : Int64).toBitVec = BitVec.allOnes 64 := by decide
  have z0 : (0 : Int64).toBitVec = 0#64 := by decide
  rw [← Int64.toBitVec_inj, z0, Int64.toBitVec_and, Int64.toBitVec_and, Int64.toBitVec_and, Int64.toBitVec_xor, e0, cr_bits]
  generalize w.toBitVec &&& U.toBitVec = T
  rw [← BitVec.toNat_inj, BitVec.toNat_and, hm, Nat.and_two_pow_sub_one_eq_mod]
  constructor
  · intro h
    have t := Nat.mod_lt T.toNat (Nat.two_pow_pos n)
    rw [h] at t
    exact t
  · exact Nat.mod_eq_of_lt
theorem cr_shr (t : Int64) (x : UInt64) (n : Nat) (hx : x.toNat % 64 = n) : (t.toUInt64 >>> x).toInt64 = 0 ↔ t.toBitVec.toNat < 2 ^ n := by
  rw [← Int64.toBitVec_inj, ← BitVec.toNat_inj]
  show (t.toUInt64 >>> x).toNat = 0 ↔ t.toUInt64.toNat < 2 ^ n
  rw [UInt64.toNat_shiftRight, hx, Nat.shiftRight_eq_div_pow]
  constructor
  · intro h
    have d : t.toUInt64.toNat / 2 ^ n < 1 := by
      rw [h]
      decide
    have e := (Nat.div_lt_iff_lt_mul (Nat.two_pow_pos n)).mp d
    rw [Nat.one_mul] at e
    exact e
  · exact Nat.div_eq_of_lt
theorem cr_amt (s : Int64) : ∃ n, n < 64 ∧ s &&& 63 = lN n ∧ (s.toUInt64 &&& Int64.toUInt64 63).toNat % 64 = n := by
  have e : (s.toUInt64 &&& Int64.toUInt64 63).toNat = s.toUInt64.toNat % 2 ^ 6 := by
    rw [UInt64.toNat_and, show (Int64.toUInt64 63).toNat = 2 ^ 6 - 1 from by decide, Nat.and_two_pow_sub_one_eq_mod]
  refine ⟨s.toUInt64.toNat % 2 ^ 6, by omega, ?_, by omega⟩
  rw [← Int64.toBitVec_inj, ← BitVec.toNat_inj]
  show (s.toUInt64 &&& Int64.toUInt64 63).toNat = (BitVec.ofNat 64 (s.toUInt64.toNat % 2 ^ 6)).toNat
  rw [e, BitVec.toNat_ofNat]
  omega
end
section
/-! ===== counting, least sets and their levels, bits ===== -/
noncomputable def ps_b (p : Prop) : Bool := @decide p (Classical.propDecidable p)
theorem ps_b_iff {p : Prop} : ps_b p = true ↔ p := by
  unfold ps_b
  exact @decide_eq_true_iff p (Classical.propDecidable p)
theorem ps_b_f {p : Prop} : ps_b p = false ↔ ¬ p := by
  rw [← Bool.not_eq_true, ps_b_iff]
theorem ps_b_c {p q : Prop} (h : p ↔ q) : ps_b p = ps_b q := by
  rw [propext h]
def ps_cn (P : Nat → Bool) : Nat → Nat
  | 0 => 0
  | n + 1 => ps_cn P n + (if P n = true then 1 else 0)
theorem ps_cn_s (P : Nat → Bool) (n : Nat) : ps_cn P (n + 1) = ps_cn P n + (if P n = true then 1 else 0) := rfl
theorem ps_cn_t {P : Nat → Bool} {n : Nat} (h : P n = true) : ps_cn P (n + 1) = ps_cn P n + 1 := by
  rw [ps_cn_s, if_pos h]
theorem ps_cn_f {P : Nat → Bool} {n : Nat} (h : ¬ P n = true) : ps_cn P (n + 1) = ps_cn P n := by
  rw [ps_cn_s, if_neg h, Nat.add_zero]
theorem ps_cn_le (P : Nat → Bool) : ∀ n, ps_cn P n ≤ n := by
  intro n
  induction n with
  | zero => exact Nat.le_refl 0
  | succ n ih =>
    by_cases h : P n = true
    · rw [ps_cn_t h]; omega
    · rw [ps_cn_f h]; omega
theorem ps_cn_mono1 (P : Nat → Bool) (a : Nat) : ps_cn P a ≤ ps_cn P (a + 1) := by
  by_cases h : P a = true
  · rw [ps_cn_t h]; omega
  · rw [ps_cn_f h]; omega
theorem ps_cn_mono (P : Nat → Bool) (a : Nat) : ∀ d, ps_cn P a ≤ ps_cn P (a + d) := by
  intro d
  induction d with
  | zero => exact Nat.le_refl _
  | succ d ih => exact Nat.le_trans ih (ps_cn_mono1 P (a + d))
theorem ps_cn_mon (P : Nat → Bool) {a b : Nat} (h : a ≤ b) : ps_cn P a ≤ ps_cn P b := by
  obtain ⟨d, rfl⟩ : ∃ d, b = a + d := ⟨b - a, by omega⟩
  exact ps_cn_mono P a d
theorem ps_cn_sub {P Q : Nat → Bool} : ∀ n, (∀ i, i < n → P i = true → Q i = true) → ps_cn P n ≤ ps_cn Q n := by
  intro n
  induction n with
  | zero => intro _; exact Nat.le_refl 0
  | succ n ih =>
    intro h
    have h1 := ih (fun i hi => h i (by omega))
    by_cases hp : P n = true
    · rw [ps_cn_t hp, ps_cn_t (h n (by omega) hp)]; omega
    · rw [ps_cn_f hp]
      exact Nat.le_trans h1 (ps_cn_mono1 Q n)
theorem ps_cn_slt {P Q : Nat → Bool} {i : Nat} (hP : ¬ P i = true) (hQ : Q i = true) : ∀ n, i < n → (∀ i, i < n → P i = true → Q i = true) → ps_cn P n < ps_cn Q n := by
  intro n
  induction n with
  | zero => intro hi; omega
  | succ n ih =>
    intro hi h
    by_cases e : i = n
    · subst e
      rw [ps_cn_f hP, ps_cn_t hQ]
      have := ps_cn_sub (P := P) (Q := Q) i (fun j hj => h j (by omega))
      omega
    · have h1 := ih (by omega) (fun j hj => h j (by omega))
      by_cases hp : P n = true
      · rw [ps_cn_t hp, ps_cn_t (h n (by omega) hp)]; omega
      · rw [ps_cn_f hp]
        have := ps_cn_mono1 Q n
        omega
theorem ps_cn_eq {P Q : Nat → Bool} : ∀ n, (∀ i, i < n → P i = Q i) → ps_cn P n = ps_cn Q n := by
  intro n h
  apply Nat.le_antisymm
  · exact ps_cn_sub n (fun i hi hp => by rw [← h i hi]; exact hp)
  · exact ps_cn_sub n (fun i hi hp => by rw [h i hi]; exact hp)
theorem ps_cn_lt {P : Nat → Bool} {i n : Nat} (hi : i < n) (h : ¬ P i = true) : ps_cn P n < n := by
  have h1 := ps_cn_slt (P := P) (Q := fun _ => true) h rfl n hi (fun _ _ _ => rfl)
  exact Nat.lt_of_lt_of_le h1 (ps_cn_le _ n)
theorem ps_cn_0 : ∀ n, ps_cn (fun _ => false) n = 0 := by
  intro n
  induction n with
  | zero => rfl
  | succ n ih => rw [ps_cn_f (by decide)]; exact ih
theorem ps_cn_add {P Q : Nat → Bool} {i : Nat} (hP : ¬ P i = true) (hQ : Q i = true) (h : ∀ j, j ≠ i → Q j = P j) : ∀ n, ps_cn Q n = ps_cn P n + (if i < n then 1 else 0) := by
  intro n
  induction n with
  | zero => rfl
  | succ n ih =>
    rw [ps_cn_s, ps_cn_s, ih]
    by_cases e : n = i
    · subst e
      rw [if_neg (by omega), if_pos hQ, if_neg hP, if_pos (by omega)]
    · rw [h n e]
      by_cases hi : i < n
      · rw [if_pos hi, if_pos (show i < n + 1 by omega)]; omega
      · rw [if_neg hi, if_neg (show ¬ i < n + 1 by omega)]; omega
/-- the j-th member -/
theorem ps_cn_inj {P : Nat → Bool} {a b : Nat} (ha : P a = true) (hb : P b = true) (h : ps_cn P a = ps_cn P b) : a = b := by
  rcases Nat.lt_trichotomy a b with h1 | h1 | h1
  · have := ps_cn_mon P (show a + 1 ≤ b by omega)
    rw [ps_cn_t ha] at this
    omega
  · exact h1
  · have := ps_cn_mon P (show b + 1 ≤ a by omega)
    rw [ps_cn_t hb] at this
    omega
theorem ps_cn_ex {P : Nat → Bool} : ∀ n j, j < ps_cn P n → ∃ i, i < n ∧ P i = true ∧ ps_cn P i = j := by
  intro n
  induction n with
  | zero => intro j hj; exact absurd hj (Nat.not_lt_zero j)
  | succ n ih =>
    intro j hj
    by_cases hp : P n = true
    · rw [ps_cn_t hp] at hj
      by_cases e : j = ps_cn P n
      · exact ⟨n, by omega, hp, e.symm⟩
      · obtain ⟨i, hi, h1, h2⟩ := ih j (by omega)
        exact ⟨i, by omega, h1, h2⟩
    · rw [ps_cn_f hp] at hj
      obtain ⟨i, hi, h1, h2⟩ := ih j hj
      exact ⟨i, by omega, h1, h2⟩
/-! least sets -/
def ps_Lf (B : Nat → Prop) (E : Nat → Nat → Prop) (p : Nat) : Prop := ∀ Q : Nat → Prop, (∀ q, B q → Q q) → (∀ q s, Q q → E q s → Q s) → Q p
section
variable {B : Nat → Prop} {E : Nat → Nat → Prop}
theorem ps_Lf_b {p : Nat} (h : B p) : ps_Lf B E p := fun _ hb _ => hb p h
theorem ps_Lf_e {q s : Nat} (h : ps_Lf B E q) (he : E q s) : ps_Lf B E s := fun Q hb hc => hc q s (h Q hb hc) he
theorem ps_Lf_i {p : Nat} (Q : Nat → Prop) (hb : ∀ q, B q → Q q) (hc : ∀ q s, Q q → E q s → Q s) (h : ps_Lf B E p) : Q p := h Q hb hc
def ps_Lv (B : Nat → Prop) (E : Nat → Nat → Prop) : Nat → Nat → Prop
  | 0 => fun _ => False
  | t + 1 => fun p => B p ∨ ∃ q, ps_Lv B E t q ∧ E q p
theorem ps_Lv_m : ∀ t p, ps_Lv B E t p → ps_Lv B E (t + 1) p := by
  intro t
  induction t with
  | zero => intro p h; exact h.elim
  | succ t ih =>
    intro p h
    rcases h with h | ⟨q, hq, he⟩
    · exact Or.inl h
    · exact Or.inr ⟨q, ih q hq, he⟩
theorem ps_Lv_mm (t : Nat) : ∀ d p, ps_Lv B E t p → ps_Lv B E (t + d) p := by
  intro d
  induction d with
  | zero => intro p h; exact h
  | succ d ih => intro p h; exact ps_Lv_m (t + d) p (ih p h)
theorem ps_Lv_mon {a b : Nat} (h : a ≤ b) {p : Nat} (hp : ps_Lv B E a p) : ps_Lv B E b p := by
  obtain ⟨d, rfl⟩ : ∃ d, b = a + d := ⟨b - a, by omega⟩
  exact ps_Lv_mm a d p hp
theorem ps_Lv_Lf : ∀ t p, ps_Lv B E t p → ps_Lf B E p := by
  intro t
  induction t with
  | zero => intro p h; exact h.elim
  | succ t ih =>
    intro p h
    rcases h with h | ⟨q, hq, he⟩
    · exact ps_Lf_b h
    · exact ps_Lf_e (ih q hq) he
theorem ps_Lv_lt {N : Nat} (hB : ∀ p, B p → p < N) (hE : ∀ q s, E q s → s < N) : ∀ t p, ps_Lv B E t p → p < N := by
  intro t p h
  cases t with
  | zero => exact h.elim
  | succ t =>
    rcases h with h | ⟨q, hq, he⟩
    · exact hB p h
    · exact hE q p he
theorem ps_Lv_st {t : Nat} (h : ∀ p, ps_Lv B E (t + 1) p → ps_Lv B E t p) {p : Nat} (hp : ps_Lf B E p) : ps_Lv B E t p :=
  hp (ps_Lv B E t) (fun q hq => h q (Or.inl hq)) (fun q s hq he => h s (Or.inr ⟨q, hq, he⟩))
theorem ps_Lv_N {N : Nat} (hB : ∀ p, B p → p < N) (hE : ∀ q s, E q s → s < N) {p : Nat} (hp : ps_Lf B E p) : ps_Lv B E N p := by
  have key : ∀ t, (∃ s, s < t ∧ ∀ p, ps_Lv B E (s + 1) p → ps_Lv B E s p) ∨ t ≤ ps_cn (fun p => ps_b (ps_Lv B E t p)) N := by
    intro t
    induction t with
    | zero => exact Or.inr (Nat.zero_le _)
    | succ t ih =>
      rcases ih with ⟨s, hs, h⟩ | ih
      · exact Or.inl ⟨s, by omega, h⟩
      · by_cases st : ∀ p, ps_Lv B E (t + 1) p → ps_Lv B E t p
        · exact Or.inl ⟨t, by omega, st⟩
        · refine Or.inr ?_
          obtain ⟨p, hp⟩ := Classical.not_forall.mp st
          have h1 : ps_Lv B E (t + 1) p := Classical.byContradiction (fun h => hp (fun h2 => absurd h2 h))
          have h2 : ¬ ps_Lv B E t p := fun h => hp (fun _ => h)
          have := ps_cn_slt (P := fun p => ps_b (ps_Lv B E t p)) (Q := fun p => ps_b (ps_Lv B E (t + 1) p)) (i := p) (fun h => h2 (ps_b_iff.mp h)) (ps_b_iff.mpr h1) N (ps_Lv_lt hB hE _ _ h1) (fun i _ hi => ps_b_iff.mpr (ps_Lv_m t i (ps_b_iff.mp hi)))
          omega
  rcases key (N + 1) with ⟨s, hs, h⟩ | h
  · exact ps_Lv_mon (show s ≤ N by omega) (ps_Lv_st h hp)
  · have := ps_cn_le (fun p => ps_b (ps_Lv B E (N + 1) p)) N
    omega
theorem ps_rev {n b : Nat} : ps_Lf (fun p => p = b) E n ↔ ps_Lf (fun p => p = n) (fun q s => E s q) b := by
  constructor
  · intro h
    have := ps_Lf_i (fun p => ps_Lf (fun p => p = n) (fun q s => E s q) p → ps_Lf (fun p => p = n) (fun q s => E s q) b) (fun q hq => by subst hq; exact id) (fun q s hq he => fun hs => hq (ps_Lf_e hs he)) h
    exact this (ps_Lf_b rfl)
  · intro h
    exact ps_Lf_i (fun p => ps_Lf (fun q => q = p) E n) (fun q hq => by subst hq; exact ps_Lf_b rfl) (fun q s hq he => fun Q hb hc => hq Q (fun q' hq' => by subst hq'; exact hc s q' (hb s rfl) he) hc) h
theorem ps_Lf_c {B' : Nat → Prop} {E' : Nat → Nat → Prop} {p : Nat} (hb : ∀ q, B q → B' q) (he : ∀ q s, E q s → E' q s) (h : ps_Lf B E p) : ps_Lf B' E' p :=
  fun Q hb' he' => h Q (fun q hq => hb' q (hb q hq)) (fun q s hq hh => he' q s hq (he q s hh))
end
/-! ===== longs by their bits ===== -/
def ps_tb (w : Int64) (j : Nat) : Bool := w.toBitVec.getLsbD j
theorem ps_tb_ext {x y : Int64} (h : ∀ j, j < 64 → ps_tb x j = ps_tb y j) : x = y := Int64.toBitVec_inj.mp (BitVec.eq_of_getLsbD_eq (fun i hi => h i hi))
theorem ps_tb_or (x y : Int64) (j : Nat) : ps_tb (x ||| y) j = (ps_tb x j || ps_tb y j) := by unfold ps_tb; rw [Int64.toBitVec_or, BitVec.getLsbD_or]
theorem ps_tb_and (x y : Int64) (j : Nat) : ps_tb (x &&& y) j = (ps_tb x j && ps_tb y j) := by unfold ps_tb; rw [Int64.toBitVec_and, BitVec.getLsbD_and]
theorem ps_tb_xor (x y : Int64) (j : Nat) : ps_tb (x ^^^ y) j = (ps_tb x j ^^ ps_tb y j) := by unfold ps_tb; rw [Int64.toBitVec_xor, BitVec.getLsbD_xor]
theorem ps_tb_ge {x : Int64} {j : Nat} (h : 64 ≤ j) : ps_tb x j = false := BitVec.getLsbD_of_ge _ _ h
theorem ps_tb_0 (j : Nat) : ps_tb 0 j = false := BitVec.getLsbD_zero
theorem ps_tb_m1 : ∀ j, j < 64 → ps_tb (-1) j = true := by decide +kernel
theorem ps_tb_not (x : Int64) {j : Nat} (h : j < 64) : ps_tb (x ^^^ (-1)) j = !ps_tb x j := by
  rw [ps_tb_xor, ps_tb_m1 j h, Bool.xor_true]
theorem ps_tb_lN (m j : Nat) : ps_tb (lN m) j = (decide (j < 64) && m.testBit j) := by
  unfold ps_tb
  rw [wb_tb, BitVec.getLsbD_ofNat]
theorem ps_tb_one {i : Nat} (hi : i < 64) (j : Nat) : ps_tb ((1 : Int64) <<< ((nI i).toInt64 &&& 63)) j = decide (j = i) := by
  rw [show (1 : Int64) = lN 1 from rfl, wb_shl 1 hi, Nat.one_mul, ps_tb_lN, Nat.testBit_two_pow]
  by_cases h : j = i
  · subst h; simp [hi]
  · have : ¬ i = j := fun e => h e.symm
    simp [h, this]
theorem ps_tb_all {n : Nat} (hn : n ≤ 32) (j : Nat) : ps_tb (((1 : Int64) <<< ((nI (n + 1)).toInt64 &&& 63)) - 1) j = decide (j ≤ n) := by
  rw [show (1 : Int64) = lN 1 from rfl, wb_shl 1 (by omega), Nat.one_mul, lN_sub (Nat.one_le_two_pow), ps_tb_lN, Nat.testBit_two_pow_sub_one]
  by_cases h : j ≤ n
  · have h1 : j < n + 1 := by omega
    have h2 : j < 64 := by omega
    simp [h, h1, h2]
  · have h1 : ¬ j < n + 1 := by omega
    simp [h, h1]
theorem ps_bit (w : Int64) {i : Nat} (hi : i < 64) : ((w.toUInt64 >>> ((nI i).toInt64.toUInt64 &&& Int64.toUInt64 63)).toInt64 &&& 1) = 0 ↔ ps_tb w i = false := by
  refine ts_bit hi ?_
  rw [wb_cu i hi]
  exact u_tn (by omega)
/-! ===== masks in ints ===== -/
theorem ps_bt1 : ∀ i, i < 32 → bt 1 i = decide (i = 0) := by decide +kernel
theorem ps_bt256 : ∀ i, i < 32 → bt 256 i = decide (i = 8) := by decide +kernel
theorem ps_bt512 : ∀ i, i < 32 → bt 512 i = decide (i = 9) := by decide +kernel
theorem ps_btone {a i : Nat} (ha : a < 32) (hi : i < 32) : bt ((1 : Int32) <<< (nI a &&& 31)) i = decide (i = a) := by
  rw [b_shl a ha 1 hi, ps_bt1 _ (by omega)]
  by_cases h : i = a
  · subst h; simp
  · by_cases h2 : a ≤ i
    · have : ¬ i - a = 0 := by omega
      simp [h, this]
    · simp [h, h2]
theorem ps_bit32 (m : Int32) {r : Nat} (hr : r < 32) : ((m >>> (nI r &&& 31)) &&& 1) = 0 ↔ bt m r = false := by
  have h0 : bt ((m >>> (nI r &&& 31)) &&& 1) 0 = bt m r := by
    rw [b_and, ps_bt1 0 (by omega), b_sshr r hr m (by omega), if_pos (by omega)]
    simp
  constructor
  · intro h
    rw [← h0, h, b_0]
  · intro h
    apply b_ext
    intro i hi
    rw [b_0]
    by_cases e : i = 0
    · subst e; rw [h0, h]
    · rw [b_and, ps_bt1 i hi, decide_eq_false e, Bool.and_false]
end
section
/-! ===== the program: kinds, sorts, edges, uses, definitions ===== -/
theorem ps_bi {α : Type} {c : Prop} [Decidable c] {A B : Prop} {x y : α} (post : α → Prop) (h : post (if c then x else y)) (a : post x → A) (b : post y → B) : (c → A) ∧ (¬ c → B) :=
  ⟨fun hc => a (by rw [if_pos hc] at h; exact h), fun hc => b (by rw [if_neg hc] at h; exact h)⟩
/-- 0 unused, 1 variable, 2 operand, 3 target -/
def ps_srt (k p : Nat) : Nat :=
  if p = 1 then (if k ≤ 1 then 0 else if k = 2 then 3 else if k = 3 ∨ k = 6 ∨ (7 ≤ k ∧ k ≤ 10) then 2 else 1)
  else if p = 2 then (if k = 3 then 3 else if 5 ≤ k then 2 else 0)
  else if p = 3 then (if k = 3 ∨ (7 ≤ k ∧ k ≤ 10) then 3 else if 11 ≤ k then 2 else 0)
  else 0
def ps_ch (s : Nat) : Int32 := if s = 0 then 45 else if s = 1 then 86 else if s = 2 then 88 else 84
/-- a field of sort s is valid -/
def ps_FV (vc ll s : Nat) (x : Int32) : Prop := (s = 1 → ∃ j, j < vc ∧ x = nI j) ∧ (s = 2 → x < nI vc ∨ 100 ≤ x) ∧ (s = 3 → ∃ j, j ≤ ll ∧ x = nI j)
def ps_VL (vc ll : Nat) (k a b c : Int32) : Prop := ∃ q : Nat, q ≤ 16 ∧ k = nI q ∧ ps_FV vc ll (ps_srt q 1) a ∧ ps_FV vc ll (ps_srt q 2) b ∧ ps_FV vc ll (ps_srt q 3) c
def ps_cmp (k : Int32) : Prop := ¬ k < 7 ∧ ¬ 10 < k
theorem ps_cmp_dec (k : Int32) : ps_cmp k ∨ ¬ ps_cmp k := Classical.em _
/-- T(t) -/
def ps_T (x : Int32) (n : Nat) : Nat := if nI n ≤ x then n else x.toNatClampNeg
theorem ps_T_le (x : Int32) {n : Nat} (hn : n < 2 ^ 31) : ps_T x n ≤ n := by
  unfold ps_T
  by_cases h : nI n ≤ x
  · rw [if_pos h]; exact Nat.le_refl n
  · rw [if_neg h]
    by_cases h0 : x < 0
    · rw [Int32.lt_iff_toInt_lt] at h0
      have e : (0 : Int32).toInt = 0 := by decide
      have : x.toNatClampNeg = x.toInt.toNat := rfl
      omega
    · obtain ⟨j, hj, rfl⟩ := nI_of h0
      rw [nI_clamp hj]
      rw [nI_leI hn hj] at h
      omega
theorem ps_T_nI {x : Int32} {j n : Nat} (hj : j < 2 ^ 31) (hx : x = nI j) (h : ¬ nI n ≤ x) : nI (ps_T x n) = x := by
  unfold ps_T
  rw [if_neg h, hx, nI_clamp hj]
section
variable (K A B C : Nat → Int32) (n : Nat)
noncomputable def ps_E1 (i : Nat) : Nat := if K i = 1 then n else if K i = 2 then ps_T (A i) n else if K i = 3 then ps_T (B i) n else if ps_b (ps_cmp (K i)) = true then ps_T (C i) n else i + 1
noncomputable def ps_E2 (K A _B C : Nat → Int32) (n i : Nat) : Nat := if K i = 1 then n else if K i = 2 then ps_T (A i) n else if K i = 3 then ps_T (C i) n else if ps_b (ps_cmp (K i)) = true then ps_T (C i) n else i + 1
def ps_E3 (i : Nat) : Nat := if K i = 1 then n else if K i = 2 then ps_T (A i) n else i + 1
def ps_Sr (i s : Nat) : Prop := s = ps_E1 K A B C n i ∨ s = ps_E2 K A B C n i ∨ s = ps_E3 K A n i
def ps_Sw (i s : Nat) : Prop := s = ps_E1 K A B C n i ∨ s = ps_E2 K A B C n i ∨ s = i + 1
/-- by the flag 'wide' -/
def ps_Sx (w : Int32) (i s : Nat) : Prop := (w = 0 ∧ ps_Sr K A B C n i s) ∨ (w = 1 ∧ ps_Sw K A B C n i s)
def ps_D (r : Int32) (i : Nat) : Prop := (K i = 4 ∧ r = 8) ∨ (K i = 6 ∧ r = 9) ∨ ((K i = 4 ∨ K i = 5 ∨ ¬ K i < 11) ∧ A i = r)
def ps_U (r : Int32) (i : Nat) : Prop := (r = 8 ∧ K i = 4) ∨ (r = 9 ∧ (K i = 5 ∨ K i = 6)) ∨
  (r ≠ 8 ∧ r ≠ 9 ∧ (((K i = 3 ∨ K i = 6 ∨ ps_cmp (K i)) ∧ A i = r) ∨ ((¬ K i < 5) ∧ B i = r) ∨ ((¬ K i < 11) ∧ C i = r)))
/-- edges of a reaching search -/
def ps_Er (r : Int32) (q s : Nat) : Prop := q < n ∧ ¬ ps_D K A r q ∧ ps_Sr K A B C n q s
def ps_Rw (d : Nat) (r : Int32) (p : Nat) : Prop := d < n ∧ ps_D K A r d ∧ ps_Lf (ps_Sr K A B C n d) (ps_Er K A B C n r) p
/-- backward: from p there is a way to the exit that doesn't leave a -/
def ps_NP (a p : Nat) : Prop := ps_Lf (fun q => q = n ∧ a ≠ n) (fun q s => s < n ∧ s ≠ a ∧ ps_Sw K A B C n s q) p
def ps_Pd (a p : Nat) : Prop := a ≤ n ∧ ¬ ps_NP K A B C n a p
def ps_Ct (b m : Nat) : Prop := (∃ s, ps_Sw K A B C n b s ∧ ps_Pd K A B C n m s) ∧ (m = b ∨ ¬ ps_Pd K A B C n m b)
def ps_Src (d m : Nat) : Prop := ∃ r, r ≤ 9 ∧ ps_U K A B C (nI r) m ∧ ps_Rw K A B C n d (nI r) m
def ps_KB (line : Nat) (var : Int32) (d : Nat) : Prop := d = line ∨ ps_Rw K A B C n d var line
def ps_KE (m d : Nat) : Prop := m < n ∧ d < n ∧ (ps_Src K A B C n d m ∨ ps_Ct K A B C n d m)
def ps_Kp (line : Nat) (var : Int32) (d : Nat) : Prop := ps_Lf (ps_KB K A B C n line var) (ps_KE K A B C n) d
def ps_fl (p i : Nat) : Int32 := if p = 0 then K i else if p = 1 then A i else if p = 2 then B i else C i
end
/-- every line below n is valid -/
def ps_VP (vc ll n : Nat) (K A B C : Nat → Int32) : Prop := ∀ i, i < n → ps_VL vc ll (K i) (A i) (B i) (C i)
section
variable {K A B C : Nat → Int32} {n : Nat}
theorem ps_E1_le {i : Nat} (hi : i < n) (hn : n < 2 ^ 31) : ps_E1 K A B C n i ≤ n := by
  unfold ps_E1
  split
  · exact Nat.le_refl n
  · split
    · exact ps_T_le _ hn
    · split
      · exact ps_T_le _ hn
      · split
        · exact ps_T_le _ hn
        · omega
theorem ps_E2_le {i : Nat} (hi : i < n) (hn : n < 2 ^ 31) : ps_E2 K A B C n i ≤ n := by
  unfold ps_E2
  split
  · exact Nat.le_refl n
  · split
    · exact ps_T_le _ hn
    · split
      · exact ps_T_le _ hn
      · split
        · exact ps_T_le _ hn
        · omega
theorem ps_E3_le {i : Nat} (hi : i < n) (hn : n < 2 ^ 31) : ps_E3 K A n i ≤ n := by
  unfold ps_E3
  split
  · exact Nat.le_refl n
  · split
    · exact ps_T_le _ hn
    · omega
theorem ps_Sr_le {i s : Nat} (hi : i < n) (hn : n < 2 ^ 31) (h : ps_Sr K A B C n i s) : s ≤ n := by
  rcases h with h | h | h
  · rw [h]; exact ps_E1_le hi hn
  · rw [h]; exact ps_E2_le hi hn
  · rw [h]; exact ps_E3_le hi hn
theorem ps_Sw_le {i s : Nat} (hi : i < n) (hn : n < 2 ^ 31) (h : ps_Sw K A B C n i s) : s ≤ n := by
  rcases h with h | h | h
  · rw [h]; exact ps_E1_le hi hn
  · rw [h]; exact ps_E2_le hi hn
  · omega
theorem ps_Sx_le {w : Int32} {i s : Nat} (hi : i < n) (hn : n < 2 ^ 31) (h : ps_Sx K A B C n w i s) : s ≤ n := by
  rcases h with ⟨_, h⟩ | ⟨_, h⟩
  · exact ps_Sr_le hi hn h
  · exact ps_Sw_le hi hn h
theorem ps_Rw_lt {d p : Nat} {r : Int32} (hn : n < 2 ^ 31) (h : ps_Rw K A B C n d r p) : d < n ∧ p ≤ n := by
  obtain ⟨h1, h2, h3⟩ := h
  refine ⟨h1, ?_⟩
  exact ps_Lf_i (fun p => p ≤ n) (fun q hq => ps_Sr_le h1 hn hq) (fun q s _ he => ps_Sr_le he.1 hn he.2.2) h3
theorem ps_Kp_lt {line d : Nat} {var : Int32} (hl : line < n) (h : ps_Kp K A B C n line var d) : d < n :=
  ps_Lf_i (fun d => d < n) (fun q hq => by rcases hq with rfl | hq; exact hl; exact hq.1) (fun q s _ he => he.2.1) h
/-- kinds -/
theorem ps_kind {q : Nat} (h : q ≤ 16) : q = 0 ∨ q = 1 ∨ q = 2 ∨ q = 3 ∨ q = 4 ∨ q = 5 ∨ q = 6 ∨ q = 7 ∨ q = 8 ∨ q = 9 ∨ q = 10 ∨ q = 11 ∨ q = 12 ∨ q = 13 ∨ q = 14 ∨ q = 15 ∨ q = 16 := by omega
end
theorem ps_cmp_nI {q : Nat} (h : q ≤ 16) : ps_cmp (nI q) ↔ 7 ≤ q ∧ q ≤ 10 := by
  unfold ps_cmp
  rw [show (7 : Int32) = nI 7 from rfl, show (10 : Int32) = nI 10 from rfl, nI_ltI (by omega) (by omega), nI_ltI (by omega) (by omega)]
  omega
/-- the value of operandBit -/
def ps_ob (vc : Nat) (x : Int32) : Int32 := if x < 0 then 0 else if nI vc ≤ x then 0 else (1 : Int32) <<< (x &&& 31)
theorem ps_ob_bit {vc r : Nat} {x : Int32} (hv : vc ≤ 8) (hr : r ≤ 9) (hx : x < nI vc ∨ 100 ≤ x) : bt (ps_ob vc x) r = true ↔ x = nI r := by
  unfold ps_ob
  by_cases h0 : x < 0
  · rw [if_pos h0, b_0]
    constructor
    · intro h; exact absurd h (by decide)
    · intro h; rw [h] at h0; exact absurd h0 (nI_pos (by omega))
  · rw [if_neg h0]
    obtain ⟨j, hj, rfl⟩ := nI_of h0
    have h100 : (100 : Int32) = nI 100 := rfl
    rw [h100, nI_ltI hj (by omega), nI_leI (by omega) hj] at hx
    rw [nI_eq hj (by omega)]
    by_cases h1 : vc ≤ j
    · rw [if_pos (nI_le h1 hj), b_0]
      constructor
      · intro h; exact absurd h (by decide)
      · intro h; omega
    · rw [if_neg (nI_ge (by omega) (by omega)), ps_btone (by omega) (by omega), decide_eq_true_eq]
      exact ⟨fun h => h.symm, fun h => h.symm⟩
theorem ps_ob_V {vc j : Nat} (hv : vc ≤ 8) (hj : j < vc) : ps_ob vc (nI j) = (1 : Int32) <<< (nI j &&& 31) := by
  unfold ps_ob
  rw [if_neg (nI_pos (by omega)), if_neg (nI_ge hj (by omega))]
/-- the masks that X reckons -/
noncomputable def ps_uM (vc : Nat) (k a b c : Int32) : Int32 :=
  if 2 < k then (if k = 3 then ps_ob vc a else if k = 4 then 256 else if k = 5 then 512 ||| ps_ob vc b else if k = 6 then (512 ||| ps_ob vc a) ||| ps_ob vc b
    else if ps_b (ps_cmp k) = true then ps_ob vc a ||| ps_ob vc b else ps_ob vc b ||| ps_ob vc c) else 0
def ps_dM (vc : Nat) (k a : Int32) : Int32 :=
  if k = 4 then 256 ||| ps_ob vc a else if k = 5 then ps_ob vc a else if k < 11 then (if k = 6 then 512 else 0) else ps_ob vc a
theorem ps_ltn {a b : Nat} (ha : a < 2 ^ 31) (hb : b < 2 ^ 31) (h : a < b) : nI a < nI b := (nI_ltI ha hb).mpr h
theorem ps_dM_bit {vc ll r : Nat} {K A B C : Nat → Int32} {i : Nat} (hv : vc ≤ 8) (hr : r ≤ 9) (h : ps_VL vc ll (K i) (A i) (B i) (C i)) : bt (ps_dM vc (K i) (A i)) r = true ↔ ps_D K A (nI r) i := by
  obtain ⟨q, hq, hk, ha, _, _⟩ := h
  have e8 : ((8 : Int32) = nI 8) := rfl
  have e9 : ((9 : Int32) = nI 9) := rfl
  have e4 : ((4 : Int32) = nI 4) := rfl
  have e5 : ((5 : Int32) = nI 5) := rfl
  have e6 : ((6 : Int32) = nI 6) := rfl
  have e11 : ((11 : Int32) = nI 11) := rfl
  unfold ps_dM ps_D
  rw [hk, e4, e5, e6, e11, e8, e9]
  simp only [nI_eq (show q < 2 ^ 31 by omega) (show 4 < 2 ^ 31 by omega), nI_eq (show q < 2 ^ 31 by omega) (show 5 < 2 ^ 31 by omega), nI_eq (show q < 2 ^ 31 by omega) (show 6 < 2 ^ 31 by omega), nI_ltI (show q < 2 ^ 31 by omega) (show 11 < 2 ^ 31 by omega), nI_eq (show r < 2 ^ 31 by omega) (show 8 < 2 ^ 31 by omega), nI_eq (show r < 2 ^ 31 by omega) (show 9 < 2 ^ 31 by omega)]
  by_cases hV : q = 4 ∨ q = 5 ∨ ¬ q < 11
  · have hs : ps_srt q 1 = 1 := by
      unfold ps_srt
      rw [if_pos rfl, if_neg (by omega), if_neg (by omega), if_neg (by omega)]
    obtain ⟨j, hj, hx⟩ := ha.1 hs
    have hb := ps_ob_bit (x := A i) hv hr (Or.inl (by rw [hx]; exact ps_ltn (by omega) (by omega) hj))
    by_cases h4 : q = 4
    · rw [if_pos h4, b_or, ps_bt256 r (by omega), Bool.or_eq_true, hb, decide_eq_true_eq]
      constructor
      · rintro (h | h)
        · exact Or.inl ⟨h4, h⟩
        · exact Or.inr (Or.inr ⟨Or.inl h4, h⟩)
      · rintro (h | h | h)
        · exact Or.inl h.2
        · omega
        · exact Or.inr h.2
    · rw [if_neg h4]
      have : (if q = 5 then ps_ob vc (A i) else if q < 11 then (if q = 6 then nI 512 else 0) else ps_ob vc (A i)) = ps_ob vc (A i) := by
        by_cases h5 : q = 5
        · rw [if_pos h5]
        · rw [if_neg h5, if_neg (by omega)]
      have e512 : (512 : Int32) = nI 512 := rfl
      rw [e512, this, hb]
      constructor
      · intro h; exact Or.inr (Or.inr ⟨hV, h⟩)
      · rintro (h | h | h)
        · omega
        · omega
        · exact h.2
  · rw [if_neg (by omega), if_neg (by omega), if_pos (by omega)]
    by_cases h6 : q = 6
    · rw [if_pos h6, ps_bt512 r (by omega), decide_eq_true_eq]
      constructor
      · intro h; exact Or.inr (Or.inl ⟨h6, h⟩)
      · rintro (h | h | h)
        · omega
        · exact h.2
        · exact absurd h.1 hV
    · rw [if_neg h6, b_0]
      constructor
      · intro h; exact absurd h (by decide)
      · rintro (h | h | h)
        · omega
        · omega
        · exact absurd h.1 hV
theorem ps_uM_bit {vc ll r : Nat} {K A B C : Nat → Int32} {i : Nat} (hv : vc ≤ 8) (hr : r ≤ 9) (h : ps_VL vc ll (K i) (A i) (B i) (C i)) : bt (ps_uM vc (K i) (A i) (B i) (C i)) r = true ↔ ps_U K A B C (nI r) i := by
  obtain ⟨q, hq, hk, ha, hb, hc⟩ := h
  have oA : (q = 3 ∨ q = 6 ∨ (7 ≤ q ∧ q ≤ 10)) → (bt (ps_ob vc (A i)) r = true ↔ A i = nI r) := by
    intro hV
    have hs : ps_srt q 1 = 2 := by
      unfold ps_srt
      rw [if_pos rfl, if_neg (by omega), if_neg (by omega), if_pos hV]
    exact ps_ob_bit hv hr (ha.2.1 hs)
  have oB : 5 ≤ q → (bt (ps_ob vc (B i)) r = true ↔ B i = nI r) := by
    intro hV
    have hs : ps_srt q 2 = 2 := by
      unfold ps_srt
      rw [if_neg (by omega), if_pos rfl, if_neg (by omega), if_pos hV]
    exact ps_ob_bit hv hr (hb.2.1 hs)
  have oC : 11 ≤ q → (bt (ps_ob vc (C i)) r = true ↔ C i = nI r) := by
    intro hV
    have hs : ps_srt q 3 = 2 := by
      unfold ps_srt
      rw [if_neg (by omega), if_neg (by omega), if_pos rfl, if_neg (by omega), if_pos hV]
    exact ps_ob_bit hv hr (hc.2.1 hs)
  -- an operand never equals 8 or 9
  have no : ∀ x : Int32, (x < nI vc ∨ 100 ≤ x) → x = nI r → r ≠ 8 ∧ r ≠ 9 := by
    intro x hx e
    rw [e, show (100 : Int32) = nI 100 from rfl, nI_ltI (by omega) (by omega), nI_leI (by omega) (by omega)] at hx
    omega
  have nA : (q = 3 ∨ q = 6 ∨ (7 ≤ q ∧ q ≤ 10)) → A i = nI r → r ≠ 8 ∧ r ≠ 9 := by
    intro hV
    have hs : ps_srt q 1 = 2 := by
      unfold ps_srt
      rw [if_pos rfl, if_neg (by omega), if_neg (by omega), if_pos hV]
    exact no _ (ha.2.1 hs)
  have nB : 5 ≤ q → B i = nI r → r ≠ 8 ∧ r ≠ 9 := by
    intro hV
    have hs : ps_srt q 2 = 2 := by
      unfold ps_srt
      rw [if_neg (by omega), if_pos rfl, if_neg (by omega), if_pos hV]
    exact no _ (hb.2.1 hs)
  have nC : 11 ≤ q → C i = nI r → r ≠ 8 ∧ r ≠ 9 := by
    intro hV
    have hs : ps_srt q 3 = 2 := by
      unfold ps_srt
      rw [if_neg (by omega), if_neg (by omega), if_pos rfl, if_neg (by omega), if_pos hV]
    exact no _ (hc.2.1 hs)
  have hcm : ps_cmp (K i) ↔ 7 ≤ q ∧ q ≤ 10 := by rw [hk]; exact ps_cmp_nI hq
  -- U by naturals
  have hU : ps_U K A B C (nI r) i ↔ ((r = 8 ∧ q = 4) ∨ (r = 9 ∧ (q = 5 ∨ q = 6)) ∨ (r ≠ 8 ∧ r ≠ 9 ∧ (((q = 3 ∨ q = 6 ∨ (7 ≤ q ∧ q ≤ 10)) ∧ A i = nI r) ∨ (5 ≤ q ∧ B i = nI r) ∨ (11 ≤ q ∧ C i = nI r)))) := by
    unfold ps_U
    rw [hcm, hk, show (3 : Int32) = nI 3 from rfl, show (4 : Int32) = nI 4 from rfl, show (5 : Int32) = nI 5 from rfl, show (6 : Int32) = nI 6 from rfl, show (8 : Int32) = nI 8 from rfl, show (9 : Int32) = nI 9 from rfl, show (11 : Int32) = nI 11 from rfl]
    simp only [ne_eq, nI_eq (show q < 2 ^ 31 by omega) (show 3 < 2 ^ 31 by omega), nI_eq (show q < 2 ^ 31 by omega) (show 4 < 2 ^ 31 by omega), nI_eq (show q < 2 ^ 31 by omega) (show 5 < 2 ^ 31 by omega), nI_eq (show q < 2 ^ 31 by omega) (show 6 < 2 ^ 31 by omega), nI_ltI (show q < 2 ^ 31 by omega) (show 11 < 2 ^ 31 by omega), nI_ltI (show q < 2 ^ 31 by omega) (show 5 < 2 ^ 31 by omega), nI_eq (show r < 2 ^ 31 by omega) (show 8 < 2 ^ 31 by omega), nI_eq (show r < 2 ^ 31 by omega) (show 9 < 2 ^ 31 by omega), Nat.not_lt]
  -- the mask by naturals
  have hM : ps_uM vc (K i) (A i) (B i) (C i) = (if 2 < q then (if q = 3 then ps_ob vc (A i) else if q = 4 then 256 else if q = 5 then 512 ||| ps_ob vc (B i) else if q = 6 then (512 ||| ps_ob vc (A i)) ||| ps_ob vc (B i) else if 7 ≤ q ∧ q ≤ 10 then ps_ob vc (A i) ||| ps_ob vc (B i) else ps_ob vc (B i) ||| ps_ob vc (C i)) else 0) := by
    unfold ps_uM
    simp only [ps_b_iff, hcm]
    rw [hk, show (2 : Int32) = nI 2 from rfl, show (3 : Int32) = nI 3 from rfl, show (4 : Int32) = nI 4 from rfl, show (5 : Int32) = nI 5 from rfl, show (6 : Int32) = nI 6 from rfl]
    simp only [nI_eq (show q < 2 ^ 31 by omega) (show 3 < 2 ^ 31 by omega), nI_eq (show q < 2 ^ 31 by omega) (show 4 < 2 ^ 31 by omega), nI_eq (show q < 2 ^ 31 by omega) (show 5 < 2 ^ 31 by omega), nI_eq (show q < 2 ^ 31 by omega) (show 6 < 2 ^ 31 by omega), nI_ltI (show 2 < 2 ^ 31 by omega) (show q < 2 ^ 31 by omega)]
  rw [hM, hU]
  have b256 := ps_bt256 r (by omega)
  have b512 := ps_bt512 r (by omega)
  by_cases h2 : 2 < q
  · rw [if_pos h2]
    by_cases h3 : q = 3
    · rw [if_pos h3, oA (Or.inl h3)]
      constructor
      · intro h; have := nA (Or.inl h3) h; exact Or.inr (Or.inr ⟨this.1, this.2, Or.inl ⟨Or.inl h3, h⟩⟩)
      · rintro (h | h | ⟨_, _, h | h | h⟩)
        · omega
        · omega
        · exact h.2
        · omega
        · omega
    · rw [if_neg h3]
      by_cases h4 : q = 4
      · rw [if_pos h4, b256, decide_eq_true_eq]
        constructor
        · intro h; exact Or.inl ⟨h, h4⟩
        · rintro (h | h | ⟨_, _, h | h | h⟩)
          · exact h.1
          · omega
          · omega
          · omega
          · omega
      · rw [if_neg h4]
        by_cases h5 : q = 5
        · rw [if_pos h5, b_or, Bool.or_eq_true, b512, decide_eq_true_eq, oB (by omega)]
          constructor
          · rintro (h | h)
            · exact Or.inr (Or.inl ⟨h, Or.inl h5⟩)
            · have := nB (by omega) h
              exact Or.inr (Or.inr ⟨this.1, this.2, Or.inr (Or.inl ⟨by omega, h⟩)⟩)
          · rintro (h | h | ⟨_, _, h | h | h⟩)
            · omega
            · exact Or.inl h.1
            · omega
            · exact Or.inr h.2
            · omega
        · rw [if_neg h5]
          by_cases h6 : q = 6
          · rw [if_pos h6, b_or, b_or, Bool.or_eq_true, Bool.or_eq_true, b512, decide_eq_true_eq, oB (by omega), oA (by omega)]
            constructor
            · rintro ((h | h) | h)
              · exact Or.inr (Or.inl ⟨h, Or.inr h6⟩)
              · have := nA (by omega) h
                exact Or.inr (Or.inr ⟨this.1, this.2, Or.inl ⟨by omega, h⟩⟩)
              · have := nB (by omega) h
                exact Or.inr (Or.inr ⟨this.1, this.2, Or.inr (Or.inl ⟨by omega, h⟩)⟩)
            · rintro (h | h | ⟨_, _, h | h | h⟩)
              · omega
              · exact Or.inl (Or.inl h.1)
              · exact Or.inl (Or.inr h.2)
              · exact Or.inr h.2
              · omega
          · rw [if_neg h6]
            by_cases h7 : 7 ≤ q ∧ q ≤ 10
            · rw [if_pos h7, b_or, Bool.or_eq_true, oB (by omega), oA (by omega)]
              constructor
              · rintro (h | h)
                · have := nA (by omega) h
                  exact Or.inr (Or.inr ⟨this.1, this.2, Or.inl ⟨by omega, h⟩⟩)
                · have := nB (by omega) h
                  exact Or.inr (Or.inr ⟨this.1, this.2, Or.inr (Or.inl ⟨by omega, h⟩)⟩)
              · rintro (h | h | ⟨_, _, h | h | h⟩)
                · omega
                · omega
                · exact Or.inl h.2
                · exact Or.inr h.2
                · omega
            · rw [if_neg h7, b_or, Bool.or_eq_true, oB (by omega), oC (by omega)]
              constructor
              · rintro (h | h)
                · have := nB (by omega) h
                  exact Or.inr (Or.inr ⟨this.1, this.2, Or.inr (Or.inl ⟨by omega, h⟩)⟩)
                · have := nC (by omega) h
                  exact Or.inr (Or.inr ⟨this.1, this.2, Or.inr (Or.inr ⟨by omega, h⟩)⟩)
              · rintro (h | h | ⟨_, _, h | h | h⟩)
                · omega
                · omega
                · omega
                · exact Or.inl h.2
                · exact Or.inr h.2
  · rw [if_neg h2, b_0]
    constructor
    · intro h; exact absurd h (by decide)
    · rintro (h | h | ⟨_, _, h | h | h⟩) <;> omega
end
section
/-! ===== the reaching sets of one resource: the pure loop ===== -/
section
variable {K A B C : Nat → Int32} {n : Nat}
/-- what is sent out of line i -/
def ps_Ou (K A : Nat → Int32) (r : Nat) (ri : Nat → Int64) (i d : Nat) : Prop := (ps_D K A (nI r) i ∧ d = i) ∨ (¬ ps_D K A (nI r) i ∧ ps_tb (ri (33 * r + i)) d = true)
def ps_RSd (K A B C : Nat → Int32) (n r : Nat) (ri : Nat → Int64) : Prop := ∀ p, p ≤ n → ∀ d, ps_tb (ri (33 * r + p)) d = true → ps_Rw K A B C n d (nI r) p
def ps_RLv (K A B C : Nat → Int32) (n r t : Nat) (ri : Nat → Int64) : Prop := ∀ p, p ≤ n → ∀ d, d < n → ps_D K A (nI r) d → ps_Lv (ps_Sr K A B C n d) (ps_Er K A B C n (nI r)) t p → ps_tb (ri (33 * r + p)) d = true
def ps_RDn (K A B C : Nat → Int32) (n r t : Nat) (ri : Nat → Int64) (i : Nat) : Prop := ∀ j, j < i → ∀ d, d < n → ps_D K A (nI r) d → (j = d ∨ (¬ ps_D K A (nI r) j ∧ ps_Lv (ps_Sr K A B C n d) (ps_Er K A B C n (nI r)) t j)) → ∀ s, ps_Sr K A B C n j s → ps_tb (ri (33 * r + s)) d = true
def ps_RCl (K A B C : Nat → Int32) (n r : Nat) (ri : Nat → Int64) (i : Nat) : Prop := ∀ j, j < i → ∀ d, ps_Ou K A r ri j d → ∀ s, ps_Sr K A B C n j s → ps_tb (ri (33 * r + s)) d = true
def ps_Fr (n r : Nat) (ri ri' : Nat → Int64) : Prop := ∀ q, (∀ p, p ≤ n → q ≠ 33 * r + p) → ri' q = ri q
/-- one line's merges -/
def ps_MD (K A B C : Nat → Int32) (n r i : Nat) (ri ri' : Nat → Int64) (x x' : Int32) : Prop :=
  ps_Fr n r ri ri' ∧ (∀ p, p ≤ n → ∀ d, ps_tb (ri' (33 * r + p)) d = true ↔ (ps_tb (ri (33 * r + p)) d = true ∨ (ps_Sr K A B C n i p ∧ ps_Ou K A r ri i d))) ∧ ((x' = x ∧ ∀ q, ri' q = ri q) ∨ x' = 1)
def ps_RI (K A B C : Nat → Int32) (n r t i : Nat) (x : Int32) (ri : Nat → Int64) : Prop :=
  ps_RSd K A B C n r ri ∧ ps_RLv K A B C n r t ri ∧ ps_RDn K A B C n r t ri i ∧ (x = 0 → ps_RCl K A B C n r ri i) ∧ (x = 0 ∨ x = 1)
theorem ps_RI_step {r t i : Nat} {x x' : Int32} {ri ri' : Nat → Int64} (hn : n < 2 ^ 31) (hi : i < n) (h : ps_RI K A B C n r t i x ri) (m : ps_MD K A B C n r i ri ri' x x') : ps_RI K A B C n r t (i + 1) x' ri' := by
  obtain ⟨h1, h2, h3, h4, h5⟩ := h
  obtain ⟨m1, m2, m3⟩ := m
  have up : ∀ p, p ≤ n → ∀ d, ps_tb (ri (33 * r + p)) d = true → ps_tb (ri' (33 * r + p)) d = true := fun p hp d hd => (m2 p hp d).mpr (Or.inl hd)
  refine ⟨?_, ?_, ?_, ?_, ?_⟩
  · intro p hp d hd
    rcases (m2 p hp d).mp hd with hd | ⟨hs, ho⟩
    · exact h1 p hp d hd
    · rcases ho with ⟨hD, rfl⟩ | ⟨hD, ht⟩
      · exact ⟨hi, hD, ps_Lf_b hs⟩
      · have := h1 i (by omega) d ht
        exact ⟨this.1, this.2.1, ps_Lf_e this.2.2 ⟨hi, hD, hs⟩⟩
  · intro p hp d hd hD hl
    exact up p hp d (h2 p hp d hd hD hl)
  · intro j hj d hd hD hc s hs
    by_cases e : j = i
    · subst e
      refine (m2 s (ps_Sr_le hi hn hs) d).mpr (Or.inr ⟨hs, ?_⟩)
      rcases hc with rfl | ⟨hc, hl⟩
      · exact Or.inl ⟨hD, rfl⟩
      · exact Or.inr ⟨hc, h2 j (by omega) d hd hD hl⟩
    · exact up s (ps_Sr_le (by omega) hn hs) d (h3 j (by omega) d hd hD hc s hs)
  · intro hx
    rcases m3 with ⟨e1, e2⟩ | e1
    · intro j hj d ho s hs
      have ho' : ps_Ou K A r ri j d := by
        rcases ho with ho | ⟨ho, ho2⟩
        · exact Or.inl ho
        · rw [e2] at ho2; exact Or.inr ⟨ho, ho2⟩
      by_cases e : j = i
      · subst e
        exact (m2 s (ps_Sr_le hi hn hs) d).mpr (Or.inr ⟨hs, ho'⟩)
      · rw [e2]
        exact h4 (by rw [← e1]; exact hx) j (by omega) d ho' s hs
    · rw [e1] at hx; exact absurd hx (by decide)
  · rcases m3 with ⟨e1, _⟩ | e1
    · rw [e1]; exact h5
    · exact Or.inr e1
theorem ps_RI_next {r t : Nat} {x : Int32} {ri : Nat → Int64} (h : ps_RI K A B C n r t n x ri) : ps_RSd K A B C n r ri ∧ ps_RLv K A B C n r (t + 1) ri ∧ (x = 0 → ps_RCl K A B C n r ri n) := by
  obtain ⟨h1, h2, h3, h4, h5⟩ := h
  refine ⟨h1, ?_, h4⟩
  intro p hp d hd hD hl
  rcases hl with hl | ⟨q, hq, he⟩
  · exact h3 d hd d hd hD (Or.inl rfl) p hl
  · exact h3 q he.1 d hd hD (Or.inr ⟨he.2.1, hq⟩) p he.2.2
theorem ps_RI_start {r t : Nat} {ri : Nat → Int64} (h1 : ps_RSd K A B C n r ri) (h2 : ps_RLv K A B C n r t ri) : ps_RI K A B C n r t 0 0 ri :=
  ⟨h1, h2, fun j hj => absurd hj (Nat.not_lt_zero j), fun _ j hj => absurd hj (Nat.not_lt_zero j), Or.inl rfl⟩
/-- the answer -/
def ps_RF (K A B C : Nat → Int32) (n r : Nat) (ri : Nat → Int64) : Prop := ∀ p, p ≤ n → ∀ d, ps_tb (ri (33 * r + p)) d = true ↔ ps_Rw K A B C n d (nI r) p
theorem ps_RI_cl {r : Nat} {ri : Nat → Int64} (hn : n < 2 ^ 31) (h1 : ps_RSd K A B C n r ri) (h2 : ps_RCl K A B C n r ri n) : ps_RF K A B C n r ri := by
  intro p hp d
  refine ⟨h1 p hp d, ?_⟩
  rintro ⟨hd, hD, hl⟩
  refine ps_Lf_i (fun p => ps_tb (ri (33 * r + p)) d = true) (fun q hq => ?_) (fun q s hq he => ?_) hl
  · exact h2 d hd d (Or.inl ⟨hD, rfl⟩) q hq
  · exact h2 q he.1 d (Or.inr ⟨he.2.1, hq⟩) s he.2.2
theorem ps_RI_lv {r t : Nat} {ri : Nat → Int64} (hn : n < 2 ^ 31) (ht : n + 1 ≤ t) (h1 : ps_RSd K A B C n r ri) (h2 : ps_RLv K A B C n r t ri) : ps_RF K A B C n r ri := by
  intro p hp d
  refine ⟨h1 p hp d, ?_⟩
  rintro ⟨hd, hD, hl⟩
  refine h2 p hp d hd hD (ps_Lv_mon ht (ps_Lv_N (N := n + 1) ?_ ?_ hl))
  · intro q hq; have := ps_Sr_le hd hn hq; omega
  · intro q s he; have := ps_Sr_le he.1 hn he.2.2; omega
/-- the zeroed sets -/
theorem ps_RI_zero {r : Nat} {ri : Nat → Int64} (h : ∀ p, p ≤ n → ri (33 * r + p) = 0) : ps_RSd K A B C n r ri ∧ ps_RLv K A B C n r 0 ri := by
  refine ⟨?_, ?_⟩
  · intro p hp d hd
    rw [h p hp, ps_tb_0] at hd
    exact absurd hd (by decide)
  · intro p _ d _ _ hl
    exact hl.elim
end
/-! ===== post-dominators: the pure loop (t rounds; lines i .. n-1 of this round are done) ===== -/
section
variable {K A B C : Nat → Int32} {n : Nat}
def ps_Nb (n a : Nat) (q : Nat) : Prop := q = n ∧ a ≠ n
def ps_Ne (K A B C : Nat → Int32) (n a : Nat) (q s : Nat) : Prop := s < n ∧ s ≠ a ∧ ps_Sw K A B C n s q
/-- bits beyond n are never set; what is out, is out with right; level t is out; level t + 1 is out from i on; if nothing changed, each line from i on is stable -/
def ps_PSd (K A B C : Nat → Int32) (n : Nat) (pd : Nat → Int64) : Prop := ∀ p, p ≤ n → ∀ a, (ps_tb (pd p) a = true → a ≤ n) ∧ (a ≤ n → ¬ ps_tb (pd p) a = true → ps_NP K A B C n a p)
def ps_PLv (K A B C : Nat → Int32) (n t : Nat) (pd : Nat → Int64) : Prop := ∀ p, p ≤ n → ∀ a, ps_Lv (ps_Nb n a) (ps_Ne K A B C n a) t p → ¬ ps_tb (pd p) a = true
def ps_PDn (K A B C : Nat → Int32) (n t : Nat) (pd : Nat → Int64) (i : Nat) : Prop := ∀ p, i ≤ p → p ≤ n → ∀ a, ps_Lv (ps_Nb n a) (ps_Ne K A B C n a) (t + 1) p → ¬ ps_tb (pd p) a = true
/-- what line i should hold -/
def ps_Nw (K A B C : Nat → Int32) (n : Nat) (pd : Nat → Int64) (i a : Nat) : Prop := (ps_tb (pd (ps_E1 K A B C n i)) a = true ∧ ps_tb (pd (ps_E2 K A B C n i)) a = true ∧ ps_tb (pd (i + 1)) a = true) ∨ a = i
def ps_PCl (K A B C : Nat → Int32) (n : Nat) (pd : Nat → Int64) (i : Nat) : Prop := ∀ p, i ≤ p → p < n → ∀ a, ps_tb (pd p) a = true ↔ ps_Nw K A B C n pd p a
def ps_PI (K A B C : Nat → Int32) (n t i : Nat) (x : Int32) (pd : Nat → Int64) : Prop :=
  ps_PSd K A B C n pd ∧ ps_PLv K A B C n t pd ∧ ps_PDn K A B C n t pd i ∧ (x = 0 → ps_PCl K A B C n pd i) ∧ (x = 0 ∨ x = 1) ∧ (∀ a, ps_tb (pd n) a = true ↔ a = n)
/-- line i is written: now is the new value -/
def ps_PM (K A B C : Nat → Int32) (n i : Nat) (pd pd' : Nat → Int64) (x x' : Int32) : Prop :=
  (∀ p, p ≠ i → pd' p = pd p) ∧ (∀ a, ps_tb (pd' i) a = true ↔ ps_Nw K A B C n pd i a) ∧ ((x' = x ∧ ∀ p, pd' p = pd p) ∨ x' = 1)
theorem ps_PI_step {t i : Nat} {x x' : Int32} {pd pd' : Nat → Int64} (hn : n < 2 ^ 31) (hi : i < n) (h : ps_PI K A B C n t (i + 1) x pd) (m : ps_PM K A B C n i pd pd' x x') : ps_PI K A B C n t i x' pd' := by
  obtain ⟨h1, h2, h3, h4, h5, h6⟩ := h
  obtain ⟨m1, m2, m3⟩ := m
  have e1 : ps_E1 K A B C n i ≤ n := ps_E1_le hi hn
  have e2 : ps_E2 K A B C n i ≤ n := ps_E2_le hi hn
  have lev : ∀ a, ps_Lv (ps_Nb n a) (ps_Ne K A B C n a) (t + 1) i → ¬ ps_tb (pd' i) a = true := by
    intro a hl ht
    rcases hl with hl | ⟨q, hq, he⟩
    · have := hl.1; omega
    · rcases (m2 a).mp ht with ⟨a1, a2, a3⟩ | e
      · rcases he.2.2 with rfl | rfl | rfl
        · exact h2 _ e1 a hq a1
        · exact h2 _ e2 a hq a2
        · exact h2 _ (by omega) a hq a3
      · exact he.2.1 e.symm
  refine ⟨?_, ?_, ?_, ?_, ?_, ?_⟩
  · intro p hp a
    by_cases e : p = i
    · subst e
      refine ⟨?_, ?_⟩
      · intro ht
        rcases (m2 a).mp ht with ⟨a1, _, _⟩ | e
        · exact (h1 _ e1 a).1 a1
        · omega
      · intro ha hf
        have hne : a ≠ p := fun e => hf ((m2 a).mpr (Or.inr e))
        have key : ∀ q, q ≤ n → ps_Sw K A B C n p q → ¬ ps_tb (pd q) a = true → ps_NP K A B C n a p := by
          intro q hq hs hb
          exact ps_Lf_e ((h1 q hq a).2 ha hb) ⟨hi, fun e => hne e.symm, hs⟩
        by_cases a1 : ps_tb (pd (ps_E1 K A B C n p)) a = true
        · by_cases a2 : ps_tb (pd (ps_E2 K A B C n p)) a = true
          · by_cases a3 : ps_tb (pd (p + 1)) a = true
            · exact absurd ((m2 a).mpr (Or.inl ⟨a1, a2, a3⟩)) hf
            · exact key _ (by omega) (Or.inr (Or.inr rfl)) a3
          · exact key _ e2 (Or.inr (Or.inl rfl)) a2
        · exact key _ e1 (Or.inl rfl) a1
    · rw [m1 p e]; exact h1 p hp a
  · intro p hp a hl
    by_cases e : p = i
    · subst e; exact lev a (ps_Lv_m t p hl)
    · rw [m1 p e]; exact h2 p hp a hl
  · intro p hip hp a hl
    by_cases e : p = i
    · subst e; exact lev a hl
    · rw [m1 p e]; exact h3 p (by omega) hp a hl
  · intro hx
    rcases m3 with ⟨x1, x2⟩ | x1
    · have x3 : pd' = pd := funext x2
      subst x3
      intro p hip hp a
      by_cases e : p = i
      · subst e; exact m2 a
      · exact h4 (by rw [← x1]; exact hx) p (by omega) hp a
    · rw [x1] at hx; exact absurd hx (by decide)
  · rcases m3 with ⟨x1, _⟩ | x1
    · rw [x1]; exact h5
    · exact Or.inr x1
  · intro a
    rw [m1 n (by omega)]; exact h6 a
def ps_PF (K A B C : Nat → Int32) (n : Nat) (pd : Nat → Int64) : Prop := ∀ p, p ≤ n → ∀ a, ps_tb (pd p) a = true ↔ ps_Pd K A B C n a p
def ps_PS (K A B C : Nat → Int32) (n t : Nat) (pd : Nat → Int64) : Prop := ps_PSd K A B C n pd ∧ ps_PLv K A B C n t pd ∧ (∀ a, ps_tb (pd n) a = true ↔ a = n)
theorem ps_PI_next {t : Nat} {x : Int32} {pd : Nat → Int64} (h : ps_PI K A B C n t 0 x pd) : ps_PS K A B C n (t + 1) pd ∧ (x = 0 → ps_PCl K A B C n pd 0) :=
  ⟨⟨h.1, fun p hp a hl => h.2.2.1 p (by omega) hp a hl, h.2.2.2.2.2⟩, h.2.2.2.1⟩
theorem ps_PI_start {t : Nat} {pd : Nat → Int64} (h : ps_PS K A B C n t pd) : ps_PI K A B C n t n 0 pd := by
  obtain ⟨h1, h2, h3⟩ := h
  refine ⟨h1, h2, ?_, ?_, Or.inl rfl, h3⟩
  · intro p hp hp2 a hl ht
    have e : p = n := by omega
    subst e
    have ea := (h3 a).mp ht
    rcases hl with hl | ⟨q, _, he⟩
    · exact hl.2 ea
    · have := he.1; omega
  · intro _ p hp hp2; omega
theorem ps_PI_lv {t : Nat} {pd : Nat → Int64} (hn : n < 2 ^ 31) (ht : n + 1 ≤ t) (h : ps_PS K A B C n t pd) : ps_PF K A B C n pd := by
  obtain ⟨h1, h2, h3⟩ := h
  intro p hp a
  constructor
  · intro hb
    refine ⟨(h1 p hp a).1 hb, fun hN => ?_⟩
    refine h2 p hp a (ps_Lv_mon ht (ps_Lv_N (N := n + 1) ?_ ?_ hN)) hb
    · intro q hq; have := hq.1; omega
    · intro q s he; have := he.1; omega
  · rintro ⟨ha, hN⟩
    by_cases hb : ps_tb (pd p) a = true
    · exact hb
    · exact absurd ((h1 p hp a).2 ha hb) hN
theorem ps_PI_cl {t : Nat} {pd : Nat → Int64} (hn : n < 2 ^ 31) (h : ps_PS K A B C n t pd) (hc : ps_PCl K A B C n pd 0) : ps_PF K A B C n pd := by
  obtain ⟨h1, h2, h3⟩ := h
  intro p hp a
  constructor
  · intro hb
    refine ⟨(h1 p hp a).1 hb, fun hN => ?_⟩
    have := ps_Lf_i (fun p => p ≤ n → ¬ ps_tb (pd p) a = true) (fun q hq => ?_) (fun q s hq he => ?_) hN
    · exact this hp hb
    · intro _ ht
      rw [hq.1] at ht
      exact hq.2 ((h3 a).mp ht)
    · intro _ ht
      have hs := ps_Sw_le he.1 hn he.2.2
      rcases (hc s (by omega) he.1 a).mp ht with ⟨a1, a2, a3⟩ | e
      · rcases he.2.2 with rfl | rfl | rfl
        · exact hq hs a1
        · exact hq hs a2
        · exact hq hs a3
      · exact he.2.1 e.symm
  · rintro ⟨ha, hN⟩
    by_cases hb : ps_tb (pd p) a = true
    · exact hb
    · exact absurd ((h1 p hp a).2 ha hb) hN
/-- the sets at the start: all of 0 .. n, and n alone at n -/
theorem ps_PI_zero {pd : Nat → Int64} (h : ∀ p, p < n → ∀ a, ps_tb (pd p) a = true ↔ a ≤ n) (h2 : ∀ a, ps_tb (pd n) a = true ↔ a = n) : ps_PS K A B C n 0 pd := by
  refine ⟨?_, ?_, h2⟩
  · intro p hp a
    by_cases e : p = n
    · subst e
      refine ⟨fun ht => ?_, fun ha hf => ?_⟩
      · have := (h2 a).mp ht; omega
      · exact ps_Lf_b ⟨rfl, fun e => hf ((h2 a).mpr e)⟩
    · refine ⟨fun ht => (h p (by omega) a).mp ht, fun ha hf => ?_⟩
      exact absurd ((h p (by omega) a).mpr ha) hf
  · intro p _ a hl
    exact hl.elim
end
end
section
/-! ===== X: small methods ===== -/
section
variable {fll fvc fil fmc fit fhs fcv : Int32} {fkp fdk fck : Int64} {fqs fhr : Int32} {K A B C T inp jf js rn us df : Nat → Int32} {ri pd co : Nat → Int64} {cl qu nw od rv rm rc rs rh rd ro rt : Nat → Int32}
variable {vc ll n : Nat}
theorem ps_xhb {post : Int32 → Prop} {w : Int64} {i : Nat} (hi : i < 64) (h1 : ps_tb w i = true → post 1) (h0 : ¬ ps_tb w i = true → post 0) : wpX_hasBit post (fll, fvc, fil, fmc, fit, fhs, fcv, fkp, fdk, fck, fqs, fhr, K, A, B, C, T, inp, jf, js, rn, us, df, ri, pd, co, cl, qu, nw, od, rv, rm, rc, rs, rh, rd, ro, rt) w (nI i) :=
  br_c (fun h => h0 (by rw [(ps_bit w hi).mp h]; decide)) (fun h => h1 (by
    cases e : ps_tb w i with
    | true => rfl
    | false => exact absurd ((ps_bit w hi).mpr e) h))
theorem ps_xic {post : Int32 → Prop} {k : Int32} (h1 : ps_cmp k → post 1) (h0 : ¬ ps_cmp k → post 0) : wpX_isCompare post (fll, fvc, fil, fmc, fit, fhs, fcv, fkp, fdk, fck, fqs, fhr, K, A, B, C, T, inp, jf, js, rn, us, df, ri, pd, co, cl, qu, nw, od, rv, rm, rc, rs, rh, rd, ro, rt) k :=
  br_c (fun h => h0 (fun hc => hc.1 h)) (fun h => br_c (fun h2 => h0 (fun hc => hc.2 h2)) (fun h2 => h1 ⟨h, h2⟩))
theorem ps_xiv {post : Int32 → Prop} {x : Int32} (hv : vc < 2 ^ 31) (h1 : ∀ j, j < vc → x = nI j → post 1) (h0 : (x < 0 ∨ nI vc ≤ x) → post 0) : wpX_isVariable post (fll, nI vc, fil, fmc, fit, fhs, fcv, fkp, fdk, fck, fqs, fhr, K, A, B, C, T, inp, jf, js, rn, us, df, ri, pd, co, cl, qu, nw, od, rv, rm, rc, rs, rh, rd, ro, rt) x :=
  br_c (fun h => h0 (Or.inl h)) (fun h => br_c (fun h2 => h0 (Or.inr h2)) (fun h2 => by
    obtain ⟨j, hj, rfl⟩ := nI_of h
    rw [nI_leI hv hj] at h2
    exact h1 j (by omega) rfl))
theorem ps_xob {post : Int32 → Prop} {x : Int32} (h : post (ps_ob vc x)) : wpX_operandBit post (fll, nI vc, fil, fmc, fit, fhs, fcv, fkp, fdk, fck, fqs, fhr, K, A, B, C, T, inp, jf, js, rn, us, df, ri, pd, co, cl, qu, nw, od, rv, rm, rc, rs, rh, rd, ro, rt) x := by
  have h' : post (if x < 0 then 0 else if nI vc ≤ x then 0 else (1 : Int32) <<< (x &&& 31)) := h
  exact ps_bi post h' (fun h => br_t rfl h) (fun h => ps_bi post h (fun h => br_t rfl h) (fun h => br_f (by decide) h))
theorem ps_xrt {post : Int32 → Prop} {x : Int32} {j : Nat} (hj : j < 2 ^ 31) (hx : x = nI j) (h : post (nI (ps_T x n))) : wpX_realTarget post (fll, fvc, fil, fmc, fit, fhs, fcv, fkp, fdk, fck, fqs, fhr, K, A, B, C, T, inp, jf, js, rn, us, df, ri, pd, co, cl, qu, nw, od, rv, rm, rc, rs, rh, rd, ro, rt) x (nI n) :=
  br_c (fun c => by unfold ps_T at h; rw [if_pos c] at h; exact h) (fun c => by rw [ps_T_nI hj hx c] at h; exact h)
theorem ps_xdef {post : Int32 → Prop} {i : Nat} (hi : i < 64) (h : post (ps_dM vc (K i) (A i))) : wpX_definesOf post (fll, nI vc, fil, fmc, fit, fhs, fcv, fkp, fdk, fck, fqs, fhr, K, A, B, C, T, inp, jf, js, rn, us, df, ri, pd, co, cl, qu, nw, od, rv, rm, rc, rs, rh, rd, ro, rt) (nI i) := by
  have e : (nI i).toNatClampNeg = i := nI_clamp (by omega)
  have hin : vp_in (nI i) 64 := vp_in_nI hi (by omega)
  have h' : post (if K i = 4 then 256 ||| ps_ob vc (A i) else if K i = 5 then ps_ob vc (A i) else if K i < 11 then (if K i = 6 then 512 else 0) else ps_ob vc (A i)) := h
  refine And.intro hin (nm_r (e' := K i) (congrArg K e) ?_)
  refine ps_bi post h' (fun h => And.intro hin (ps_xob (post := fun r => post (256 ||| r)) ?_)) (fun h => ps_bi post h (fun h => And.intro hin (ps_xob (post := fun r => post r) ?_)) (fun h => ps_bi post h (fun h => ps_bi post h id id) (fun h => And.intro hin (ps_xob (post := fun r => post r) ?_))))
  · rw [e]; exact h
  · rw [e]; exact h
  · rw [e]; exact h
theorem ps_xuse {post : Int32 → Prop} {i : Nat} (hi : i < 64) (h : post (ps_uM vc (K i) (A i) (B i) (C i))) : wpX_usesOf post (fll, nI vc, fil, fmc, fit, fhs, fcv, fkp, fdk, fck, fqs, fhr, K, A, B, C, T, inp, jf, js, rn, us, df, ri, pd, co, cl, qu, nw, od, rv, rm, rc, rs, rh, rd, ro, rt) (nI i) := by
  have e : (nI i).toNatClampNeg = i := nI_clamp (by omega)
  have hin : vp_in (nI i) 64 := vp_in_nI hi (by omega)
  have h' : post (if 2 < K i then (if K i = 3 then ps_ob vc (A i) else if K i = 4 then 256 else if K i = 5 then 512 ||| ps_ob vc (B i) else if K i = 6 then (512 ||| ps_ob vc (A i)) ||| ps_ob vc (B i)
    else if ps_b (ps_cmp (K i)) = true then ps_ob vc (A i) ||| ps_ob vc (B i) else ps_ob vc (B i) ||| ps_ob vc (C i)) else 0) := h
  refine And.intro hin (nm_r (e' := K i) (congrArg K e) ?_)
  refine ps_bi post h' (fun h => ps_bi post h (fun h => And.intro hin (ps_xob (post := fun r => post r) ?_)) (fun h => ps_bi post h id (fun h => ps_bi post h (fun h => And.intro hin (ps_xob (post := fun r => post (512 ||| r)) ?_)) (fun h => ps_bi post h (fun h => And.intro hin (ps_xob ?_)) (fun h => ps_xic (fun c => ?_) (fun c => ?_)))))) id
  · rw [e]; exact h
  · rw [e]; exact h
  · refine And.intro hin (ps_xob ?_)
    rw [e]; exact h
  · rw [if_pos (ps_b_iff.mpr c)] at h
    refine br_f (by decide) (And.intro hin (ps_xob (And.intro hin (ps_xob ?_))))
    rw [e]; exact h
  · rw [if_neg (fun z => c (ps_b_iff.mp z))] at h
    refine br_t rfl (And.intro hin (ps_xob (And.intro hin (ps_xob ?_))))
    rw [e]; exact h
end
/-! ===== X: sorts and fields ===== -/
def ps_xsA (k : Int32) : Int32 := if k = 0 then 0 else if k = 1 then 0 else if k = 2 then 3 else if k = 3 then 2 else if k = 6 then 2 else if k < 7 then 1 else if 10 < k then 1 else 2
def ps_xsB (k : Int32) : Int32 := if k = 3 then 3 else if k < 5 then 0 else 2
def ps_xsC (k : Int32) : Int32 := if k = 3 then 3 else if k < 7 then (if k < 11 then 0 else 2) else if 10 < k then (if k < 11 then 0 else 2) else 3
theorem ps_xsA_t : ∀ q, q < 17 → ps_xsA (nI q) = nI (ps_srt q 1) := by decide +kernel
theorem ps_xsB_t : ∀ q, q < 17 → ps_xsB (nI q) = nI (ps_srt q 2) := by decide +kernel
theorem ps_xsC_t : ∀ q, q < 17 → ps_xsC (nI q) = nI (ps_srt q 3) := by decide +kernel
section
variable {fll fvc fil fmc fit fhs fcv : Int32} {fkp fdk fck : Int64} {fqs fhr : Int32} {K A B C T inp jf js rn us df : Nat → Int32} {ri pd co : Nat → Int64} {cl qu nw od rv rm rc rs rh rd ro rt : Nat → Int32}
variable {vc ll n : Nat}
theorem ps_xsrtA {post : Int32 → Prop} {q : Nat} (hq : q ≤ 16) (h : post (nI (ps_srt q 1))) : wpX_sortOf post (fll, fvc, fil, fmc, fit, fhs, fcv, fkp, fdk, fck, fqs, fhr, K, A, B, C, T, inp, jf, js, rn, us, df, ri, pd, co, cl, qu, nw, od, rv, rm, rc, rs, rh, rd, ro, rt) (nI q) 1 := by
  rw [← ps_xsA_t q (by omega)] at h
  have h' : post (if nI q = 0 then 0 else if nI q = 1 then 0 else if nI q = 2 then 3 else if nI q = 3 then 2 else if nI q = 6 then 2 else if nI q < 7 then 1 else if 10 < nI q then 1 else 2) := h
  exact br_t rfl (ps_bi post h' id (fun h => ps_bi post h id (fun h => ps_bi post h id (fun h => ps_bi post h id (fun h => ps_bi post h id (fun h => ps_bi post h (fun h => br_t rfl h) (fun h => ps_bi post h (fun h => br_t rfl h) (fun h => br_f (by decide) h))))))))
theorem ps_xsrtB {post : Int32 → Prop} {q : Nat} (hq : q ≤ 16) (h : post (nI (ps_srt q 2))) : wpX_sortOf post (fll, fvc, fil, fmc, fit, fhs, fcv, fkp, fdk, fck, fqs, fhr, K, A, B, C, T, inp, jf, js, rn, us, df, ri, pd, co, cl, qu, nw, od, rv, rm, rc, rs, rh, rd, ro, rt) (nI q) 2 := by
  rw [← ps_xsB_t q (by omega)] at h
  have h' : post (if nI q = 3 then 3 else if nI q < 5 then 0 else 2) := h
  exact br_f (by decide) (br_t rfl (ps_bi post h' id (fun h => ps_bi post h id id)))
theorem ps_xsrtC {post : Int32 → Prop} {q : Nat} (hq : q ≤ 16) (h : post (nI (ps_srt q 3))) : wpX_sortOf post (fll, fvc, fil, fmc, fit, fhs, fcv, fkp, fdk, fck, fqs, fhr, K, A, B, C, T, inp, jf, js, rn, us, df, ri, pd, co, cl, qu, nw, od, rv, rm, rc, rs, rh, rd, ro, rt) (nI q) 3 := by
  rw [← ps_xsC_t q (by omega)] at h
  have h' : post (if nI q = 3 then 3 else if nI q < 7 then (if nI q < 11 then 0 else 2) else if 10 < nI q then (if nI q < 11 then 0 else 2) else 3) := h
  exact br_f (by decide) (br_f (by decide) (ps_bi post h' id (fun h => ps_bi post h (fun h => br_t rfl (ps_bi post h id id)) (fun h => ps_bi post h (fun h => br_t rfl (ps_bi post h id id)) (fun h => br_f (by decide) h)))))
end
end
section
/-! ===== X: buildFlow ===== -/
/-- the flow tables of the lines below i -/
def ps_BF (vc : Nat) (K A B C : Nat → Int32) (n i : Nat) (jf js rn us df : Nat → Int32) : Prop :=
  ∀ j, j < i → jf j = nI (ps_E1 K A B C n j) ∧ js j = nI (ps_E2 K A B C n j) ∧ rn j = nI (ps_E3 K A n j) ∧ us j = ps_uM vc (K j) (A j) (B j) (C j) ∧ df j = ps_dM vc (K j) (A j)
theorem ps_BF_s {vc n i : Nat} {K A B C jf js rn us df : Nat → Int32} (h : ps_BF vc K A B C n i jf js rn us df) :
    ps_BF vc K A B C n (i + 1) (upd jf i (nI (ps_E1 K A B C n i))) (upd js i (nI (ps_E2 K A B C n i))) (upd rn i (nI (ps_E3 K A n i))) (upd us i (ps_uM vc (K i) (A i) (B i) (C i))) (upd df i (ps_dM vc (K i) (A i))) := by
  intro j hj
  by_cases e : j = i
  · subst e
    exact ⟨pk_us, pk_us, pk_us, pk_us, pk_us⟩
  · have := h j (by omega)
    rw [pk_un e, pk_un e, pk_un e, pk_un e, pk_un e]
    exact this
section
variable {fll fvc fil fmc fit fhs fcv : Int32} {fkp fdk fck : Int64} {fqs fhr : Int32} {K A B C T inp jf js rn us df : Nat → Int32} {ri pd co : Nat → Int64} {cl qu nw od rv rm rc rs rh rd ro rt : Nat → Int32}
variable {vc ll n : Nat}
theorem ps_xbf134 {post : SX → Prop} {J2 : Int32 → (Nat → Int32) → (Nat → Int32) → (Nat → Int32) → (Nat → Int32) → (Nat → Int32) → (Nat → Int32) → (Nat → Int32) → (Nat → Int32) → (Nat → Int32) → (Nat → Int32) → (Nat → Int32) → (Nat → Int64) → (Nat → Int64) → (Nat → Int64) → (Nat → Int32) → (Nat → Int32) → (Nat → Int32) → (Nat → Int32) → (Nat → Int32) → (Nat → Int32) → (Nat → Int32) → (Nat → Int32) → (Nat → Int32) → (Nat → Int32) → (Nat → Int32) → (Nat → Int32) → Prop}
    {i : Nat} {x1 x4 x5 x6 : Int32} (hi : i < 32)
    (h : J2 (nI (i + 1)) K A B C T inp (upd jf i x4) (upd js i x5) (upd rn i x6) (upd us i (ps_uM vc (K i) (A i) (B i) (C i))) (upd df i (ps_dM vc (K i) (A i))) ri pd co cl qu nw od rv rm rc rs rh rd ro rt) :
    wX_buildFlow_134 post J2 x1 (nI i) x4 x5 x6 fll (nI vc) fil fmc fit fhs fcv fkp fdk fck fqs fhr K A B C T inp jf js rn us df ri pd co cl qu nw od rv rm rc rs rh rd ro rt := by
  have e : (nI i).toNatClampNeg = i := nI_clamp (by omega)
  have hin : vp_in (nI i) 32 := vp_in_nI hi (by omega)
  refine And.intro hin (nm_r (e' := upd jf i x4) (by rw [e]) (And.intro hin (nm_r (e' := upd js i x5) (by rw [e]) (And.intro hin (nm_r (e' := upd rn i x6) (by rw [e]) ?_)))))
  refine ps_xuse (by omega) ?_
  refine And.intro hin (nm_r (e' := upd us i (ps_uM vc (K i) (A i) (B i) (C i))) (by rw [e]) ?_)
  refine ps_xdef (by omega) ?_
  refine And.intro hin (nm_r (e' := upd df i (ps_dM vc (K i) (A i))) (by rw [e]) ?_)
  exact nm_r (nI_1 i) h
theorem ps_xbf2 {post : SX → Prop} (hn : n ≤ 32) (hl : ll ≤ 32) (hV : ps_VP vc ll n K A B C)
    (hp : ∀ jf js rn us df, ps_BF vc K A B C n n jf js rn us df → post (fll, nI vc, fil, fmc, fit, fhs, fcv, fkp, fdk, fck, fqs, fhr, K, A, B, C, T, inp, jf, js, rn, us, df, ri, pd, co, cl, qu, nw, od, rv, rm, rc, rs, rh, rd, ro, rt)) :
    ∀ d i jf js rn us df, i + d = n → ps_BF vc K A B C n i jf js rn us df → wX_buildFlow_2 post (nI n) fll (nI vc) fil fmc fit fhs fcv fkp fdk fck fqs fhr (d + 1) (nI i) K A B C T inp jf js rn us df ri pd co cl qu nw od rv rm rc rs rh rd ro rt := by
  intro d
  induction d with
  | zero =>
    intro i jf js rn us df hd hB
    have e : i = n := by omega
    subst e
    exact br_t (nI_le (Nat.le_refl _) (by omega)) (hp _ _ _ _ _ hB)
  | succ d ih =>
    intro i jf js rn us df hd hB
    have hi : i < n := by omega
    have e : (nI i).toNatClampNeg = i := nI_clamp (by omega)
    have hin : vp_in (nI i) 64 := vp_in_nI (by omega) (by omega)
    have step := ps_xbf134 (post := post) (J2 := wX_buildFlow_2 post (nI n) fll (nI vc) fil fmc fit fhs fcv fkp fdk fck fqs fhr (d + 1)) (x1 := nI n) (x4 := nI (ps_E1 K A B C n i)) (x5 := nI (ps_E2 K A B C n i)) (x6 := nI (ps_E3 K A n i)) (vc := vc) (i := i) (jf := jf) (js := js) (rn := rn) (us := us) (df := df) (K := K) (A := A) (B := B) (C := C) (T := T) (inp := inp) (ri := ri) (pd := pd) (co := co) (cl := cl) (qu := qu) (nw := nw) (od := od) (rv := rv) (rm := rm) (rc := rc) (rs := rs) (rh := rh) (rd := rd) (ro := ro) (rt := rt) (fll := fll) (fil := fil) (fmc := fmc) (fit := fit) (fhs := fhs) (fcv := fcv) (fkp := fkp) (fdk := fdk) (fck := fck) (fqs := fqs) (fhr := fhr) (by omega) (ih (i + 1) _ _ _ _ _ (by omega) (ps_BF_s hB))
    obtain ⟨q, hq, hk, hfa, hfb, hfc⟩ := hV i hi
    refine br_f (nI_ge hi (by omega)) (And.intro hin (nm_r (e' := K i) (congrArg K e) (nm_r (nI_1 i) (nm_r (nI_1 i) (nm_r (nI_1 i) ?_)))))
    by_cases c1 : K i = 1
    · have e1 : ps_E1 K A B C n i = n := by unfold ps_E1; rw [if_pos c1]
      have e2 : ps_E2 K A B C n i = n := by unfold ps_E2; rw [if_pos c1]
      have e3 : ps_E3 K A n i = n := by unfold ps_E3; rw [if_pos c1]
      rw [e1, e2, e3] at step
      exact br_t c1 step
    refine br_f c1 ?_
    by_cases c2 : K i = 2
    · have e1 : ps_E1 K A B C n i = ps_T (A i) n := by unfold ps_E1; rw [if_neg c1, if_pos c2]
      have e2 : ps_E2 K A B C n i = ps_T (A i) n := by unfold ps_E2; rw [if_neg c1, if_pos c2]
      have e3 : ps_E3 K A n i = ps_T (A i) n := by unfold ps_E3; rw [if_neg c1, if_pos c2]
      rw [e1, e2, e3] at step
      have hs : ps_srt q 1 = 3 := by
        rw [hk, show (2 : Int32) = nI 2 from rfl, nI_eq (by omega) (by omega)] at c2
        subst c2; rfl
      obtain ⟨j, hj, hx⟩ := hfa.2.2 hs
      refine br_t c2 (And.intro hin (ps_xrt (j := j) (by omega) (by rw [e]; exact hx) ?_))
      rw [e]; exact step
    refine br_f c2 ?_
    by_cases c3 : K i = 3
    · have e1 : ps_E1 K A B C n i = ps_T (B i) n := by unfold ps_E1; rw [if_neg c1, if_neg c2, if_pos c3]
      have e2 : ps_E2 K A B C n i = ps_T (C i) n := by unfold ps_E2; rw [if_neg c1, if_neg c2, if_pos c3]
      have e3 : ps_E3 K A n i = i + 1 := by unfold ps_E3; rw [if_neg c1, if_neg c2]
      rw [e1, e2, e3] at step
      have hq3 : q = 3 := by
        rw [hk, show (3 : Int32) = nI 3 from rfl, nI_eq (by omega) (by omega)] at c3
        exact c3
      obtain ⟨j, hj, hx⟩ := hfb.2.2 (by subst hq3; rfl)
      obtain ⟨j2, hj2, hx2⟩ := hfc.2.2 (by subst hq3; rfl)
      refine br_t c3 (And.intro hin (ps_xrt (j := j) (by omega) (by rw [e]; exact hx) (And.intro hin (ps_xrt (j := j2) (by omega) (by rw [e]; exact hx2) ?_))))
      rw [e]; exact step
    refine br_f c3 ?_
    have e3 : ps_E3 K A n i = i + 1 := by unfold ps_E3; rw [if_neg c1, if_neg c2]
    refine ps_xic (fun c => ?_) (fun c => ?_)
    · have e1 : ps_E1 K A B C n i = ps_T (C i) n := by unfold ps_E1; rw [if_neg c1, if_neg c2, if_neg c3, if_pos (ps_b_iff.mpr c)]
      have e2 : ps_E2 K A B C n i = ps_T (C i) n := by unfold ps_E2; rw [if_neg c1, if_neg c2, if_neg c3, if_pos (ps_b_iff.mpr c)]
      rw [e1, e2, e3] at step
      have hs : ps_srt q 3 = 3 := by
        rw [hk, ps_cmp_nI hq] at c
        unfold ps_srt
        rw [if_neg (by omega), if_neg (by omega), if_pos rfl, if_pos (Or.inr c)]
      obtain ⟨j, hj, hx⟩ := hfc.2.2 hs
      refine br_f (by decide) (And.intro hin (ps_xrt (j := j) (by omega) (by rw [e]; exact hx) ?_))
      rw [e]; exact step
    · have e1 : ps_E1 K A B C n i = i + 1 := by unfold ps_E1; rw [if_neg c1, if_neg c2, if_neg c3, if_neg (fun z => c (ps_b_iff.mp z))]
      have e2 : ps_E2 K A B C n i = i + 1 := by unfold ps_E2; rw [if_neg c1, if_neg c2, if_neg c3, if_neg (fun z => c (ps_b_iff.mp z))]
      rw [e1, e2, e3] at step
      exact br_t rfl step
theorem ps_xbf {post : SX → Prop} (hn : n ≤ 32) (hl : ll ≤ 32) (hV : ps_VP vc ll n K A B C)
    (hp : ∀ jf js rn us df, ps_BF vc K A B C n n jf js rn us df → post (fll, nI vc, fil, fmc, fit, fhs, fcv, fkp, fdk, fck, fqs, fhr, K, A, B, C, T, inp, jf, js, rn, us, df, ri, pd, co, cl, qu, nw, od, rv, rm, rc, rs, rh, rd, ro, rt)) : wpX_buildFlow post (fll, nI vc, fil, fmc, fit, fhs, fcv, fkp, fdk, fck, fqs, fhr, K, A, B, C, T, inp, jf, js, rn, us, df, ri, pd, co, cl, qu, nw, od, rv, rm, rc, rs, rh, rd, ro, rt) (nI n) :=
  Exists.intro (n + 1) (ps_xbf2 hn hl hV hp n 0 jf js rn us df (by omega) (fun j hj => absurd hj (Nat.not_lt_zero j)))
end
end
section
/-! ===== X: solveReaching ===== -/
theorem ps_mg {ri : Nat → Int64} {q0 : Nat} {w : Int64} (q d : Nat) : ps_tb (vp_updL ri q0 (ri q0 ||| w) q) d = true ↔ (ps_tb (ri q) d = true ∨ (q = q0 ∧ ps_tb w d = true)) := by
  by_cases e : q = q0
  · subst e
    rw [pk_uLs, ps_tb_or, Bool.or_eq_true]
    constructor
    · rintro (h | h)
      · exact Or.inl h
      · exact Or.inr ⟨rfl, h⟩
    · rintro (h | h)
      · exact Or.inl h
      · exact Or.inr h.2
  · rw [pk_uLn e]
    constructor
    · intro h; exact Or.inl h
    · rintro (h | h)
      · exact h
      · exact absurd h.1 e
theorem ps_mg0 {ri : Nat → Int64} {q0 : Nat} {w : Int64} (h : (ri q0 ||| w) = ri q0) : vp_updL ri q0 (ri q0 ||| w) = ri := by
  funext q
  by_cases e : q = q0
  · subst e; rw [pk_uLs, h]
  · rw [pk_uLn e]
theorem ps_MD3 {K A B C : Nat → Int32} {n r i : Nat} {ri ri1 ri2 ri3 : Nat → Int64} {w : Int64} {x x' a b c : Int32} (hn : n < 2 ^ 31) (hi : i < n)
    (hw : ∀ d, ps_tb w d = true ↔ ps_Ou K A r ri i d)
    (e1 : ri1 = vp_updL ri (33 * r + ps_E1 K A B C n i) (ri (33 * r + ps_E1 K A B C n i) ||| w))
    (e2 : ri2 = vp_updL ri1 (33 * r + ps_E2 K A B C n i) (ri1 (33 * r + ps_E2 K A B C n i) ||| w))
    (e3 : ri3 = vp_updL ri2 (33 * r + ps_E3 K A n i) (ri2 (33 * r + ps_E3 K A n i) ||| w))
    (h1 : a = 0 → (ri (33 * r + ps_E1 K A B C n i) ||| w) = ri (33 * r + ps_E1 K A B C n i))
    (h2 : b = 0 → (ri1 (33 * r + ps_E2 K A B C n i) ||| w) = ri1 (33 * r + ps_E2 K A B C n i))
    (h3 : c = 0 → (ri2 (33 * r + ps_E3 K A n i) ||| w) = ri2 (33 * r + ps_E3 K A n i))
    (hx : (a = 0 ∧ b = 0 ∧ c = 0 ∧ x' = x) ∨ x' = 1) : ps_MD K A B C n r i ri ri3 x x' := by
  have l1 : ps_E1 K A B C n i ≤ n := ps_E1_le hi hn
  have l2 : ps_E2 K A B C n i ≤ n := ps_E2_le hi hn
  have l3 : ps_E3 K A n i ≤ n := ps_E3_le hi hn
  refine ⟨?_, ?_, ?_⟩
  · intro q hq
    rw [e3, pk_uLn (hq _ l3), e2, pk_uLn (hq _ l2), e1, pk_uLn (hq _ l1)]
  · intro p hp d
    rw [e3, ps_mg, e2, ps_mg, e1, ps_mg, ← hw d]
    unfold ps_Sr
    constructor
    · rintro (((h | ⟨h, hd⟩) | ⟨h, hd⟩) | ⟨h, hd⟩)
      · exact Or.inl h
      · exact Or.inr ⟨Or.inl (by omega), hd⟩
      · exact Or.inr ⟨Or.inr (Or.inl (by omega)), hd⟩
      · exact Or.inr ⟨Or.inr (Or.inr (by omega)), hd⟩
    · rintro (h | ⟨h | h | h, hd⟩)
      · exact Or.inl (Or.inl (Or.inl h))
      · exact Or.inl (Or.inl (Or.inr ⟨by omega, hd⟩))
      · exact Or.inl (Or.inr ⟨by omega, hd⟩)
      · exact Or.inr ⟨by omega, hd⟩
  · rcases hx with ⟨ha, hb, hc, hx⟩ | hx
    · refine Or.inl ⟨hx, fun q => ?_⟩
      rw [e3, ps_mg0 (h3 hc), e2, ps_mg0 (h2 hb), e1, ps_mg0 (h1 ha)]
    · exact Or.inr hx
section
variable {fll fvc fil fmc fit fhs fcv : Int32} {fkp fdk fck : Int64} {fqs fhr : Int32} {K A B C T inp jf js rn us df : Nat → Int32} {ri pd co : Nat → Int64} {cl qu nw od rv rm rc rs rh rd ro rt : Nat → Int32}
variable {vc ll n r : Nat}
theorem ps_xmr {post : Int32 → SX → Prop} {q : Nat} {w : Int64} (hq : q < 330) (h : ∀ x : Int32, (x = 0 → (ri q ||| w) = ri q) → post x (fll, fvc, fil, fmc, fit, fhs, fcv, fkp, fdk, fck, fqs, fhr, K, A, B, C, T, inp, jf, js, rn, us, df, vp_updL ri q (ri q ||| w), pd, co, cl, qu, nw, od, rv, rm, rc, rs, rh, rd, ro, rt)) : wpX_mergeReach post (fll, fvc, fil, fmc, fit, fhs, fcv, fkp, fdk, fck, fqs, fhr, K, A, B, C, T, inp, jf, js, rn, us, df, ri, pd, co, cl, qu, nw, od, rv, rm, rc, rs, rh, rd, ro, rt) (nI q) w := by
  have e : (nI q).toNatClampNeg = q := nI_clamp (by omega)
  have hin : vp_in (nI q) 330 := vp_in_nI hq (by omega)
  refine And.intro hin (nm_r (e' := ri q) (congrArg ri e) (nm_e (And.intro hin (nm_r (e' := vp_updL ri q (ri q ||| w)) (by rw [e]) ?_))))
  exact br_c (fun c => h 0 (fun _ => c)) (fun _ => h 1 (fun z => absurd z (by decide)))
theorem ps_xsr94 {post : SX → Prop} {J38 J57 : Int32 → Int32 → Int32 → Int32 → Int32 → Int32 → Int32 → Int32 → Int32 → Int64 → Int64 → Int64 → Int32 → Int32 → (Nat → Int32) → (Nat → Int32) → (Nat → Int32) → (Nat → Int32) → (Nat → Int32) → (Nat → Int32) → (Nat → Int32) → (Nat → Int32) → (Nat → Int32) → (Nat → Int32) → (Nat → Int32) → (Nat → Int64) → (Nat → Int64) → (Nat → Int64) → (Nat → Int32) → (Nat → Int32) → (Nat → Int32) → (Nat → Int32) → (Nat → Int32) → (Nat → Int32) → (Nat → Int32) → (Nat → Int32) → (Nat → Int32) → (Nat → Int32) → (Nat → Int32) → (Nat → Int32) → Prop}
    {i : Nat} {x1 x2 x4 x5 : Int32} {w : Int64} (hn : n ≤ 32) (hr : r ≤ 9) (hi : i < n) (hB : ps_BF vc K A B C n n jf js rn us df)
    (hw : ∀ d, ps_tb w d = true ↔ ps_Ou K A r ri i d)
    (h : ∀ ri' x', ps_MD K A B C n r i ri ri' x4 x' → J57 x' (nI (i + 1)) fll fvc fil fmc fit fhs fcv fkp fdk fck fqs fhr K A B C T inp jf js rn us df ri' pd co cl qu nw od rv rm rc rs rh rd ro rt) :
    wX_solveReaching_94 post J38 J57 x1 x2 (nI (33 * r)) x4 x5 (nI i) w fll fvc fil fmc fit fhs fcv fkp fdk fck fqs fhr K A B C T inp jf js rn us df ri pd co cl qu nw od rv rm rc rs rh rd ro rt := by
  have e : (nI i).toNatClampNeg = i := nI_clamp (by omega)
  have hin : vp_in (nI i) 32 := vp_in_nI (by omega) (by omega)
  obtain ⟨hf, hs, hx, _, _⟩ := hB i hi
  have l1 : ps_E1 K A B C n i ≤ n := ps_E1_le hi (by omega)
  have l2 : ps_E2 K A B C n i ≤ n := ps_E2_le hi (by omega)
  have l3 : ps_E3 K A n i ≤ n := ps_E3_le hi (by omega)
  have i1 : nI (33 * r) + jf (nI i).toNatClampNeg = nI (33 * r + ps_E1 K A B C n i) := by rw [e, hf, nI_add]
  have i2 : nI (33 * r) + js (nI i).toNatClampNeg = nI (33 * r + ps_E2 K A B C n i) := by rw [e, hs, nI_add]
  have i3 : nI (33 * r) + rn (nI i).toNatClampNeg = nI (33 * r + ps_E3 K A n i) := by rw [e, hx, nI_add]
  refine And.intro hin ?_
  rw [i1]
  refine ps_xmr (by omega) (fun a ha => And.intro hin ?_)
  rw [i2]
  refine ps_xmr (by omega) (fun b hb => And.intro hin ?_)
  rw [i3]
  refine ps_xmr (by omega) (fun c hc => ?_)
  have md := fun x' => ps_MD3 (x := x4) (x' := x') (by omega) hi hw rfl rfl rfl ha hb hc
  refine br_c (fun ca => br_c (fun cb => br_c (fun cc => nm_r (nI_1 i) ?_) (fun cc => nm_r (nI_1 i) ?_)) (fun cb => nm_r (nI_1 i) ?_)) (fun ca => nm_r (nI_1 i) ?_)
  · exact h _ _ (md _ (Or.inl ⟨ca, cb, cc, rfl⟩))
  · exact h _ _ (md _ (Or.inr rfl))
  · exact h _ _ (md _ (Or.inr rfl))
  · exact h _ _ (md _ (Or.inr rfl))
theorem ps_xsr57 {post : SX → Prop} {J38 : Int32 → Int32 → Int32 → Int32 → Int32 → Int32 → Int32 → Int32 → Int32 → Int64 → Int64 → Int64 → Int32 → Int32 → (Nat → Int32) → (Nat → Int32) → (Nat → Int32) → (Nat → Int32) → (Nat → Int32) → (Nat → Int32) → (Nat → Int32) → (Nat → Int32) → (Nat → Int32) → (Nat → Int32) → (Nat → Int32) → (Nat → Int64) → (Nat → Int64) → (Nat → Int64) → (Nat → Int32) → (Nat → Int32) → (Nat → Int32) → (Nat → Int32) → (Nat → Int32) → (Nat → Int32) → (Nat → Int32) → (Nat → Int32) → (Nat → Int32) → (Nat → Int32) → (Nat → Int32) → (Nat → Int32) → Prop}
    {t : Nat} {ri0 : Nat → Int64} (hv : vc ≤ 8) (hn : n ≤ 32) (hr : r ≤ 9) (hV : ps_VP vc ll n K A B C) (hB : ps_BF vc K A B C n n jf js rn us df)
    (hJ : ∀ x ri, ps_RI K A B C n r t n x ri → ps_Fr n r ri0 ri → J38 x (nI (t + 1)) fll fvc fil fmc fit fhs fcv fkp fdk fck fqs fhr K A B C T inp jf js rn us df ri pd co cl qu nw od rv rm rc rs rh rd ro rt) :
    ∀ d i x ri, i + d = n → ps_RI K A B C n r t i x ri → ps_Fr n r ri0 ri → wX_solveReaching_57 post J38 (nI r) (nI n) (nI (33 * r)) (nI t) (d + 1) x (nI i) fll fvc fil fmc fit fhs fcv fkp fdk fck fqs fhr K A B C T inp jf js rn us df ri pd co cl qu nw od rv rm rc rs rh rd ro rt := by
  intro d
  induction d with
  | zero =>
    intro i x ri hd hI hF
    have e : i = n := by omega
    subst e
    exact br_t (nI_le (Nat.le_refl _) (by omega)) (nm_r (nI_1 t) (hJ x ri hI hF))
  | succ d ih =>
    intro i x ri hd hI hF
    have hi : i < n := by omega
    have e : (nI i).toNatClampNeg = i := nI_clamp (by omega)
    have hin : vp_in (nI i) 32 := vp_in_nI (by omega) (by omega)
    have ea : nI (33 * r) + nI i = nI (33 * r + i) := nI_add _ _
    have hin2 : vp_in (nI (33 * r) + nI i) 330 := by rw [ea]; exact vp_in_nI (by omega) (by omega)
    have hbit := ps_dM_bit (r := r) hv hr (hV i hi)
    have hdf := (hB i hi).2.2.2.2
    have cont : ∀ w, (∀ d, ps_tb w d = true ↔ ps_Ou K A r ri i d) → wX_solveReaching_94 post J38 (wX_solveReaching_57 post J38 (nI r) (nI n) (nI (33 * r)) (nI t) (d + 1)) (nI r) (nI n) (nI (33 * r)) x (nI t) (nI i) w fll fvc fil fmc fit fhs fcv fkp fdk fck fqs fhr K A B C T inp jf js rn us df ri pd co cl qu nw od rv rm rc rs rh rd ro rt := by
      intro w hw
      refine ps_xsr94 (vc := vc) hn hr hi hB hw (fun ri' x' m => ?_)
      exact ih (i + 1) x' ri' (by omega) (ps_RI_step (by omega) hi hI m) (fun q hq => by rw [m.1 q hq, hF q hq])
    refine br_f (nI_ge hi (by omega)) (And.intro hin2 (nm_r (e' := ri (33 * r + i)) (by rw [ea, nI_clamp (by omega)]) (And.intro hin (br_c (fun c => ?_) (fun c => nm_e ?_)))))
    · rw [e, hdf, ps_bit32 _ (by omega)] at c
      have hD : ¬ ps_D K A (nI r) i := fun z => by rw [hbit.mpr z] at c; exact absurd c (by decide)
      refine cont _ (fun d => ?_)
      exact ⟨fun z => Or.inr ⟨hD, z⟩, fun z => z.elim (fun y => absurd y.1 hD) (fun y => y.2)⟩
    · rw [e, hdf, ps_bit32 _ (by omega)] at c
      have hD : ps_D K A (nI r) i := hbit.mp (by simpa using c)
      refine cont _ (fun d => ?_)
      rw [ps_tb_one (by omega), decide_eq_true_eq]
      exact ⟨fun z => Or.inl ⟨hD, z⟩, fun z => z.elim (fun y => y.2) (fun y => absurd hD y.1)⟩
theorem ps_xsr38 {post : SX → Prop} {ri0 : Nat → Int64} (hv : vc ≤ 8) (hn : n ≤ 32) (hr : r ≤ 9) (hV : ps_VP vc ll n K A B C) (hB : ps_BF vc K A B C n n jf js rn us df)
    (hp : ∀ ri, ps_Fr n r ri0 ri → ps_RF K A B C n r ri → post (fll, fvc, fil, fmc, fit, fhs, fcv, fkp, fdk, fck, fqs, fhr, K, A, B, C, T, inp, jf, js, rn, us, df, ri, pd, co, cl, qu, nw, od, rv, rm, rc, rs, rh, rd, ro, rt)) :
    ∀ d t x ri, t + d = n + 2 → ps_RSd K A B C n r ri → ps_RLv K A B C n r t ri → (x = 0 → ps_RCl K A B C n r ri n) → ps_Fr n r ri0 ri → wX_solveReaching_38 post (nI r) (nI n) (nI (33 * r)) (d + 1) x (nI t) fll fvc fil fmc fit fhs fcv fkp fdk fck fqs fhr K A B C T inp jf js rn us df ri pd co cl qu nw od rv rm rc rs rh rd ro rt := by
  intro d
  induction d with
  | zero =>
    intro t x ri hd h1 h2 h3 hF
    refine br_c (fun c => hp ri hF (ps_RI_cl (by omega) h1 (h3 c))) (fun c => ?_)
    rw [nI_1]
    exact br_t (nI_lt (by omega) (by omega)) (hp ri hF (ps_RI_lv (t := t) (by omega) (by omega) h1 h2))
  | succ d ih =>
    intro t x ri hd h1 h2 h3 hF
    refine br_c (fun c => hp ri hF (ps_RI_cl (by omega) h1 (h3 c))) (fun c => ?_)
    rw [nI_1]
    refine br_f (nI_nlt (by omega) (by omega)) (Exists.intro (n + 1) ?_)
    refine ps_xsr57 (ri0 := ri0) hv hn hr hV hB (fun x ri hI hF => ?_) n 0 0 ri (by omega) (ps_RI_start h1 h2) hF
    have hN := ps_RI_next hI
    exact ih (t + 1) x ri (by omega) hN.1 hN.2.1 hN.2.2 hF
theorem ps_xsr10 {post : SX → Prop} {ri0 : Nat → Int64} (hv : vc ≤ 8) (hn : n ≤ 32) (hr : r ≤ 9) (hV : ps_VP vc ll n K A B C) (hB : ps_BF vc K A B C n n jf js rn us df)
    (hp : ∀ ri, ps_Fr n r ri0 ri → ps_RF K A B C n r ri → post (fll, fvc, fil, fmc, fit, fhs, fcv, fkp, fdk, fck, fqs, fhr, K, A, B, C, T, inp, jf, js, rn, us, df, ri, pd, co, cl, qu, nw, od, rv, rm, rc, rs, rh, rd, ro, rt)) :
    ∀ d p ri, p + d = n + 1 → (∀ j, j < p → ri (33 * r + j) = 0) → ps_Fr n r ri0 ri → wX_solveReaching_10 post (nI r) (nI n) (nI (33 * r)) fll fvc fil fmc fit fhs fcv fkp fdk fck fqs fhr (d + 1) (nI p) K A B C T inp jf js rn us df ri pd co cl qu nw od rv rm rc rs rh rd ro rt := by
  intro d
  induction d with
  | zero =>
    intro p ri hd h0 hF
    have hz := ps_RI_zero (K := K) (A := A) (B := B) (C := C) (n := n) (r := r) (ri := ri) (fun p hp => h0 p (by omega))
    refine br_t (nI_lt (by omega) (by omega)) (Exists.intro (n + 3) ?_)
    exact ps_xsr38 (ri0 := ri0) hv hn hr hV hB hp (n + 2) 0 1 ri (by omega) hz.1 hz.2 (fun c => absurd c (by decide)) hF
  | succ d ih =>
    intro p ri hd h0 hF
    have ea : nI (33 * r) + nI p = nI (33 * r + p) := nI_add _ _
    have hin2 : vp_in (nI (33 * r) + nI p) 330 := by rw [ea]; exact vp_in_nI (by omega) (by omega)
    refine br_f (nI_nlt (by omega) (by omega)) (And.intro hin2 (nm_r (e' := vp_updL ri (33 * r + p) 0) (by rw [ea, nI_clamp (by omega)]) (nm_r (nI_1 p) ?_)))
    refine ih (p + 1) _ (by omega) (fun j hj => ?_) (fun q hq => ?_)
    · by_cases ej : j = p
      · subst ej; exact pk_uLs
      · rw [pk_uLn (by omega)]; exact h0 j (by omega)
    · rw [pk_uLn (hq p (by omega))]; exact hF q hq
theorem ps_xsr {post : SX → Prop} (hv : vc ≤ 8) (hn : n ≤ 32) (hr : r ≤ 9) (hV : ps_VP vc ll n K A B C) (hB : ps_BF vc K A B C n n jf js rn us df)
    (hp : ∀ ri', ps_Fr n r ri ri' → ps_RF K A B C n r ri' → post (fll, fvc, fil, fmc, fit, fhs, fcv, fkp, fdk, fck, fqs, fhr, K, A, B, C, T, inp, jf, js, rn, us, df, ri', pd, co, cl, qu, nw, od, rv, rm, rc, rs, rh, rd, ro, rt)) : wpX_solveReaching post (fll, fvc, fil, fmc, fit, fhs, fcv, fkp, fdk, fck, fqs, fhr, K, A, B, C, T, inp, jf, js, rn, us, df, ri, pd, co, cl, qu, nw, od, rv, rm, rc, rs, rh, rd, ro, rt) (nI r) (nI n) := by
  show ∃ n10 : Nat, wX_solveReaching_10 post (nI r) (nI n) (nI r * 33 + 0) fll fvc fil fmc fit fhs fcv fkp fdk fck fqs fhr n10 0 K A B C T inp jf js rn us df ri pd co cl qu nw od rv rm rc rs rh rd ro rt
  have e : nI r * 33 + 0 = nI (33 * r) := by
    rw [show (33 : Int32) = nI 33 from rfl, pk_mul, Int32.add_zero, Nat.mul_comm]
  rw [e]
  exact Exists.intro (n + 2) (ps_xsr10 (ri0 := ri) hv hn hr hV hB hp (n + 1) 0 ri (by omega) (fun j hj => absurd hj (Nat.not_lt_zero j)) (fun q _ => rfl))
end
end
section
/-! ===== X: solvePostDominators ===== -/
theorem ps_PMa {K A B C : Nat → Int32} {n i : Nat} {pd : Nat → Int64} {now : Int64} {x : Int32} (hi : i < 32)
    (hnow : now = ((pd (ps_E1 K A B C n i) &&& pd (ps_E2 K A B C n i)) &&& pd (i + 1)) ||| ((1 : Int64) <<< ((nI i).toInt64 &&& 63))) :
    (now = pd i → ps_PM K A B C n i pd pd x x) ∧ ps_PM K A B C n i pd (vp_updL pd i now) x 1 := by
  have hb : ∀ a, ps_tb now a = true ↔ ps_Nw K A B C n pd i a := by
    intro a
    unfold ps_Nw
    rw [hnow, ps_tb_or, ps_tb_and, ps_tb_and, ps_tb_one (by omega), Bool.or_eq_true, Bool.and_eq_true, Bool.and_eq_true, decide_eq_true_eq, and_assoc]
  refine ⟨fun e => ⟨fun _ _ => rfl, ?_, Or.inl ⟨rfl, fun _ => rfl⟩⟩, ⟨fun p hp => pk_uLn hp, ?_, Or.inr rfl⟩⟩
  · rw [← e]; exact hb
  · rw [pk_uLs]; exact hb
section
variable {fll fvc fil fmc fit fhs fcv : Int32} {fkp fdk fck : Int64} {fqs fhr : Int32} {K A B C T inp jf js rn us df : Nat → Int32} {ri pd co : Nat → Int64} {cl qu nw od rv rm rc rs rh rd ro rt : Nat → Int32}
variable {vc ll n : Nat}
theorem ps_xpd67 {post : SX → Prop} {J46 : Int32 → Int32 → (Nat → Int32) → (Nat → Int32) → (Nat → Int32) → (Nat → Int32) → (Nat → Int32) → (Nat → Int32) → (Nat → Int32) → (Nat → Int32) → (Nat → Int32) → (Nat → Int32) → (Nat → Int32) → (Nat → Int64) → (Nat → Int64) → (Nat → Int64) → (Nat → Int32) → (Nat → Int32) → (Nat → Int32) → (Nat → Int32) → (Nat → Int32) → (Nat → Int32) → (Nat → Int32) → (Nat → Int32) → (Nat → Int32) → (Nat → Int32) → (Nat → Int32) → (Nat → Int32) → Prop}
    {t : Nat} {x1 : Int32} (hn : n ≤ 32) (hB : ps_BF vc K A B C n n jf js rn us df)
    (hJ : ∀ x pd, ps_PI K A B C n t 0 x pd → J46 x (nI (t + 1)) K A B C T inp jf js rn us df ri pd co cl qu nw od rv rm rc rs rh rd ro rt) :
    ∀ m x pd, m ≤ n → ps_PI K A B C n t m x pd → wX_solvePostDominators_67 post J46 x1 (nI t) fll fvc fil fmc fit fhs fcv fkp fdk fck fqs fhr (m + 1) x (nI m - 1) K A B C T inp jf js rn us df ri pd co cl qu nw od rv rm rc rs rh rd ro rt := by
  intro m
  induction m with
  | zero =>
    intro x pd hm hI
    exact br_t (by decide) (nm_r (nI_1 t) (hJ x pd hI))
  | succ m ih =>
    intro x pd hm hI
    have hi : m < n := by omega
    have e : (nI m).toNatClampNeg = m := nI_clamp (by omega)
    have hin : vp_in (nI m) 32 := vp_in_nI (by omega) (by omega)
    have hin3 : vp_in (nI m) 33 := vp_in_nI (by omega) (by omega)
    obtain ⟨hf, hs, _, _, _⟩ := hB m hi
    have l1 : ps_E1 K A B C n m ≤ n := ps_E1_le hi (by omega)
    have l2 : ps_E2 K A B C n m ≤ n := ps_E2_le hi (by omega)
    have hP := ps_PMa (K := K) (A := A) (B := B) (C := C) (n := n) (i := m) (pd := pd) (x := x) (by omega) rfl
    have en : nI m + (-1) = nI m - 1 := by rw [Int32.sub_eq_add_neg]
    rw [nI_pred]
    refine br_f (nI_pos (by omega)) (And.intro hin (And.intro (by rw [e, hf]; exact vp_in_nI (by omega) (by omega)) (And.intro hin (And.intro (by rw [e, hs]; exact vp_in_nI (by omega) (by omega)) (And.intro (by rw [nI_1]; exact vp_in_nI (by omega) (by omega)) ?_)))))
    refine nm_r (e' := (pd (ps_E1 K A B C n m) &&& pd (ps_E2 K A B C n m)) &&& pd (m + 1)) (by rw [e, hf, hs, nI_1, nI_clamp (by omega), nI_clamp (by omega), nI_clamp (by omega)]) (nm_e (And.intro hin3 (br_c (fun c => nm_r en ?_) (fun c => And.intro hin3 (nm_r (e' := vp_updL pd m (((pd (ps_E1 K A B C n m) &&& pd (ps_E2 K A B C n m)) &&& pd (m + 1)) ||| ((1 : Int64) <<< ((nI m).toInt64 &&& 63)))) (by rw [e]) (nm_r en ?_))))))
    · rw [e] at c
      exact ih x pd (by omega) (ps_PI_step (by omega) hi hI (hP.1 c))
    · exact ih 1 _ (by omega) (ps_PI_step (by omega) hi hI hP.2)
theorem ps_xpd46 {post : SX → Prop} (hn : n ≤ 32) (hB : ps_BF vc K A B C n n jf js rn us df)
    (hp : ∀ pd, ps_PF K A B C n pd → post (fll, fvc, fil, fmc, fit, fhs, fcv, fkp, fdk, fck, fqs, fhr, K, A, B, C, T, inp, jf, js, rn, us, df, ri, pd, co, cl, qu, nw, od, rv, rm, rc, rs, rh, rd, ro, rt)) :
    ∀ d t x pd, t + d = n + 2 → ps_PS K A B C n t pd → (x = 0 → ps_PCl K A B C n pd 0) → wX_solvePostDominators_46 post (nI n) fll fvc fil fmc fit fhs fcv fkp fdk fck fqs fhr (d + 1) x (nI t) K A B C T inp jf js rn us df ri pd co cl qu nw od rv rm rc rs rh rd ro rt := by
  intro d
  induction d with
  | zero =>
    intro t x pd hd h1 h3
    refine br_c (fun c => hp pd (ps_PI_cl (by omega) h1 (h3 c))) (fun c => ?_)
    rw [nI_1]
    exact br_t (nI_lt (by omega) (by omega)) (hp pd (ps_PI_lv (t := t) (by omega) (by omega) h1))
  | succ d ih =>
    intro t x pd hd h1 h3
    refine br_c (fun c => hp pd (ps_PI_cl (by omega) h1 (h3 c))) (fun c => ?_)
    rw [nI_1]
    refine br_f (nI_nlt (by omega) (by omega)) (nm_e (Exists.intro (n + 1) ?_))
    refine ps_xpd67 hn hB (fun x pd hI => ?_) n 0 pd (Nat.le_refl n) (ps_PI_start h1)
    have hN := ps_PI_next hI
    exact ih (t + 1) x pd (by omega) hN.1 hN.2
theorem ps_xpd11 {post : SX → Prop} {all : Int64} (hall : ∀ a, ps_tb all a = true ↔ a ≤ n) (hn : n ≤ 32) (hB : ps_BF vc K A B C n n jf js rn us df)
    (hp : ∀ pd, ps_PF K A B C n pd → post (fll, fvc, fil, fmc, fit, fhs, fcv, fkp, fdk, fck, fqs, fhr, K, A, B, C, T, inp, jf, js, rn, us, df, ri, pd, co, cl, qu, nw, od, rv, rm, rc, rs, rh, rd, ro, rt)) :
    ∀ d p pd, p + d = n → (∀ j, j < p → pd j = all) → wX_solvePostDominators_11 post (nI n) all fll fvc fil fmc fit fhs fcv fkp fdk fck fqs fhr (d + 1) (nI p) K A B C T inp jf js rn us df ri pd co cl qu nw od rv rm rc rs rh rd ro rt := by
  intro d
  induction d with
  | zero =>
    intro p pd hd h0
    have ep : p = n := by omega
    subst ep
    have e : (nI p).toNatClampNeg = p := nI_clamp (by omega)
    refine br_t (nI_le (Nat.le_refl _) (by omega)) (And.intro (vp_in_nI (by omega) (by omega)) (nm_r (e' := vp_updL pd p ((1 : Int64) <<< ((nI p).toInt64 &&& 63))) (by rw [e]) (Exists.intro (p + 3) ?_)))
    refine ps_xpd46 hn hB hp (p + 2) 0 1 _ (by omega) (ps_PI_zero (fun q hq a => ?_) (fun a => ?_)) (fun c => absurd c (by decide))
    · rw [pk_uLn (by omega), h0 q hq]; exact hall a
    · rw [pk_uLs, ps_tb_one (by omega), decide_eq_true_eq]
  | succ d ih =>
    intro p pd hd h0
    have e : (nI p).toNatClampNeg = p := nI_clamp (by omega)
    refine br_f (nI_ge (by omega) (by omega)) (And.intro (vp_in_nI (by omega) (by omega)) (nm_r (e' := vp_updL pd p all) (by rw [e]) (nm_r (nI_1 p) ?_)))
    refine ih (p + 1) _ (by omega) (fun j hj => ?_)
    by_cases ej : j = p
    · subst ej; exact pk_uLs
    · rw [pk_uLn ej]; exact h0 j (by omega)
theorem ps_xpd {post : SX → Prop} (hn : n ≤ 32) (hB : ps_BF vc K A B C n n jf js rn us df)
    (hp : ∀ pd, ps_PF K A B C n pd → post (fll, fvc, fil, fmc, fit, fhs, fcv, fkp, fdk, fck, fqs, fhr, K, A, B, C, T, inp, jf, js, rn, us, df, ri, pd, co, cl, qu, nw, od, rv, rm, rc, rs, rh, rd, ro, rt)) : wpX_solvePostDominators post (fll, fvc, fil, fmc, fit, fhs, fcv, fkp, fdk, fck, fqs, fhr, K, A, B, C, T, inp, jf, js, rn, us, df, ri, pd, co, cl, qu, nw, od, rv, rm, rc, rs, rh, rd, ro, rt) (nI n) := by
  refine nm_r (e' := ((1 : Int64) <<< ((nI (n + 1)).toInt64 &&& 63)) - 1) (by rw [nI_1]) (Exists.intro (n + 1) ?_)
  exact ps_xpd11 (fun a => by rw [ps_tb_all hn, decide_eq_true_eq]) hn hB hp n 0 pd (by omega) (fun j hj => absurd hj (Nat.not_lt_zero j))
end
end
section
/-! ===== X: findControllers ===== -/
def ps_CI (K A B C : Nat → Int32) (n b m : Nat) (co : Nat → Int64) : Prop :=
  ∀ j, j < n → ∀ x, ps_tb (co j) x = true ↔ ((x < b ∧ ps_Ct K A B C n x j) ∨ (x = b ∧ j < m ∧ ps_Ct K A B C n b j))
def ps_CF (K A B C : Nat → Int32) (n : Nat) (co : Nat → Int64) : Prop := ∀ m, m < n → ∀ b, ps_tb (co m) b = true ↔ (b < n ∧ ps_Ct K A B C n b m)
theorem ps_CI_next {K A B C : Nat → Int32} {n b : Nat} {co : Nat → Int64} (h : ps_CI K A B C n b n co) : ps_CI K A B C n (b + 1) 0 co := by
  intro j hj x
  rw [h j hj x]
  constructor
  · rintro (⟨h1, h2⟩ | ⟨h1, _, h2⟩)
    · exact Or.inl ⟨by omega, h2⟩
    · subst h1; exact Or.inl ⟨by omega, h2⟩
  · rintro (⟨h1, h2⟩ | ⟨_, h1, _⟩)
    · by_cases e : x = b
      · subst e; exact Or.inr ⟨rfl, hj, h2⟩
      · exact Or.inl ⟨by omega, h2⟩
    · omega
theorem ps_CI_skip {K A B C : Nat → Int32} {n b m : Nat} {co : Nat → Int64} (h : ps_CI K A B C n b m co) (hc : ¬ ps_Ct K A B C n b m) : ps_CI K A B C n b (m + 1) co := by
  intro j hj x
  rw [h j hj x]
  constructor
  · rintro (⟨h1, h2⟩ | ⟨h1, h3, h2⟩)
    · exact Or.inl ⟨by omega, h2⟩
    · exact Or.inr ⟨h1, by omega, h2⟩
  · rintro (⟨h1, h2⟩ | ⟨h1, h3, h2⟩)
    · exact Or.inl ⟨h1, h2⟩
    · by_cases e : j = m
      · subst e; exact absurd h2 hc
      · exact Or.inr ⟨h1, by omega, h2⟩
theorem ps_CI_put {K A B C : Nat → Int32} {n b m : Nat} {co : Nat → Int64} (hb : b < 32) (h : ps_CI K A B C n b m co) (hc : ps_Ct K A B C n b m) :
    ps_CI K A B C n b (m + 1) (vp_updL co m (co m ||| ((1 : Int64) <<< ((nI b).toInt64 &&& 63)))) := by
  intro j hj x
  rw [ps_mg, ps_tb_one (by omega), decide_eq_true_eq, h j hj x]
  constructor
  · rintro ((⟨h1, h2⟩ | ⟨h1, h3, h2⟩) | ⟨h1, h2⟩)
    · exact Or.inl ⟨h1, h2⟩
    · exact Or.inr ⟨h1, by omega, h2⟩
    · subst h1 h2; exact Or.inr ⟨rfl, by omega, hc⟩
  · rintro (⟨h1, h2⟩ | ⟨h1, h3, h2⟩)
    · exact Or.inl (Or.inl ⟨h1, h2⟩)
    · by_cases e : j = m
      · exact Or.inr ⟨e, h1⟩
      · exact Or.inl (Or.inr ⟨h1, by omega, h2⟩)
/-- the mask of the lines that b controls -/
theorem ps_ctl_mask {K A B C : Nat → Int32} {n b m : Nat} {pd : Nat → Int64} (hn : n ≤ 32) (hb : b < n) (hm : m < n) (hP : ps_PF K A B C n pd) :
    ps_tb (((pd (ps_E1 K A B C n b) ||| pd (ps_E2 K A B C n b)) ||| pd (b + 1)) &&& ((pd b &&& (((1 : Int64) <<< ((nI b).toInt64 &&& 63)) ^^^ (-1))) ^^^ (-1))) m = true ↔ ps_Ct K A B C n b m := by
  have l1 : ps_E1 K A B C n b ≤ n := ps_E1_le hb (by omega)
  have l2 : ps_E2 K A B C n b ≤ n := ps_E2_le hb (by omega)
  rw [ps_tb_and, ps_tb_or, ps_tb_or, ps_tb_not _ (by omega), ps_tb_and, ps_tb_not _ (by omega), ps_tb_one (by omega)]
  rw [Bool.and_eq_true, Bool.or_eq_true, Bool.or_eq_true, Bool.not_eq_true', Bool.and_eq_false_iff, hP _ l1, hP _ l2, hP (b + 1) (by omega)]
  have hbb : ps_tb (pd b) m = false ↔ ¬ ps_Pd K A B C n m b := by
    rw [← Bool.not_eq_true, hP b (by omega)]
  rw [hbb]
  unfold ps_Ct ps_Sw
  constructor
  · rintro ⟨h1, h2⟩
    refine ⟨?_, ?_⟩
    · rcases h1 with (h | h) | h
      · exact ⟨_, Or.inl rfl, h⟩
      · exact ⟨_, Or.inr (Or.inl rfl), h⟩
      · exact ⟨_, Or.inr (Or.inr rfl), h⟩
    · rcases h2 with h | h
      · exact Or.inr h
      · by_cases e : m = b
        · exact Or.inl e
        · rw [decide_eq_false e] at h; exact absurd h (by decide)
  · rintro ⟨⟨s, h1, h2⟩, h3⟩
    refine ⟨?_, ?_⟩
    · rcases h1 with rfl | rfl | rfl
      · exact Or.inl (Or.inl h2)
      · exact Or.inl (Or.inr h2)
      · exact Or.inr h2
    · rcases h3 with h | h
      · subst h; exact Or.inr (by rw [decide_eq_true rfl]; rfl)
      · exact Or.inl h
section
variable {fll fvc fil fmc fit fhs fcv : Int32} {fkp fdk fck : Int64} {fqs fhr : Int32} {K A B C T inp jf js rn us df : Nat → Int32} {ri pd co : Nat → Int64} {cl qu nw od rv rm rc rs rh rd ro rt : Nat → Int32}
variable {vc ll n : Nat}
theorem ps_xct93 {post : SX → Prop} {J22 : Int32 → (Nat → Int32) → (Nat → Int32) → (Nat → Int32) → (Nat → Int32) → (Nat → Int32) → (Nat → Int32) → (Nat → Int32) → (Nat → Int32) → (Nat → Int32) → (Nat → Int32) → (Nat → Int32) → (Nat → Int64) → (Nat → Int64) → (Nat → Int64) → (Nat → Int32) → (Nat → Int32) → (Nat → Int32) → (Nat → Int32) → (Nat → Int32) → (Nat → Int32) → (Nat → Int32) → (Nat → Int32) → (Nat → Int32) → (Nat → Int32) → (Nat → Int32) → (Nat → Int32) → Prop}
    {b : Nat} {ctl : Int64} (hn : n ≤ 32) (hb : b < n) (hc : ∀ m, m < n → (ps_tb ctl m = true ↔ ps_Ct K A B C n b m))
    (hJ : ∀ co, ps_CI K A B C n b n co → J22 (nI (b + 1)) K A B C T inp jf js rn us df ri pd co cl qu nw od rv rm rc rs rh rd ro rt) :
    ∀ d m co, m + d = n → ps_CI K A B C n b m co → wX_findControllers_93 post J22 (nI n) (nI b) ((1 : Int64) <<< ((nI b).toInt64 &&& 63)) ctl fll fvc fil fmc fit fhs fcv fkp fdk fck fqs fhr (d + 1) (nI m) K A B C T inp jf js rn us df ri pd co cl qu nw od rv rm rc rs rh rd ro rt := by
  intro d
  induction d with
  | zero =>
    intro m co hd hI
    have e : m = n := by omega
    subst e
    exact br_t (nI_le (Nat.le_refl _) (by omega)) (nm_r (nI_1 b) (hJ co hI))
  | succ d ih =>
    intro m co hd hI
    have hm : m < n := by omega
    have e : (nI m).toNatClampNeg = m := nI_clamp (by omega)
    have hin : vp_in (nI m) 32 := vp_in_nI (by omega) (by omega)
    refine br_f (nI_ge hm (by omega)) (ps_xhb (by omega) (fun c => br_f (by decide) (And.intro hin (And.intro hin (nm_r (e' := vp_updL co m (co m ||| ((1 : Int64) <<< ((nI b).toInt64 &&& 63)))) (by rw [e]) (nm_r (nI_1 m) ?_))))) (fun c => br_t rfl (nm_r (nI_1 m) ?_)))
    · exact ih (m + 1) _ (by omega) (ps_CI_put (by omega) hI ((hc m hm).mp c))
    · exact ih (m + 1) _ (by omega) (ps_CI_skip hI (fun z => c ((hc m hm).mpr z)))
theorem ps_xct22 {post : SX → Prop} (hn : n ≤ 32) (hB : ps_BF vc K A B C n n jf js rn us df) (hP : ps_PF K A B C n pd)
    (hp : ∀ co, ps_CF K A B C n co → post (fll, fvc, fil, fmc, fit, fhs, fcv, fkp, fdk, fck, fqs, fhr, K, A, B, C, T, inp, jf, js, rn, us, df, ri, pd, co, cl, qu, nw, od, rv, rm, rc, rs, rh, rd, ro, rt)) :
    ∀ d b co, b + d = n → ps_CI K A B C n b 0 co → wX_findControllers_22 post (nI n) fll fvc fil fmc fit fhs fcv fkp fdk fck fqs fhr (d + 1) (nI b) K A B C T inp jf js rn us df ri pd co cl qu nw od rv rm rc rs rh rd ro rt := by
  intro d
  induction d with
  | zero =>
    intro b co hd hI
    have e : b = n := by omega
    subst e
    refine br_t (nI_le (Nat.le_refl _) (by omega)) (hp co (fun m hm x => ?_))
    rw [hI m hm x]
    exact ⟨fun h => h.elim id (fun h => by omega), fun h => Or.inl h⟩
  | succ d ih =>
    intro b co hd hI
    have hb : b < n := by omega
    have e : (nI b).toNatClampNeg = b := nI_clamp (by omega)
    have hin : vp_in (nI b) 32 := vp_in_nI (by omega) (by omega)
    have hin3 : vp_in (nI b) 33 := vp_in_nI (by omega) (by omega)
    obtain ⟨hf, hs, _, _, _⟩ := hB b hb
    have l1 : ps_E1 K A B C n b ≤ n := ps_E1_le hb (by omega)
    have l2 : ps_E2 K A B C n b ≤ n := ps_E2_le hb (by omega)
    refine br_f (nI_ge hb (by omega)) (nm_e (And.intro hin (And.intro (by rw [e, hf]; exact vp_in_nI (by omega) (by omega)) (And.intro hin (And.intro (by rw [e, hs]; exact vp_in_nI (by omega) (by omega)) (And.intro (by rw [nI_1]; exact vp_in_nI (by omega) (by omega)) ?_))))))
    refine nm_r (e' := (pd (ps_E1 K A B C n b) ||| pd (ps_E2 K A B C n b)) ||| pd (b + 1)) (by rw [e, hf, hs, nI_1, nI_clamp (by omega), nI_clamp (by omega), nI_clamp (by omega)]) (And.intro hin3 (nm_r (e' := pd b &&& (((1 : Int64) <<< ((nI b).toInt64 &&& 63)) ^^^ (-1))) (by rw [e]) (nm_e (Exists.intro (n + 1) ?_))))
    exact ps_xct93 hn hb (fun m hm => ps_ctl_mask hn hb hm hP) (fun co hI => ih (b + 1) co (by omega) (ps_CI_next hI)) n 0 co (by omega) hI
theorem ps_xct2 {post : SX → Prop} (hn : n ≤ 32) (hB : ps_BF vc K A B C n n jf js rn us df) (hP : ps_PF K A B C n pd)
    (hp : ∀ co, ps_CF K A B C n co → post (fll, fvc, fil, fmc, fit, fhs, fcv, fkp, fdk, fck, fqs, fhr, K, A, B, C, T, inp, jf, js, rn, us, df, ri, pd, co, cl, qu, nw, od, rv, rm, rc, rs, rh, rd, ro, rt)) :
    ∀ d m co, m + d = n → (∀ j, j < m → co j = 0) → wX_findControllers_2 post (nI n) fll fvc fil fmc fit fhs fcv fkp fdk fck fqs fhr (d + 1) (nI m) K A B C T inp jf js rn us df ri pd co cl qu nw od rv rm rc rs rh rd ro rt := by
  intro d
  induction d with
  | zero =>
    intro m co hd h0
    refine br_t (nI_le (by omega) (by omega)) (Exists.intro (n + 1) ?_)
    refine ps_xct22 hn hB hP hp n 0 co (by omega) (fun j hj x => ?_)
    rw [h0 j (by omega), ps_tb_0]
    exact ⟨fun h => absurd h (by decide), fun h => by rcases h with ⟨h, _⟩ | ⟨_, h, _⟩ <;> omega⟩
  | succ d ih =>
    intro m co hd h0
    have e : (nI m).toNatClampNeg = m := nI_clamp (by omega)
    refine br_f (nI_ge (by omega) (by omega)) (And.intro (vp_in_nI (by omega) (by omega)) (nm_r (e' := vp_updL co m 0) (by rw [e]) (nm_r (nI_1 m) ?_)))
    refine ih (m + 1) _ (by omega) (fun j hj => ?_)
    by_cases ej : j = m
    · subst ej; exact pk_uLs
    · rw [pk_uLn ej]; exact h0 j (by omega)
theorem ps_xct {post : SX → Prop} (hn : n ≤ 32) (hB : ps_BF vc K A B C n n jf js rn us df) (hP : ps_PF K A B C n pd)
    (hp : ∀ co, ps_CF K A B C n co → post (fll, fvc, fil, fmc, fit, fhs, fcv, fkp, fdk, fck, fqs, fhr, K, A, B, C, T, inp, jf, js, rn, us, df, ri, pd, co, cl, qu, nw, od, rv, rm, rc, rs, rh, rd, ro, rt)) : wpX_findControllers post (fll, fvc, fil, fmc, fit, fhs, fcv, fkp, fdk, fck, fqs, fhr, K, A, B, C, T, inp, jf, js, rn, us, df, ri, pd, co, cl, qu, nw, od, rv, rm, rc, rs, rh, rd, ro, rt) (nI n) :=
  Exists.intro (n + 1) (ps_xct2 hn hB hP hp n 0 co (by omega) (fun j hj => absurd hj (Nat.not_lt_zero j)))
end
end
section
/-! ===== X: keepAll, dataSources, closeKept ===== -/
/-- the queue holds the members of S, each once -/
def ps_QI (n : Nat) (S : Nat → Prop) (qu : Nat → Int32) (qs : Nat) : Prop :=
  (∀ j, j < qs → ∃ d, d < n ∧ qu j = nI d ∧ S d) ∧ (∀ d, S d → d < n ∧ ∃ j, j < qs ∧ qu j = nI d) ∧ qs = ps_cn (fun d => ps_b (S d)) 32
theorem ps_QI_c {n qs : Nat} {S S' : Nat → Prop} {qu : Nat → Int32} (h : ∀ d, S d ↔ S' d) (q : ps_QI n S qu qs) : ps_QI n S' qu qs := by
  have e : S = S' := funext (fun d => propext (h d))
  rw [← e]; exact q
theorem ps_QI_le {n qs : Nat} {S : Nat → Prop} {qu : Nat → Int32} (q : ps_QI n S qu qs) : qs ≤ 32 := by
  rw [q.2.2]; exact ps_cn_le _ _
theorem ps_QI_lt {n qs i : Nat} {S : Nat → Prop} {qu : Nat → Int32} (hi : i < 32) (hS : ¬ S i) (q : ps_QI n S qu qs) : qs < 32 := by
  rw [q.2.2]; exact ps_cn_lt hi (fun z => hS (ps_b_iff.mp z))
theorem ps_QI_put {n qs i : Nat} {S : Nat → Prop} {qu : Nat → Int32} (hn : n ≤ 32) (hi : i < n) (hS : ¬ S i) (q : ps_QI n S qu qs) : ps_QI n (fun d => S d ∨ d = i) (upd qu qs (nI i)) (qs + 1) := by
  obtain ⟨q1, q2, q3⟩ := q
  refine ⟨?_, ?_, ?_⟩
  · intro j hj
    by_cases e : j = qs
    · subst e; exact ⟨i, hi, pk_us, Or.inr rfl⟩
    · obtain ⟨d, h1, h2, h3⟩ := q1 j (by omega)
      exact ⟨d, h1, by rw [pk_un e]; exact h2, Or.inl h3⟩
  · intro d hd
    rcases hd with hd | hd
    · obtain ⟨h1, j, h2, h3⟩ := q2 d hd
      exact ⟨h1, j, by omega, by rw [pk_un (by omega)]; exact h3⟩
    · subst hd
      exact ⟨hi, qs, by omega, pk_us⟩
  · have h := ps_cn_add (P := fun d => ps_b (S d)) (Q := fun d => ps_b (S d ∨ d = i)) (i := i) (fun z => hS (ps_b_iff.mp z)) (ps_b_iff.mpr (Or.inr rfl)) (fun j hj => ps_b_c ⟨fun z => z.elim id (fun z => absurd z hj), Or.inl⟩) 32
    rw [if_pos (by omega)] at h
    show qs + 1 = ps_cn (fun d => ps_b (S d ∨ d = i)) 32
    omega
section
variable {fll fvc fil fmc fit fhs fcv : Int32} {fkp fdk fck : Int64} {fqs fhr : Int32} {K A B C T inp jf js rn us df : Nat → Int32} {ri pd co : Nat → Int64} {cl qu nw od rv rm rc rs rh rd ro rt : Nat → Int32}
variable {vc ll n : Nat}
theorem ps_xka31 {post : SX → Prop} {S : Nat → Prop} {fr : Int64} {qu0 : Nat → Int32} {qs0 : Nat} (hn : n ≤ 32) (hfr : ∀ d, ps_tb fr d = true → d < n ∧ ¬ S d)
    (hp : ∀ qu qs, ps_QI n (fun d => S d ∨ (ps_tb fr d = true ∧ d < 32)) qu qs → (∀ j, j < qs0 → qu j = qu0 j) → qs0 ≤ qs → post (fll, fvc, fil, fmc, fit, fhs, fcv, fkp, fdk, fck, nI qs, fhr, K, A, B, C, T, inp, jf, js, rn, us, df, ri, pd, co, cl, qu, nw, od, rv, rm, rc, rs, rh, rd, ro, rt)) :
    ∀ k i qu qs, i + k = 32 → ps_QI n (fun d => S d ∨ (ps_tb fr d = true ∧ d < i)) qu qs → (∀ j, j < qs0 → qu j = qu0 j) → qs0 ≤ qs → wX_keepAll_31 post fr fll fvc fil fmc fit fhs fcv fkp fdk fck fhr (k + 1) (nI i) (nI qs) K A B C T inp jf js rn us df ri pd co cl qu nw od rv rm rc rs rh rd ro rt := by
  intro k
  induction k with
  | zero =>
    intro i qu qs hk hQ h1 h2
    have e : i = 32 := by omega
    subst e
    exact br_t (nI_le (Nat.le_refl 32) (by omega)) (hp qu qs hQ h1 h2)
  | succ k ih =>
    intro i qu qs hk hQ h1 h2
    have e32 : (32 : Int32) = nI 32 := rfl
    refine br_f (nI_ge (b := 32) (by omega) (by omega)) (ps_xhb (by omega) (fun c => br_f (by decide) ?_) (fun c => br_t rfl (nm_r (nI_1 i) ?_)))
    · have hi := hfr i c
      have hS : ¬ (S i ∨ (ps_tb fr i = true ∧ i < i)) := fun z => z.elim hi.2 (fun z => by omega)
      have hq : qs < 32 := ps_QI_lt (i := i) (by omega) hS hQ
      refine br_f (nI_ge (b := 32) hq (by omega)) (And.intro (vp_in_nI hq (by omega)) (nm_r (e' := upd qu qs (nI i)) (by rw [nI_clamp (by omega)]) (nm_r (nI_1 qs) (nm_r (nI_1 i) ?_))))
      refine ih (i + 1) _ (qs + 1) (by omega) (ps_QI_c (fun d => ?_) (ps_QI_put hn hi.1 hS hQ)) (fun j hj => ?_) (by omega)
      · constructor
        · rintro ((h | h) | h)
          · exact Or.inl h
          · exact Or.inr ⟨h.1, by omega⟩
          · subst h; exact Or.inr ⟨c, by omega⟩
        · rintro (h | h)
          · exact Or.inl (Or.inl h)
          · by_cases e : d = i
            · exact Or.inr e
            · exact Or.inl (Or.inr ⟨h.1, by omega⟩)
      · rw [pk_un (by omega)]; exact h1 j hj
    · refine ih (i + 1) _ qs (by omega) (ps_QI_c (fun d => ?_) hQ) h1 h2
      constructor
      · rintro (h | h)
        · exact Or.inl h
        · exact Or.inr ⟨h.1, by omega⟩
      · rintro (h | h)
        · exact Or.inl h
        · by_cases e : d = i
          · subst e; exact absurd h.1 c
          · exact Or.inr ⟨h.1, by omega⟩
theorem ps_xka {post : SX → Prop} {w : Int64} {qs : Nat} (hn : n ≤ 32) (hQ : ps_QI n (fun d => ps_tb fkp d = true) qu qs) (hw : ∀ d, ps_tb w d = true → d < n)
    (hp : ∀ kp' qu' qs', (∀ d, ps_tb kp' d = true ↔ (ps_tb fkp d = true ∨ ps_tb w d = true)) → ps_QI n (fun d => ps_tb kp' d = true) qu' qs' → (∀ j, j < qs → qu' j = qu j) → qs ≤ qs' → post (fll, fvc, fil, fmc, fit, fhs, fcv, kp', fdk, fck, nI qs', fhr, K, A, B, C, T, inp, jf, js, rn, us, df, ri, pd, co, cl, qu', nw, od, rv, rm, rc, rs, rh, rd, ro, rt)) :
    wpX_keepAll post (fll, fvc, fil, fmc, fit, fhs, fcv, fkp, fdk, fck, nI qs, fhr, K, A, B, C, T, inp, jf, js, rn, us, df, ri, pd, co, cl, qu, nw, od, rv, rm, rc, rs, rh, rd, ro, rt) w := by
  have hfr : ∀ d, ps_tb (w &&& (fkp ^^^ (-1))) d = true ↔ (ps_tb w d = true ∧ ¬ ps_tb fkp d = true) := by
    intro d
    by_cases h64 : d < 64
    · rw [ps_tb_and, ps_tb_not _ h64, Bool.and_eq_true, Bool.not_eq_true', Bool.not_eq_true]
    · rw [ps_tb_ge (by omega), ps_tb_ge (x := w) (by omega)]
      exact ⟨fun z => absurd z (by decide), fun z => z.1⟩
  refine nm_e (br_c (fun c => ?_) (fun c => nm_e (Exists.intro 33 ?_)))
  · refine hp fkp qu qs (fun d => ?_) hQ (fun _ _ => rfl) (Nat.le_refl _)
    refine ⟨Or.inl, fun z => z.elim id (fun z => ?_)⟩
    by_cases hk : ps_tb fkp d = true
    · exact hk
    · have := (hfr d).mpr ⟨z, hk⟩
      rw [c, ps_tb_0] at this
      exact absurd this (by decide)
  · refine ps_xka31 (S := fun d => ps_tb fkp d = true) (qu0 := qu) (qs0 := qs) hn (fun d hd => ⟨hw d ((hfr d).mp hd).1, ((hfr d).mp hd).2⟩) (fun qu' qs' hQ' h1 h2 => ?_) 32 0 qu qs (by omega) (ps_QI_c (fun d => ⟨Or.inl, fun z => z.elim id (fun z => by omega)⟩) hQ) (fun _ _ => rfl) (Nat.le_refl _)
    have hk : ∀ d, ps_tb (fkp ||| (w &&& (fkp ^^^ (-1)))) d = true ↔ (ps_tb fkp d = true ∨ ps_tb w d = true) := by
      intro d
      rw [ps_tb_or, Bool.or_eq_true, hfr]
      constructor
      · rintro (h | h)
        · exact Or.inl h
        · exact Or.inr h.1
      · rintro (h | h)
        · exact Or.inl h
        · by_cases hh : ps_tb fkp d = true
          · exact Or.inl hh
          · exact Or.inr ⟨h, hh⟩
    refine hp _ qu' qs' hk (ps_QI_c (fun d => ?_) hQ') h1 h2
    rw [hk, hfr]
    constructor
    · rintro (h | h)
      · exact Or.inl h
      · exact Or.inr h.1.1
    · rintro (h | h)
      · exact Or.inl h
      · by_cases hh : ps_tb fkp d = true
        · exact Or.inl hh
        · have := hw d h
          exact Or.inr ⟨⟨h, hh⟩, by omega⟩
theorem ps_xds13 {post : Int64 → Prop} {m : Nat} {um : Int32} (hn : n ≤ 32) (hm : m < n) (hu : ∀ r, r ≤ 9 → (bt um r = true ↔ ps_U K A B C (nI r) m)) (hR : ∀ r, r ≤ 9 → ps_RF K A B C n r ri)
    (h : ∀ w, (∀ d, ps_tb w d = true ↔ ps_Src K A B C n d m) → post w) :
    ∀ k r acc, r + k = 10 → (∀ d, ps_tb acc d = true ↔ ∃ q, q < r ∧ ps_U K A B C (nI q) m ∧ ps_Rw K A B C n d (nI q) m) → wX_dataSources_13 post (nI m) um fll fvc fil fmc fit fhs fcv fkp fdk fck fqs fhr K A B C T inp jf js rn us df ri pd co cl qu nw od rv rm rc rs rh rd ro rt (k + 1) acc (nI r) := by
  intro k
  induction k with
  | zero =>
    intro r acc hk ha
    refine br_t (nI_lt (a := 9) (by omega) (by omega)) (h acc (fun d => ?_))
    rw [ha]
    constructor
    · rintro ⟨q, h1, h2⟩; exact ⟨q, by omega, h2⟩
    · rintro ⟨q, h1, h2⟩; exact ⟨q, by omega, h2⟩
  | succ k ih =>
    intro r acc hk ha
    refine br_f (nI_nlt (a := 9) (by omega) (by omega)) (br_c (fun c => nm_r (nI_1 r) ?_) (fun c => ?_))
    · rw [ps_bit32 _ (by omega)] at c
      have hU : ¬ ps_U K A B C (nI r) m := fun z => by rw [(hu r (by omega)).mpr z] at c; exact absurd c (by decide)
      refine ih (r + 1) acc (by omega) (fun d => ?_)
      rw [ha]
      constructor
      · rintro ⟨q, h1, h2⟩; exact ⟨q, by omega, h2⟩
      · rintro ⟨q, h1, h2⟩
        by_cases e : q = r
        · subst e; exact absurd h2.1 hU
        · exact ⟨q, by omega, h2⟩
    · rw [ps_bit32 _ (by omega)] at c
      have hU : ps_U K A B C (nI r) m := (hu r (by omega)).mp (by simpa using c)
      have ei : nI r * 33 + nI m = nI (33 * r + m) := by
        rw [show (33 : Int32) = nI 33 from rfl, pk_mul, nI_add, Nat.mul_comm]
      show vp_in (nI r * 33 + nI m) 330 ∧ _
      rw [ei]
      refine And.intro (vp_in_nI (by omega) (by omega)) (nm_r (e' := acc ||| ri (33 * r + m)) (by rw [nI_clamp (by omega)]) (nm_r (nI_1 r) ?_))
      refine ih (r + 1) _ (by omega) (fun d => ?_)
      rw [ps_tb_or, Bool.or_eq_true, ha, hR r (by omega) m (by omega) d]
      constructor
      · rintro (⟨q, h1, h2⟩ | h)
        · exact ⟨q, by omega, h2⟩
        · exact ⟨r, by omega, hU, h⟩
      · rintro ⟨q, h1, h2⟩
        by_cases e : q = r
        · subst e; exact Or.inr h2.2
        · exact Or.inl ⟨q, by omega, h2⟩
theorem ps_xds {post : Int64 → Prop} {m : Nat} (hv : vc ≤ 8) (hn : n ≤ 32) (hm : m < n) (hV : ps_VP vc ll n K A B C) (hB : ps_BF vc K A B C n n jf js rn us df) (hR : ∀ r, r ≤ 9 → ps_RF K A B C n r ri)
    (h : ∀ w, (∀ d, ps_tb w d = true ↔ ps_Src K A B C n d m) → post w) : wpX_dataSources post (fll, fvc, fil, fmc, fit, fhs, fcv, fkp, fdk, fck, fqs, fhr, K, A, B, C, T, inp, jf, js, rn, us, df, ri, pd, co, cl, qu, nw, od, rv, rm, rc, rs, rh, rd, ro, rt) (nI m) := by
  have e : (nI m).toNatClampNeg = m := nI_clamp (by omega)
  refine And.intro (vp_in_nI (by omega) (by omega)) (nm_r (e' := ps_uM vc (K m) (A m) (B m) (C m)) (by rw [e]; exact (hB m hm).2.2.2.1) (Exists.intro 11 ?_))
  refine ps_xds13 hn hm (fun r hr => ps_uM_bit hv hr (hV m hm)) hR h 10 0 0 (by omega) (fun d => ?_)
  rw [ps_tb_0]
  exact ⟨fun z => absurd z (by decide), fun ⟨q, h1, _⟩ => by omega⟩
end
def ps_KI (K A B C : Nat → Int32) (n line : Nat) (var : Int32) (h : Nat) (kp dk ck : Int64) (qu : Nat → Int32) (qs : Nat) : Prop :=
  ps_QI n (fun d => ps_tb kp d = true) qu qs ∧ h ≤ qs ∧ (∀ d, ps_tb kp d = true → ps_Kp K A B C n line var d) ∧ (∀ d, ps_KB K A B C n line var d → ps_tb kp d = true) ∧
  (∀ j, j < h → ∀ m, m < n → qu j = nI m → ∀ d, d < n → (ps_Src K A B C n d m ∨ ps_Ct K A B C n d m) → ps_tb kp d = true) ∧
  (∀ d, ps_tb dk d = true ↔ (ps_Rw K A B C n d var line ∨ ∃ j, j < h ∧ ∃ m, m < n ∧ qu j = nI m ∧ ps_Src K A B C n d m)) ∧
  (∀ d, ps_tb ck d = true ↔ (d < n ∧ ∃ j, j < h ∧ ∃ m, m < n ∧ qu j = nI m ∧ ps_Ct K A B C n d m))
def ps_KF (K A B C : Nat → Int32) (n line : Nat) (var : Int32) (kp dk ck : Int64) : Prop :=
  (∀ d, ps_tb kp d = true ↔ ps_Kp K A B C n line var d) ∧ (∀ d, ps_tb dk d = true ↔ (ps_Rw K A B C n d var line ∨ ∃ m, ps_Kp K A B C n line var m ∧ ps_Src K A B C n d m)) ∧
  (∀ d, ps_tb ck d = true ↔ (d < n ∧ ∃ m, ps_Kp K A B C n line var m ∧ ps_Ct K A B C n d m))
theorem ps_KI_end {K A B C : Nat → Int32} {n line h qs : Nat} {var : Int32} {kp dk ck : Int64} {qu : Nat → Int32} (hn : n ≤ 32) (hh : qs ≤ h) (hI : ps_KI K A B C n line var h kp dk ck qu qs) : ps_KF K A B C n line var kp dk ck := by
  obtain ⟨hQ, h1, h2, h3, h4, h5, h6⟩ := hI
  have hk : ∀ d, ps_tb kp d = true ↔ ps_Kp K A B C n line var d := by
    intro d
    refine ⟨h2 d, fun z => ?_⟩
    refine ps_Lf_i (fun d => ps_tb kp d = true) h3 (fun m s hm he => ?_) z
    obtain ⟨hmn, j, hj, hq⟩ := hQ.2.1 m hm
    exact h4 j (by omega) m hmn hq s he.2.1 he.2.2
  have hq : ∀ j m, j < h → m < n → qu j = nI m → ps_Kp K A B C n line var m := by
    intro j m hj hm e
    obtain ⟨d', h7, h8, h9⟩ := hQ.1 j (by omega)
    rw [h8, nI_eq (by omega) (by omega)] at e
    subst e
    exact (hk _).mp h9
  refine ⟨hk, fun d => ?_, fun d => ?_⟩
  · rw [h5]
    constructor
    · rintro (z | ⟨j, hj, m, hm, he, hs⟩)
      · exact Or.inl z
      · exact Or.inr ⟨m, hq j m hj hm he, hs⟩
    · rintro (z | ⟨m, hm, hs⟩)
      · exact Or.inl z
      · obtain ⟨hmn, j, hj, he⟩ := hQ.2.1 m ((hk m).mpr hm)
        exact Or.inr ⟨j, by omega, m, hmn, he, hs⟩
  · rw [h6]
    constructor
    · rintro ⟨hd, j, hj, m, hm, he, hs⟩
      exact ⟨hd, m, hq j m hj hm he, hs⟩
    · rintro ⟨hd, m, hm, hs⟩
      obtain ⟨hmn, j, hj, he⟩ := hQ.2.1 m ((hk m).mpr hm)
      exact ⟨hd, j, by omega, m, hmn, he, hs⟩
theorem ps_KI_step {K A B C : Nat → Int32} {n line h qs qs' m : Nat} {var : Int32} {kp dk ck kp' w c : Int64} {qu qu' : Nat → Int32} (hn : n ≤ 32)
    (hI : ps_KI K A B C n line var h kp dk ck qu qs) (hh : h < qs) (hm : m < n) (hq : qu h = nI m)
    (hw : ∀ d, ps_tb w d = true ↔ ps_Src K A B C n d m) (hc : ∀ d, ps_tb c d = true ↔ (d < n ∧ ps_Ct K A B C n d m))
    (k1 : ∀ d, ps_tb kp' d = true ↔ (ps_tb kp d = true ∨ ps_tb (w ||| c) d = true)) (k2 : ps_QI n (fun d => ps_tb kp' d = true) qu' qs') (k3 : ∀ j, j < qs → qu' j = qu j) (k4 : qs ≤ qs') :
    ps_KI K A B C n line var (h + 1) kp' (dk ||| w) (ck ||| c) qu' qs' := by
  obtain ⟨hQ, h1, h2, h3, h4, h5, h6⟩ := hI
  have hmk : ps_Kp K A B C n line var m := by
    obtain ⟨d', h7, h8, h9⟩ := hQ.1 h hh
    rw [h8, nI_eq (by omega) (by omega)] at hq
    subst hq
    exact h2 _ h9
  have um : ∀ j m', j < h + 1 → m' < n → qu' j = nI m' → (j < h ∧ qu j = nI m') ∨ (m' = m) := by
    intro j m' hj hm' e
    rw [k3 j (by omega)] at e
    by_cases ej : j = h
    · subst ej
      rw [hq, nI_eq (by omega) (by omega)] at e
      exact Or.inr e.symm
    · exact Or.inl ⟨by omega, e⟩
  refine ⟨k2, by omega, fun d hd => ?_, fun d hd => ?_, fun j hj m' hm' e d hd hs => ?_, fun d => ?_, fun d => ?_⟩
  · rw [k1, ps_tb_or, Bool.or_eq_true, hw, hc] at hd
    rcases hd with hd | hd | hd
    · exact h2 d hd
    · obtain ⟨r, hr, hu, hR⟩ := hd
      exact ps_Lf_e hmk ⟨hm, hR.1, Or.inl ⟨r, hr, hu, hR⟩⟩
    · exact ps_Lf_e hmk ⟨hm, hd.1, Or.inr hd.2⟩
  · rw [k1]; exact Or.inl (h3 d hd)
  · rw [k1, ps_tb_or, Bool.or_eq_true, hw, hc]
    rcases um j m' hj hm' e with ⟨h7, h8⟩ | h7
    · exact Or.inl (h4 j h7 m' hm' h8 d hd hs)
    · subst h7
      rcases hs with hs | hs
      · exact Or.inr (Or.inl hs)
      · exact Or.inr (Or.inr ⟨hd, hs⟩)
  · rw [ps_tb_or, Bool.or_eq_true, h5, hw]
    constructor
    · rintro ((z | ⟨j, hj, m', hm', e, hs⟩) | z)
      · exact Or.inl z
      · exact Or.inr ⟨j, by omega, m', hm', by rw [k3 j (by omega)]; exact e, hs⟩
      · exact Or.inr ⟨h, by omega, m, hm, by rw [k3 h hh]; exact hq, z⟩
    · rintro (z | ⟨j, hj, m', hm', e, hs⟩)
      · exact Or.inl (Or.inl z)
      · rcases um j m' hj hm' e with ⟨h7, h8⟩ | h7
        · exact Or.inl (Or.inr ⟨j, h7, m', hm', h8, hs⟩)
        · subst h7; exact Or.inr hs
  · rw [ps_tb_or, Bool.or_eq_true, h6, hc]
    constructor
    · rintro (⟨hd, j, hj, m', hm', e, hs⟩ | z)
      · exact ⟨hd, j, by omega, m', hm', by rw [k3 j (by omega)]; exact e, hs⟩
      · exact ⟨z.1, h, by omega, m, hm, by rw [k3 h hh]; exact hq, z.2⟩
    · rintro ⟨hd, j, hj, m', hm', e, hs⟩
      rcases um j m' hj hm' e with ⟨h7, h8⟩ | h7
      · exact Or.inl ⟨hd, j, h7, m', hm', h8, hs⟩
      · subst h7; exact Or.inr ⟨hd, hs⟩
section
variable {fll fvc fil fmc fit fhs fcv : Int32} {fkp fdk fck : Int64} {fqs fhr : Int32} {K A B C T inp jf js rn us df : Nat → Int32} {ri pd co : Nat → Int64} {cl qu nw od rv rm rc rs rh rd ro rt : Nat → Int32}
variable {vc ll n : Nat}
theorem ps_xck50 {post : SX → Prop} {line : Nat} {var : Int32} (hv : vc ≤ 8) (hn : n ≤ 32) (hV : ps_VP vc ll n K A B C) (hB : ps_BF vc K A B C n n jf js rn us df) (hR : ∀ r, r ≤ 9 → ps_RF K A B C n r ri) (hC : ps_CF K A B C n co)
    (hp : ∀ kp dk ck qu qs, ps_KF K A B C n line var kp dk ck → post (fll, fvc, fil, fmc, fit, fhs, fcv, kp, dk, ck, nI qs, fhr, K, A, B, C, T, inp, jf, js, rn, us, df, ri, pd, co, cl, qu, nw, od, rv, rm, rc, rs, rh, rd, ro, rt)) :
    ∀ k h kp dk ck qu qs, h + k = 32 → ps_KI K A B C n line var h kp dk ck qu qs → wX_closeKept_50 post (k + 1) (nI h) fll fvc fil fmc fit fhs fcv kp dk ck (nI qs) fhr K A B C T inp jf js rn us df ri pd co cl qu nw od rv rm rc rs rh rd ro rt := by
  intro k
  induction k with
  | zero =>
    intro h kp dk ck qu qs hk hI
    have hq := ps_QI_le hI.1
    exact br_t (nI_le (a := 32) (by omega) (by omega)) (hp kp dk ck qu qs (ps_KI_end hn (by omega) hI))
  | succ k ih =>
    intro h kp dk ck qu qs hk hI
    have hq := ps_QI_le hI.1
    refine br_f (nI_ge (b := 32) (by omega) (by omega)) ?_
    by_cases hh : qs ≤ h
    · exact br_t (nI_le hh (by omega)) (hp kp dk ck qu qs (ps_KI_end hn hh hI))
    · obtain ⟨m, hm, hqm, hkm⟩ := hI.1.1 h (by omega)
      have e : (nI h).toNatClampNeg = h := nI_clamp (by omega)
      refine br_f (nI_ge (by omega) (by omega)) (And.intro (vp_in_nI (by omega) (by omega)) (nm_r (e' := nI m) (by rw [e]; exact hqm) ?_))
      refine ps_xds (vc := vc) (ll := ll) hv hn hm hV hB hR (fun w hw => ?_)
      refine And.intro (vp_in_nI (by omega) (by omega)) (nm_r (e' := co m) (by rw [nI_clamp (by omega)]) (nm_e (nm_e ?_)))
      have hc := hC m hm
      refine ps_xka (qs := qs) hn hI.1 (fun d hd => ?_) (fun kp' qu' qs' k1 k2 k3 k4 => nm_r (nI_1 h) ?_)
      · rw [ps_tb_or, Bool.or_eq_true, hw, hc] at hd
        rcases hd with ⟨r, _, _, hd⟩ | hd
        · exact hd.1
        · exact hd.1
      · exact ih (h + 1) kp' _ _ qu' qs' (by omega) (ps_KI_step hn hI (by omega) hm hqm hw hc k1 k2 k3 k4)
theorem ps_xck {post : SX → Prop} {line v : Nat} (hv : vc ≤ 8) (hn : n ≤ 32) (hl : line < n) (hvv : v < vc) (hV : ps_VP vc ll n K A B C) (hB : ps_BF vc K A B C n n jf js rn us df) (hR : ∀ r, r ≤ 9 → ps_RF K A B C n r ri) (hC : ps_CF K A B C n co)
    (hp : ∀ kp dk ck qu qs, ps_KF K A B C n line (nI v) kp dk ck → post (fll, fvc, fil, fmc, fit, fhs, fcv, kp, dk, ck, nI qs, fhr, K, A, B, C, T, inp, jf, js, rn, us, df, ri, pd, co, cl, qu, nw, od, rv, rm, rc, rs, rh, rd, ro, rt)) : wpX_closeKept post (fll, fvc, fil, fmc, fit, fhs, fcv, fkp, fdk, fck, fqs, fhr, K, A, B, C, T, inp, jf, js, rn, us, df, ri, pd, co, cl, qu, nw, od, rv, rm, rc, rs, rh, rd, ro, rt) (nI line) (nI v) := by
  have ei : nI v * 33 + nI line = nI (33 * v + line) := by
    rw [show (33 : Int32) = nI 33 from rfl, pk_mul, nI_add, Nat.mul_comm]
  show vp_in (nI v * 33 + nI line) 330 ∧ _
  rw [ei]
  refine And.intro (vp_in_nI (by omega) (by omega)) (nm_r (e' := ri (33 * v + line)) (by rw [nI_clamp (by omega)]) ?_)
  have hr := hR v (by omega) line (by omega)
  have q0 : ps_QI n (fun d => ps_tb 0 d = true) qu 0 := by
    refine ⟨fun j hj => by omega, fun d hd => ?_, ?_⟩
    · have hd' : ps_tb 0 d = true := hd
      rw [ps_tb_0] at hd'; exact absurd hd' (by decide)
    · have : (fun d => ps_b (ps_tb 0 d = true)) = (fun _ => false) := funext (fun d => by rw [ps_b_f, ps_tb_0]; decide)
      rw [this, ps_cn_0]
  refine ps_xka (qs := 0) hn q0 (fun d hd => ?_) (fun kp1 qu1 qs1 a1 a2 a3 a4 => ?_)
  · rw [ps_tb_one (by omega), decide_eq_true_eq] at hd
    omega
  refine ps_xka (qs := qs1) hn a2 (fun d hd => ?_) (fun kp2 qu2 qs2 b1 b2 b3 b4 => ?_)
  · exact ((hr d).mp hd).1
  refine Exists.intro 33 (ps_xck50 (line := line) (var := nI v) (vc := vc) (ll := ll) hv hn hV hB hR hC hp 32 0 kp2 _ 0 qu2 qs2 (by omega) ?_)
  have hk : ∀ d, ps_tb kp2 d = true ↔ ps_KB K A B C n line (nI v) d := by
    intro d
    rw [b1, a1, ps_tb_0, ps_tb_one (by omega), decide_eq_true_eq, hr]
    unfold ps_KB
    constructor
    · rintro ((z | z) | z)
      · exact absurd z (by decide)
      · exact Or.inl z
      · exact Or.inr z
    · rintro (z | z)
      · exact Or.inl (Or.inr z)
      · exact Or.inr z
  refine ⟨b2, by omega, fun d hd => ps_Lf_b ((hk d).mp hd), fun d hd => (hk d).mpr hd, fun j hj => by omega, fun d => ?_, fun d => ?_⟩
  · rw [hr]
    exact ⟨Or.inl, fun z => z.elim id (fun ⟨j, hj, _⟩ => by omega)⟩
  · rw [ps_tb_0]
    exact ⟨fun z => absurd z (by decide), fun ⟨_, j, hj, _⟩ => by omega⟩
end
end
section
/-! ===== X: writeSlice ===== -/
/-- a field of a kept line as it stands in the slice -/
def ps_sl (Kb : Nat → Bool) (n : Nat) (k x : Int32) (p : Nat) : Int32 := if ps_srt k.toNatClampNeg p = 3 then nI (ps_cn Kb (ps_T x n)) else x
def ps_WS (Kb : Nat → Bool) (n : Nat) (K A B C K' A' B' C' : Nat → Int32) (j : Nat) : Prop :=
  (∀ q, (q < 32 ∨ 32 + j ≤ q) → K' q = K q ∧ A' q = A q ∧ B' q = B q ∧ C' q = C q) ∧
  (∀ i, i < n → Kb i = true → ps_cn Kb i < j → K' (32 + ps_cn Kb i) = K i ∧ A' (32 + ps_cn Kb i) = ps_sl Kb n (K i) (A i) 1 ∧ B' (32 + ps_cn Kb i) = ps_sl Kb n (K i) (B i) 2 ∧ C' (32 + ps_cn Kb i) = ps_sl Kb n (K i) (C i) 3)
theorem ps_WS_s {Kb : Nat → Bool} {n i : Nat} {K A B C K' A' B' C' : Nat → Int32} (hi : i < n) (hk : Kb i = true) (h : ps_WS Kb n K A B C K' A' B' C' (ps_cn Kb i)) :
    ps_WS Kb n K A B C (upd K' (32 + ps_cn Kb i) (K i)) (upd A' (32 + ps_cn Kb i) (ps_sl Kb n (K i) (A i) 1)) (upd B' (32 + ps_cn Kb i) (ps_sl Kb n (K i) (B i) 2)) (upd C' (32 + ps_cn Kb i) (ps_sl Kb n (K i) (C i) 3)) (ps_cn Kb i + 1) := by
  refine ⟨fun q hq => ?_, fun m hm hkm hj => ?_⟩
  · have hne : q ≠ 32 + ps_cn Kb i := by omega
    rw [pk_un hne, pk_un hne, pk_un hne, pk_un hne]
    exact h.1 q (by omega)
  · by_cases e : m = i
    · subst e
      exact ⟨pk_us, pk_us, pk_us, pk_us⟩
    · have hne : ps_cn Kb m ≠ ps_cn Kb i := fun z => e (ps_cn_inj hkm hk z)
      have hne2 : 32 + ps_cn Kb m ≠ 32 + ps_cn Kb i := by omega
      rw [pk_un hne2, pk_un hne2, pk_un hne2, pk_un hne2]
      exact h.2 m hm hkm (by omega)
section
variable {fll fvc fil fmc fit fhs fcv : Int32} {fkp fdk fck : Int64} {fqs fhr : Int32} {K A B C T inp jf js rn us df : Nat → Int32} {ri pd co : Nat → Int64} {cl qu nw od rv rm rc rs rh rd ro rt : Nat → Int32}
variable {vc ll n : Nat}
theorem ps_xrn {post : Int32 → Prop} {Kb : Nat → Bool} {s : Nat} {x : Int32} (hs : s ≤ 3) (hn : n ≤ 32) (hl : ll ≤ 32) (hx : s = 3 → ∃ j, j ≤ ll ∧ x = nI j) (hnw : ∀ j, j ≤ n → nw j = nI (ps_cn Kb j))
    (h : post (if s = 3 then nI (ps_cn Kb (ps_T x n)) else x)) : wpX_renumbered post (fll, fvc, fil, fmc, fit, fhs, fcv, fkp, fdk, fck, fqs, fhr, K, A, B, C, T, inp, jf, js, rn, us, df, ri, pd, co, cl, qu, nw, od, rv, rm, rc, rs, rh, rd, ro, rt) (nI s) x (nI n) := by
  refine pk_eq s 3 (fun c => ?_) (fun c => ?_)
  · obtain ⟨j, hj, e⟩ := hx c
    rw [if_pos c] at h
    have hT : ps_T x n ≤ n := ps_T_le x (by omega)
    refine ps_xrt (j := j) (by omega) e (And.intro (vp_in_nI (by omega) (by omega)) ?_)
    rw [nI_clamp (by omega), hnw _ hT]
    exact h
  · rw [if_neg c] at h
    exact h
theorem ps_srt_le (q p : Nat) : ps_srt q p ≤ 3 := by
  unfold ps_srt
  repeat' split
  all_goals omega
theorem ps_xws60 {post : SX → Prop} {Kb : Nat → Bool} {K0 A0 B0 C0 : Nat → Int32} (hn : n ≤ 32) (hl : ll ≤ 32) (hV : ps_VP vc ll n K0 A0 B0 C0)
    (hnw : ∀ j, j ≤ n → nw j = nI (ps_cn Kb j)) (hod : ∀ i, i < n → Kb i = true → od (ps_cn Kb i) = nI i)
    (hp : ∀ K A B C, ps_WS Kb n K0 A0 B0 C0 K A B C (ps_cn Kb n) → post (fll, fvc, fil, fmc, fit, fhs, fcv, fkp, fdk, fck, fqs, fhr, K, A, B, C, T, inp, jf, js, rn, us, df, ri, pd, co, cl, qu, nw, od, rv, rm, rc, rs, rh, rd, ro, rt)) :
    ∀ d j K A B C, j + d = ps_cn Kb n → ps_WS Kb n K0 A0 B0 C0 K A B C j → wX_writeSlice_60 post (nI n) (nI (ps_cn Kb n)) fll fvc fil fmc fit fhs fcv fkp fdk fck fqs fhr (d + 1) (nI j) K A B C T inp jf js rn us df ri pd co cl qu nw od rv rm rc rs rh rd ro rt := by
  have hcn := ps_cn_le Kb n
  intro d
  induction d with
  | zero =>
    intro j K A B C hd hW
    have e : j = ps_cn Kb n := by omega
    subst e
    exact br_t (nI_le (Nat.le_refl _) (by omega)) (hp K A B C hW)
  | succ d ih =>
    intro j K A B C hd hW
    obtain ⟨i, hi, hk, hc⟩ := ps_cn_ex (P := Kb) n j (by omega)
    obtain ⟨q, hq, hkq, hfa, hfb, hfc⟩ := hV i hi
    have ej : (nI j).toNatClampNeg = j := nI_clamp (by omega)
    have ei : (nI i).toNatClampNeg = i := nI_clamp (by omega)
    have eo : od (nI j).toNatClampNeg = nI i := by rw [ej, ← hc]; exact hod i hi hk
    have e5 : (32 : Int32) + nI j = nI (32 + j) := by rw [show (32 : Int32) = nI 32 from rfl, nI_add]
    have et : (nI (32 + j)).toNatClampNeg = 32 + j := nI_clamp (by omega)
    have hin : vp_in (nI i) 64 := vp_in_nI (by omega) (by omega)
    have hin5 : vp_in (nI (32 + j)) 64 := vp_in_nI (by omega) (by omega)
    obtain ⟨w1, w2, w3, w4⟩ := hW.1 i (Or.inl (by omega))
    have hsl : ∀ x p, (if ps_srt q p = 3 then nI (ps_cn Kb (ps_T x n)) else x) = ps_sl Kb n (K0 i) x p := by
      intro x p
      unfold ps_sl
      rw [hkq, nI_clamp (by omega)]
    refine br_f (nI_ge (by omega) (by omega)) (And.intro (vp_in_nI (by omega) (by omega)) (nm_r eo (nm_r e5 (And.intro hin (nm_r (e' := nI q) (by rw [ei, w1, hkq]) ?_)))))
    refine ps_xsrtA hq (ps_xsrtB hq (ps_xsrtC hq ?_))
    refine And.intro hin5 (nm_r (e' := upd K (32 + j) (K0 i)) (by rw [et, hkq]) (And.intro hin (ps_xrn (Kb := Kb) (ll := ll) (ps_srt_le q 1) hn hl (fun z => by rw [ei, w2]; exact hfa.2.2 z) hnw ?_)))
    refine And.intro hin5 (nm_r (e' := upd A (32 + j) (ps_sl Kb n (K0 i) (A0 i) 1)) (by rw [et, ei, w2, hsl]) (And.intro hin (ps_xrn (Kb := Kb) (ll := ll) (ps_srt_le q 2) hn hl (fun z => by rw [ei, w3]; exact hfb.2.2 z) hnw ?_)))
    refine And.intro hin5 (nm_r (e' := upd B (32 + j) (ps_sl Kb n (K0 i) (B0 i) 2)) (by rw [et, ei, w3, hsl]) (And.intro hin (ps_xrn (Kb := Kb) (ll := ll) (ps_srt_le q 3) hn hl (fun z => by rw [ei, w4]; exact hfc.2.2 z) hnw ?_)))
    refine And.intro hin5 (nm_r (e' := upd C (32 + j) (ps_sl Kb n (K0 i) (C0 i) 3)) (by rw [et, ei, w4, hsl]) (nm_r (nI_1 j) ?_))
    subst hc
    exact ih (ps_cn Kb i + 1) _ _ _ _ (by omega) (ps_WS_s hi hk hW)
theorem ps_xws4 {post : SX → Prop} (hn : n ≤ 32) (hl : ll ≤ 32) (hV : ps_VP vc ll n K A B C)
    (hp : ∀ K' A' B' C' nw od, ps_WS (ps_tb fkp) n K A B C K' A' B' C' (ps_cn (ps_tb fkp) n) → (∀ j, j ≤ n → nw j = nI (ps_cn (ps_tb fkp) j)) → (∀ i, i < n → ps_tb fkp i = true → od (ps_cn (ps_tb fkp) i) = nI i) → post (fll, fvc, fil, fmc, fit, fhs, fcv, fkp, fdk, fck, fqs, fhr, K', A', B', C', upd T 1 (nI (ps_cn (ps_tb fkp) n)), inp, jf, js, rn, us, df, ri, pd, co, cl, qu, nw, od, rv, rm, rc, rs, rh, rd, ro, rt)) :
    ∀ d i nw od, i + d = n → (∀ j, j < i → nw j = nI (ps_cn (ps_tb fkp) j)) → (∀ j, j < i → ps_tb fkp j = true → od (ps_cn (ps_tb fkp) j) = nI j) → wX_writeSlice_4 post (nI n) fll fvc fil fmc fit fhs fcv fkp fdk fck fqs fhr (d + 1) (nI (ps_cn (ps_tb fkp) i)) (nI i) K A B C T inp jf js rn us df ri pd co cl qu nw od rv rm rc rs rh rd ro rt := by
  intro d
  induction d with
  | zero =>
    intro i nw od hd h1 h2
    have e : i = n := by omega
    subst e
    have hcn := ps_cn_le (ps_tb fkp) i
    have h1' : ∀ j, j ≤ i → (upd nw i (nI (ps_cn (ps_tb fkp) i))) j = nI (ps_cn (ps_tb fkp) j) := by
      intro j hj
      by_cases e : j = i
      · subst e; exact pk_us
      · rw [pk_un e]; exact h1 j (by omega)
    refine br_t (nI_le (Nat.le_refl _) (by omega)) (And.intro (vp_in_nI (by omega) (by omega)) (nm_r (e' := upd nw i (nI (ps_cn (ps_tb fkp) i))) (by rw [nI_clamp (by omega)]) (nm_e (Exists.intro (ps_cn (ps_tb fkp) i + 1) ?_))))
    refine ps_xws60 (Kb := ps_tb fkp) hn hl hV h1' h2 (fun K' A' B' C' hW => hp K' A' B' C' _ od hW h1' h2) (ps_cn (ps_tb fkp) i) 0 K A B C (by omega) ⟨fun q _ => ⟨rfl, rfl, rfl, rfl⟩, fun j _ _ hj => by omega⟩
  | succ d ih =>
    intro i nw od hd h1 h2
    have hcn := ps_cn_le (ps_tb fkp) i
    have h1' : ∀ j, j < i + 1 → (upd nw i (nI (ps_cn (ps_tb fkp) i))) j = nI (ps_cn (ps_tb fkp) j) := by
      intro j hj
      by_cases e : j = i
      · subst e; exact pk_us
      · rw [pk_un e]; exact h1 j (by omega)
    refine br_f (nI_ge (by omega) (by omega)) (And.intro (vp_in_nI (by omega) (by omega)) (nm_r (e' := upd nw i (nI (ps_cn (ps_tb fkp) i))) (by rw [nI_clamp (by omega)]) (ps_xhb (by omega) (fun c => br_f (by decide) ?_) (fun c => br_t rfl (nm_r (nI_1 i) ?_)))))
    · refine And.intro (vp_in_nI (by omega) (by omega)) (nm_r (e' := upd od (ps_cn (ps_tb fkp) i) (nI i)) (by rw [nI_clamp (by omega)]) (nm_r (nI_1 _) (nm_r (nI_1 i) ?_)))
      rw [← ps_cn_t c]
      refine ih (i + 1) _ _ (by omega) h1' (fun j hj hk => ?_)
      by_cases e : j = i
      · subst e; exact pk_us
      · rw [pk_un (fun z => e (ps_cn_inj hk c z))]; exact h2 j (by omega) hk
    · have hh := ih (i + 1) _ od (by omega) h1' (fun j hj hk => by
        by_cases e : j = i
        · subst e; exact absurd hk c
        · exact h2 j (by omega) hk)
      rw [ps_cn_f c] at hh
      exact hh
theorem ps_xws {post : SX → Prop} (hn : n ≤ 32) (hl : ll ≤ 32) (hV : ps_VP vc ll n K A B C)
    (hp : ∀ K' A' B' C' nw od, ps_WS (ps_tb fkp) n K A B C K' A' B' C' (ps_cn (ps_tb fkp) n) → (∀ j, j ≤ n → nw j = nI (ps_cn (ps_tb fkp) j)) → (∀ i, i < n → ps_tb fkp i = true → od (ps_cn (ps_tb fkp) i) = nI i) → post (fll, fvc, fil, fmc, fit, fhs, fcv, fkp, fdk, fck, fqs, fhr, K', A', B', C', upd T 1 (nI (ps_cn (ps_tb fkp) n)), inp, jf, js, rn, us, df, ri, pd, co, cl, qu, nw, od, rv, rm, rc, rs, rh, rd, ro, rt)) :
    wpX_writeSlice post (fll, fvc, fil, fmc, fit, fhs, fcv, fkp, fdk, fck, fqs, fhr, K, A, B, C, T, inp, jf, js, rn, us, df, ri, pd, co, cl, qu, nw, od, rv, rm, rc, rs, rh, rd, ro, rt) (nI n) :=
  Exists.intro (n + 1) (ps_xws4 hn hl hV hp n 0 nw od (by omega) (fun j hj => absurd hj (Nat.not_lt_zero j)) (fun j hj => absurd hj (Nat.not_lt_zero j)))
end
end
section
/-! ===== X: slice ===== -/
/-- what X holds behind a slice -/
def ps_XF (K A B C : Nat → Int32) (n line : Nat) (var : Int32) (kp dk ck : Int64) (ri pd co : Nat → Int64) : Prop :=
  (∀ r, r ≤ 9 → ps_RF K A B C n r ri) ∧ ps_PF K A B C n pd ∧ ps_CF K A B C n co ∧ ps_KF K A B C n line var kp dk ck
section
variable {fll fvc fil fmc fit fhs fcv : Int32} {fkp fdk fck : Int64} {fqs fhr : Int32} {K A B C T inp jf js rn us df : Nat → Int32} {ri pd co : Nat → Int64} {cl qu nw od rv rm rc rs rh rd ro rt : Nat → Int32}
variable {vc ll n : Nat}
theorem ps_xsl43 {post : Int32 → SX → Prop} {line v : Nat} (hv : vc ≤ 8) (hn : n ≤ 32) (hl : ll ≤ 32) (hli : line < n) (hvv : v < vc) (hV : ps_VP vc ll n K A B C) (hB : ps_BF vc K A B C n n jf js rn us df)
    (hp : ∀ ri pd co kp dk ck qu qs nw od K' A' B' C', ps_XF K A B C n line (nI v) kp dk ck ri pd co → ps_WS (ps_tb kp) n K A B C K' A' B' C' (ps_cn (ps_tb kp) n) → (∀ i, i < n → ps_tb kp i = true → od (ps_cn (ps_tb kp) i) = nI i) →
      post (nI (ps_cn (ps_tb kp) n)) (fll, fvc, fil, fmc, fit, 1, nI v, kp, dk, ck, nI qs, fhr, K', A', B', C', upd T 1 (nI (ps_cn (ps_tb kp) n)), inp, jf, js, rn, us, df, ri, pd, co, upd (upd cl 0 (nI line)) 1 (nI (ps_cn (ps_tb kp) line)), qu, nw, od, rv, rm, rc, rs, rh, rd, ro, rt)) :
    ∀ d r ri, r + d = 10 → (∀ q, q < r → ps_RF K A B C n q ri) → wX_slice_43 post (nI line) (nI v) (nI n) (d + 1) (nI r) fll fvc fil fmc fit fhs fcv fkp fdk fck fqs fhr K A B C T inp jf js rn us df ri pd co cl qu nw od rv rm rc rs rh rd ro rt := by
  intro d
  induction d with
  | zero =>
    intro r ri hd hR
    have hR' : ∀ r, r ≤ 9 → ps_RF K A B C n r ri := fun q hq => hR q (by omega)
    refine br_t (nI_lt (a := 9) (by omega) (by omega)) ?_
    refine ps_xpd (vc := vc) hn hB (fun pd hP => ?_)
    refine ps_xct (vc := vc) hn hB hP (fun co hC => ?_)
    refine ps_xck (vc := vc) (ll := ll) hv hn hli hvv hV hB hR' hC (fun kp dk ck qu qs hK => ?_)
    refine ps_xws (vc := vc) (ll := ll) hn hl hV (fun K' A' B' C' nw od hW hnw hod => ?_)
    refine nm_e (And.intro (vp_in_nI (by omega) (by omega)) (nm_r (e' := upd (upd cl 0 (nI line)) 1 (nI (ps_cn (ps_tb kp) line))) (by rw [nI_clamp (by omega), hnw line (by omega)]) ?_))
    exact hp ri pd co kp dk ck qu qs nw od K' A' B' C' ⟨hR', hP, hC, hK⟩ hW hod
  | succ d ih =>
    intro r ri hd hR
    refine br_f (nI_nlt (a := 9) (by omega) (by omega)) ?_
    refine ps_xsr (vc := vc) (ll := ll) hv hn (by omega) hV hB (fun ri' hF hRF => nm_r (nI_1 r) ?_)
    refine ih (r + 1) ri' (by omega) (fun q hq => ?_)
    by_cases e : q = r
    · subst e; exact hRF
    · intro p hp' x
      rw [hF (33 * q + p) (fun p' hp'' => by omega)]
      exact hR q (by omega) p hp' x
theorem ps_xslice {post : Int32 → SX → Prop} {line v : Nat} (hv : vc ≤ 8) (hn : n ≤ 32) (hl : ll ≤ 32) (hli : line < n) (hvv : v < vc) (hV : ps_VP vc ll n K A B C) (hT : T 0 = nI n)
    (hp : ∀ jf js rn us df ri pd co kp dk ck qu qs nw od K' A' B' C', ps_XF K A B C n line (nI v) kp dk ck ri pd co → ps_WS (ps_tb kp) n K A B C K' A' B' C' (ps_cn (ps_tb kp) n) → (∀ i, i < n → ps_tb kp i = true → od (ps_cn (ps_tb kp) i) = nI i) →
      post (nI (ps_cn (ps_tb kp) n)) (fll, nI vc, fil, fmc, fit, 1, nI v, kp, dk, ck, nI qs, 0, K', A', B', C', upd T 1 (nI (ps_cn (ps_tb kp) n)), inp, jf, js, rn, us, df, ri, pd, co, upd (upd cl 0 (nI line)) 1 (nI (ps_cn (ps_tb kp) line)), qu, nw, od, rv, rm, rc, rs, rh, rd, ro, rt)) :
    wpX_slice post (fll, nI vc, fil, fmc, fit, fhs, fcv, fkp, fdk, fck, fqs, fhr, K, A, B, C, T, inp, jf, js, rn, us, df, ri, pd, co, cl, qu, nw, od, rv, rm, rc, rs, rh, rd, ro, rt) (nI line) (nI v) := by
  refine nm_r (e' := nI n) hT (br_f (nI_pos (by omega)) (br_t (nI_lt hli (by omega)) ?_))
  refine ps_xiv (vc := vc) (by omega) (fun j _ _ => br_f (by decide) ?_) (fun z => ?_)
  · refine ps_xbf (vc := vc) (ll := ll) hn hl hV (fun jf js rn us df hB => Exists.intro 11 ?_)
    exact ps_xsl43 (vc := vc) (ll := ll) hv hn hl hli hvv hV hB (fun ri pd co kp dk ck qu qs nw od K' A' B' C' h1 h2 h3 => hp jf js rn us df ri pd co kp dk ck qu qs nw od K' A' B' C' h1 h2 h3) 10 0 ri (by omega) (fun q hq => absurd hq (Nat.not_lt_zero q))
  · exfalso
    rw [nI_leI (by omega) (by omega)] at z
    rcases z with z | z
    · exact nI_pos (by omega) z
    · omega
end
end
section
/-! ===== Y: sort, field, defines, uses, edge ===== -/
def ps_ys133 (k p : Int32) : Int32 := if k < 11 then 45 else if p = 1 then 86 else 88
def ps_ys (k p : Int32) : Int32 :=
  if p = 0 then 45 else if k = 2 then (if p = 1 then 84 else 45) else if k = 3 then (if p = 1 then 88 else 84) else if k = 4 then (if p = 1 then 86 else 45)
  else if k = 5 then (if p = 1 then 86 else if p = 2 then 88 else 45) else if k = 6 then (if 2 < p then 45 else 88)
  else if k < 7 then (if k < 11 then 45 else if p = 1 then 86 else 88) else if 10 < k then (if k < 11 then 45 else if p = 1 then 86 else 88) else if 2 < p then 84 else 88
theorem ps_ys_t : ∀ q, q < 17 → ∀ p, p < 4 → ps_ys (nI q) (nI p) = ps_ch (ps_srt q p) := by decide +kernel
/-- what Y's searches rest on -/
def ps_YH (vc ll n : Nat) (K A B C code cT : Nat → Int32) : Prop :=
  vc ≤ 8 ∧ ll ≤ 32 ∧ n ≤ ll ∧ cT 0 = nI n ∧ (∀ i, i < n → code (4 * i) = K i ∧ code (4 * i + 1) = A i ∧ code (4 * i + 2) = B i ∧ code (4 * i + 3) = C i) ∧ ps_VP vc ll n K A B C
theorem ps_YH_fl {vc ll n : Nat} {K A B C code cT : Nat → Int32} (H : ps_YH vc ll n K A B C code cT) {i p : Nat} (hi : i < n) (hp : p ≤ 3) : code (4 * i + p) = ps_fl K A B C p i := by
  obtain ⟨_, _, _, _, h, _⟩ := H
  obtain ⟨h0, h1, h2, h3⟩ := h i hi
  unfold ps_fl
  by_cases e0 : p = 0
  · subst e0; rw [if_pos rfl]; exact h0
  · rw [if_neg e0]
    by_cases e1 : p = 1
    · subst e1; rw [if_pos rfl]; exact h1
    · rw [if_neg e1]
      by_cases e2 : p = 2
      · subst e2; rw [if_pos rfl]; exact h2
      · rw [if_neg e2]
        have e3 : p = 3 := by omega
        subst e3; exact h3
section
variable {fll fvc fil fmc fit gcl gcv gsl gra : Int32} {code cT inp kep mk st tr res : Nat → Int32}
variable {vc ll n : Nat} {K A B C : Nat → Int32}
theorem ps_ysrt {post : Int32 → Prop} {q p : Nat} (hq : q ≤ 16) (hp : p ≤ 3) (h : post (ps_ch (ps_srt q p))) : wpY_sort post (fll, fvc, fil, fmc, fit, gcl, gcv, gsl, gra, code, cT, inp, kep, mk, st, tr, res) (nI q) (nI p) := by
  rw [← ps_ys_t q (by omega) p (by omega)] at h
  have h' : post (if nI p = 0 then 45 else if nI q = 2 then (if nI p = 1 then 84 else 45) else if nI q = 3 then (if nI p = 1 then 88 else 84) else if nI q = 4 then (if nI p = 1 then 86 else 45)
    else if nI q = 5 then (if nI p = 1 then 86 else if nI p = 2 then 88 else 45) else if nI q = 6 then (if 2 < nI p then 45 else 88)
    else if nI q < 7 then (if nI q < 11 then 45 else if nI p = 1 then 86 else 88) else if 10 < nI q then (if nI q < 11 then 45 else if nI p = 1 then 86 else 88) else if 2 < nI p then 84 else 88) := h
  exact ps_bi post h' id (fun h => ps_bi post h (fun h => ps_bi post h id id) (fun h => ps_bi post h (fun h => ps_bi post h id id) (fun h => ps_bi post h (fun h => ps_bi post h id id)
    (fun h => ps_bi post h (fun h => ps_bi post h id (fun h => ps_bi post h id id)) (fun h => ps_bi post h (fun h => ps_bi post h id id) (fun h => ps_bi post h (fun h => ps_bi post h id (fun h => ps_bi post h id id)) (fun h => ps_bi post h (fun h => ps_bi post h id (fun h => ps_bi post h id id)) (fun h => ps_bi post h id id))))))))
theorem ps_yfld {post : Int32 → Prop} {i p : Nat} (H : ps_YH vc ll n K A B C code cT) (hi : i < n) (hp : p ≤ 3) (h : post (ps_fl K A B C p i)) : wpY_field post (fll, fvc, fil, fmc, fit, gcl, gcv, gsl, gra, code, cT, inp, kep, mk, st, tr, res) 0 (nI i) (nI p) := by
  have hc := ps_YH_fl H hi hp
  obtain ⟨_, hl, hn, hT, _, _⟩ := H
  have e : ((0 : Int32) * 128 + nI i * 4) + nI p = nI (4 * i + p) := by
    rw [show (0 : Int32) * 128 = nI 0 from rfl, show (4 : Int32) = nI 4 from rfl, pk_mul, nI_add, nI_add]
    exact congrArg nI (by omega)
  refine br_f (nI_pos (by omega)) (br_t rfl (And.intro (vp_in_nI (n := 0) (by omega) (by omega)) ?_))
  show (cT 0 ≤ nI i → _) ∧ (¬ cT 0 ≤ nI i → _)
  rw [hT]
  refine br_f (nI_ge hi (by omega)) (br_f (nI_pos (n := p) (by omega)) (br_t (nI_le (b := 3) hp (by omega)) ?_))
  rw [e]
  refine And.intro (vp_in_nI (by omega) (by omega)) ?_
  rw [nI_clamp (by omega), hc]
  exact h
theorem ps_ydef {post : Int32 → Prop} {i : Nat} {r : Int32} (H : ps_YH vc ll n K A B C code cT) (hi : i < n) (h1 : ps_D K A r i → post 1) (h0 : ¬ ps_D K A r i → post 0) : wpY_defines post (fll, fvc, fil, fmc, fit, gcl, gcv, gsl, gra, code, cT, inp, kep, mk, st, tr, res) (nI i) r := by
  obtain ⟨q, hq, hk, _⟩ := H.2.2.2.2.2 i hi
  have hs : ps_ch (ps_srt q 1) = 86 ↔ (q = 4 ∨ q = 5 ∨ ¬ q < 11) := by
    have : ∀ q, q < 17 → (ps_ch (ps_srt q 1) = 86 ↔ (q = 4 ∨ q = 5 ∨ ¬ q < 11)) := by decide +kernel
    exact this q (by omega)
  have hs2 : (K i = 4 ∨ K i = 5 ∨ ¬ K i < 11) ↔ (q = 4 ∨ q = 5 ∨ ¬ q < 11) := by
    rw [hk, show (4 : Int32) = nI 4 from rfl, show (5 : Int32) = nI 5 from rfl, show (11 : Int32) = nI 11 from rfl, nI_eq (by omega) (by omega), nI_eq (by omega) (by omega), nI_ltI (by omega) (by omega)]
  have e5 : ¬ (K i = 4 ∧ r = 8) → ¬ (K i = 6 ∧ r = 9) → wY_defines_35 post (nI i) r (K i) fll fvc fil fmc fit gcl gcv gsl gra code cT inp kep mk st tr res := by
    intro n1 n2
    rw [hk]
    refine ps_ysrt (p := 1) hq (by omega) ?_
    refine br_c (fun c => ps_yfld (p := 1) H hi (by omega) (br_c (fun c2 => h1 (Or.inr (Or.inr ⟨hs2.mpr (hs.mp c), c2⟩))) (fun c2 => h0 ?_))) (fun c => h0 ?_)
    · rintro (z | z | z)
      · exact n1 z
      · exact n2 z
      · exact c2 z.2
    · rintro (z | z | z)
      · exact n1 z
      · exact n2 z
      · exact c (hs.mpr (hs2.mp z.1))
  have e21 : ¬ (K i = 4 ∧ r = 8) → wY_defines_21 post (nI i) r (K i) fll fvc fil fmc fit gcl gcv gsl gra code cT inp kep mk st tr res := fun n1 =>
    br_c (fun c => br_c (fun c2 => h1 (Or.inr (Or.inl ⟨c, c2⟩))) (fun c2 => e5 n1 (fun z => c2 z.2))) (fun c => e5 n1 (fun z => c z.1))
  unfold wpY_defines
  refine ps_yfld (p := 0) H hi (by omega) ?_
  show (K i = 4 → _) ∧ _
  exact br_c (fun c => br_c (fun c2 => h1 (Or.inl ⟨c, c2⟩)) (fun c2 => e21 (fun z => c2 z.2))) (fun c => e21 (fun z => c z.1))
theorem ps_U_nat {i q r : Nat} (hq : q ≤ 16) (hr : r ≤ 9) (hk : K i = nI q) : ps_U K A B C (nI r) i ↔ ((r = 8 ∧ q = 4) ∨ (r = 9 ∧ (q = 5 ∨ q = 6)) ∨ (r ≠ 8 ∧ r ≠ 9 ∧ (((q = 3 ∨ q = 6 ∨ (7 ≤ q ∧ q ≤ 10)) ∧ A i = nI r) ∨ (5 ≤ q ∧ B i = nI r) ∨ (11 ≤ q ∧ C i = nI r)))) := by
  have hcm : ps_cmp (K i) ↔ 7 ≤ q ∧ q ≤ 10 := by rw [hk]; exact ps_cmp_nI hq
  unfold ps_U
  rw [hcm, hk, show (3 : Int32) = nI 3 from rfl, show (4 : Int32) = nI 4 from rfl, show (5 : Int32) = nI 5 from rfl, show (6 : Int32) = nI 6 from rfl, show (8 : Int32) = nI 8 from rfl, show (9 : Int32) = nI 9 from rfl, show (11 : Int32) = nI 11 from rfl]
  simp only [ne_eq, nI_eq (show q < 2 ^ 31 by omega) (show 3 < 2 ^ 31 by omega), nI_eq (show q < 2 ^ 31 by omega) (show 4 < 2 ^ 31 by omega), nI_eq (show q < 2 ^ 31 by omega) (show 5 < 2 ^ 31 by omega), nI_eq (show q < 2 ^ 31 by omega) (show 6 < 2 ^ 31 by omega), nI_ltI (show q < 2 ^ 31 by omega) (show 11 < 2 ^ 31 by omega), nI_ltI (show q < 2 ^ 31 by omega) (show 5 < 2 ^ 31 by omega), nI_eq (show r < 2 ^ 31 by omega) (show 8 < 2 ^ 31 by omega), nI_eq (show r < 2 ^ 31 by omega) (show 9 < 2 ^ 31 by omega), Nat.not_lt]
theorem ps_yus51 {post : Int32 → Prop} {i q : Nat} {r : Int32} (H : ps_YH vc ll n K A B C code cT) (hi : i < n) (hq : q ≤ 16) :
    ∀ d p, p + d = 4 → ((∃ s, p ≤ s ∧ s ≤ 3 ∧ ps_ch (ps_srt q s) = 88 ∧ ps_fl K A B C s i = r) → post 1) → ((∀ s, p ≤ s → s ≤ 3 → ps_ch (ps_srt q s) = 88 → ¬ ps_fl K A B C s i = r) → post 0) → wY_uses_51 post (nI i) r (nI q) fll fvc fil fmc fit gcl gcv gsl gra code cT inp kep mk st tr res (d + 1) (nI p) := by
  intro d
  induction d with
  | zero =>
    intro p hd h1 h0
    exact br_t (nI_lt (a := 3) (by omega) (by omega)) (h0 (fun s hs hs2 => by omega))
  | succ d ih =>
    intro p hd h1 h0
    refine br_f (nI_nlt (a := 3) (by omega) (by omega)) (ps_ysrt hq (by omega) (br_c (fun c => ps_yfld H hi (by omega) (br_c (fun c2 => h1 ⟨p, by omega, by omega, c, c2⟩) (fun c2 => nm_r (nI_1 p) ?_))) (fun c => nm_r (nI_1 p) ?_)))
    · refine ih (p + 1) (by omega) (fun ⟨s, a, b⟩ => h1 ⟨s, by omega, b⟩) (fun z => h0 (fun s hs hs2 hc => ?_))
      by_cases e : s = p
      · subst e; exact c2
      · exact z s (by omega) hs2 hc
    · refine ih (p + 1) (by omega) (fun ⟨s, a, b⟩ => h1 ⟨s, by omega, b⟩) (fun z => h0 (fun s hs hs2 hc => ?_))
      by_cases e : s = p
      · subst e; exact absurd hc c
      · exact z s (by omega) hs2 hc
theorem ps_yus {post : Int32 → Prop} {i r : Nat} (H : ps_YH vc ll n K A B C code cT) (hi : i < n) (hr : r ≤ 9) (h1 : ps_U K A B C (nI r) i → post 1) (h0 : ¬ ps_U K A B C (nI r) i → post 0) : wpY_uses post (fll, fvc, fil, fmc, fit, gcl, gcv, gsl, gra, code, cT, inp, kep, mk, st, tr, res) (nI i) (nI r) := by
  obtain ⟨q, hq, hk, _⟩ := H.2.2.2.2.2 i hi
  have t1 : ∀ q, q < 17 → (ps_ch (ps_srt q 1) = 88 ↔ (q = 3 ∨ q = 6 ∨ (7 ≤ q ∧ q ≤ 10))) := by decide +kernel
  have t2 : ∀ q, q < 17 → (ps_ch (ps_srt q 2) = 88 ↔ 5 ≤ q) := by decide +kernel
  have t3 : ∀ q, q < 17 → (ps_ch (ps_srt q 3) = 88 ↔ 11 ≤ q) := by decide +kernel
  have hU := ps_U_nat (A := A) (B := B) (C := C) hq hr hk
  unfold wpY_uses
  refine ps_yfld (p := 0) H hi (by omega) ?_
  show (nI r = 8 → (K i = 4 → _) ∧ _) ∧ _
  refine br_c (fun c => ?_) (fun c => br_c (fun c2 => ?_) (fun c2 => ?_))
  · exact br_c (fun d => h1 (Or.inl ⟨c, d⟩)) (fun d => h0 (fun z => by
      rcases z with z | z | z
      · exact d z.2
      · rw [c] at z; exact absurd z.1 (by decide)
      · exact z.1 c))
  · show (K i = 5 → _) ∧ (¬ K i = 5 → (K i = 6 → _) ∧ _)
    exact br_c (fun d => h1 (Or.inr (Or.inl ⟨c2, Or.inl d⟩))) (fun d => br_c (fun d2 => h1 (Or.inr (Or.inl ⟨c2, Or.inr d2⟩))) (fun d2 => h0 (fun z => by
      rcases z with z | z | z
      · exact c z.1
      · exact z.2.elim d d2
      · exact z.2.1 c2)))
  · rw [show (8 : Int32) = nI 8 from rfl, nI_eq (by omega) (by omega)] at c
    rw [show (9 : Int32) = nI 9 from rfl, nI_eq (by omega) (by omega)] at c2
    show ∃ n51 : Nat, wY_uses_51 post (nI i) (nI r) (K i) fll fvc fil fmc fit gcl gcv gsl gra code cT inp kep mk st tr res n51 1
    rw [hk]
    refine Exists.intro 4 (ps_yus51 H hi hq 3 1 (by omega) (fun ⟨s, a, b, e, f⟩ => h1 (hU.mpr (Or.inr (Or.inr ⟨c, c2, ?_⟩)))) (fun z => h0 (fun u => ?_)))
    · have h3 : s = 1 ∨ s = 2 ∨ s = 3 := by omega
      rcases h3 with rfl | rfl | rfl
      · exact Or.inl ⟨(t1 q (by omega)).mp e, f⟩
      · exact Or.inr (Or.inl ⟨(t2 q (by omega)).mp e, f⟩)
      · exact Or.inr (Or.inr ⟨(t3 q (by omega)).mp e, f⟩)
    · rcases hU.mp u with u | u | ⟨_, _, u | u | u⟩
      · exact c u.1
      · exact c2 u.1
      · exact z 1 (by omega) (by omega) ((t1 q (by omega)).mpr u.1) u.2
      · exact z 2 (by omega) (by omega) ((t2 q (by omega)).mpr u.1) u.2
      · exact z 3 (by omega) (by omega) ((t3 q (by omega)).mpr u.1) u.2
end
/-! ===== Y: edge ===== -/
section
variable (K A B C : Nat → Int32) (n : Nat)
noncomputable def ps_ed0 (i : Nat) (w : Int32) : Int32 := if (K i = 1 ∨ K i = 2) ∧ w = 0 then -1 else nI (i + 1)
noncomputable def ps_ed1 (i : Nat) : Int32 := if K i = 1 then nI n else if K i = 2 then nI (ps_T (A i) n) else if K i = 3 then nI (ps_T (B i) n) else if ps_b (ps_cmp (K i)) = true then nI (ps_T (C i) n) else -1
noncomputable def ps_ed2 (i : Nat) : Int32 := if K i = 3 then nI (ps_T (C i) n) else -1
noncomputable def ps_ed (i : Nat) (w : Int32) (e : Nat) : Int32 := if e = 0 then ps_ed0 K i w else if e = 1 then ps_ed1 K A B C n i else ps_ed2 K C n i
end
section
variable {K A B C : Nat → Int32} {n : Nat}
theorem ps_ed_le {i e : Nat} {w : Int32} (hi : i < n) (hn : n < 2 ^ 31) : ps_ed K A B C n i w e = -1 ∨ ∃ s, s ≤ n ∧ ps_ed K A B C n i w e = nI s := by
  unfold ps_ed ps_ed0 ps_ed1 ps_ed2
  repeat' split
  all_goals first | exact Or.inl rfl | exact Or.inr ⟨_, Nat.le_refl _, rfl⟩ | exact Or.inr ⟨_, ps_T_le _ hn, rfl⟩ | exact Or.inr ⟨_, (by omega), rfl⟩
theorem ps_m1_ne {s : Nat} (h : s < 2 ^ 31) : ¬ (-1 : Int32) = nI s := by
  intro e
  have := nI_pos h
  rw [← e] at this
  exact this (by decide)
theorem ps_ed_Sx {i s : Nat} {w : Int32} (hi : i < n) (hn : n < 2 ^ 31 - 1) (hs : s ≤ n) (hw : w = 0 ∨ w = 1) : (∃ e, e ≤ 2 ∧ ps_ed K A B C n i w e = nI s) ↔ ps_Sx K A B C n w i s := by
  have inj : ∀ a, a ≤ n → (nI a = nI s ↔ s = a) := fun a ha => by
    rw [nI_eq (by omega) (by omega)]; exact ⟨fun z => z.symm, fun z => z.symm⟩
  have ne1 := ps_m1_ne (s := s) (by omega)
  have e3 : (∃ e, e ≤ 2 ∧ ps_ed K A B C n i w e = nI s) ↔ (ps_ed0 K i w = nI s ∨ ps_ed1 K A B C n i = nI s ∨ ps_ed2 K C n i = nI s) := by
    constructor
    · rintro ⟨e, he, h⟩
      have h3 : e = 0 ∨ e = 1 ∨ e = 2 := by omega
      rcases h3 with rfl | rfl | rfl
      · exact Or.inl h
      · exact Or.inr (Or.inl h)
      · exact Or.inr (Or.inr h)
    · rintro (h | h | h)
      · exact ⟨0, by omega, h⟩
      · exact ⟨1, by omega, h⟩
      · exact ⟨2, by omega, h⟩
  rw [e3]
  unfold ps_Sx ps_Sr ps_Sw ps_ed0 ps_ed1 ps_ed2 ps_E1 ps_E2 ps_E3
  have hTA := ps_T_le (A i) (n := n) (by omega)
  have hTB := ps_T_le (B i) (n := n) (by omega)
  have hTC := ps_T_le (C i) (n := n) (by omega)
  have iA := inj _ hTA
  have iB := inj _ hTB
  have iC := inj _ hTC
  have iN := inj n (Nat.le_refl n)
  have iI := inj (i + 1) (by omega)
  have n01 : ¬ (1 : Int32) = 0 := by decide
  have n10 : ¬ (0 : Int32) = 1 := by decide
  by_cases c1 : K i = 1
  · have c2 : ¬ K i = 2 := by rw [c1]; decide
    have c3 : ¬ K i = 3 := by rw [c1]; decide
    rcases hw with rfl | rfl
    · (simp [c1, ne1, iN] <;> omega)
    · (simp [c1, ne1, iN, iI] <;> omega)
  · by_cases c2 : K i = 2
    · rcases hw with rfl | rfl
      · (simp [c2, ne1, iA] <;> omega)
      · (simp [c2, ne1, iA, iI] <;> omega)
    · by_cases c3 : K i = 3
      · rcases hw with rfl | rfl
        · (simp [c3, ne1, iB, iC, iI] <;> omega)
        · (simp [c3, ne1, iB, iC, iI] <;> omega)
      · by_cases c4 : ps_b (ps_cmp (K i)) = true
        · rcases hw with rfl | rfl
          · (simp [c1, c2, c3, c4, ne1, iC, iI] <;> omega)
          · (simp [c1, c2, c3, c4, ne1, iC, iI] <;> omega)
        · rcases hw with rfl | rfl
          · (simp [c1, c2, c3, c4, ne1, iI] <;> omega)
          · (simp [c1, c2, c3, c4, ne1, iI] <;> omega)
end
section
variable {fll fvc fil fmc fit gcl gcv gsl gra : Int32} {code cT inp kep mk st tr res : Nat → Int32}
variable {vc ll n : Nat} {K A B C : Nat → Int32}
theorem ps_ye109 {post : Int32 → Prop} {i p j : Nat} (H : ps_YH vc ll n K A B C code cT) (hi : i < n) (hp1 : 1 ≤ p) (hp : p ≤ 3) (hj : j ≤ 32) (hx : ps_fl K A B C p i = nI j) (h : post (nI (ps_T (ps_fl K A B C p i) n))) : wY_edge_109 post (nI i) (nI n) (nI p) fll fvc fil fmc fit gcl gcv gsl gra code cT inp kep mk st tr res := by
  refine br_f (nI_ne0 (by omega) (by omega)) (ps_yfld H hi hp (br_c (fun c => ?_) (fun c => ?_)))
  · unfold ps_T at h; rw [if_pos c] at h; exact h
  · rw [ps_T_nI (by omega) hx c] at h; exact h
theorem ps_yedge0 {post : Int32 → Prop} {i : Nat} {w : Int32} (H : ps_YH vc ll n K A B C code cT) (hi : i < n) (h : post (ps_ed0 K i w)) : wpY_edge post (fll, fvc, fil, fmc, fit, gcl, gcv, gsl, gra, code, cT, inp, kep, mk, st, tr, res) (nI i) 0 w := by
  have hcT := H.2.2.2.1
  unfold ps_ed0 at h
  unfold wpY_edge
  refine ps_yfld (p := 0) H hi (by omega) (nm_r (e' := nI n) hcT (br_t rfl ?_))
  show (K i = 1 → _) ∧ (¬ K i = 1 → (K i = 2 → _) ∧ _)
  have e33 : (K i = 1 ∨ K i = 2) → wY_edge_33 post (nI i) w fll fvc fil fmc fit gcl gcv gsl gra code cT inp kep mk st tr res := fun c =>
    br_c (fun d => by rw [if_pos ⟨c, d⟩] at h; exact h) (fun d => by rw [if_neg (fun z => d z.2), ← nI_1] at h; exact h)
  exact br_c (fun c => e33 (Or.inl c)) (fun c => br_c (fun c2 => e33 (Or.inr c2)) (fun c2 => by
    rw [if_neg (fun z => z.1.elim c c2), ← nI_1] at h; exact h))
theorem ps_yedge1 {post : Int32 → Prop} {i : Nat} {w : Int32} (H : ps_YH vc ll n K A B C code cT) (hi : i < n) (h : post (ps_ed1 K A B C n i)) : wpY_edge post (fll, fvc, fil, fmc, fit, gcl, gcv, gsl, gra, code, cT, inp, kep, mk, st, tr, res) (nI i) 1 w := by
  have hcT := H.2.2.2.1
  obtain ⟨q, hq, hk, hfa, hfb, hfc⟩ := H.2.2.2.2.2 i hi
  have hl := H.2.1
  unfold ps_ed1 at h
  unfold wpY_edge
  refine ps_yfld (p := 0) H hi (by omega) (nm_r (e' := nI n) hcT (br_f (by decide) ?_))
  show (K i = 1 → _) ∧ (¬ K i = 1 → wY_edge_59 post (nI i) 1 (K i) (nI n) fll fvc fil fmc fit gcl gcv gsl gra code cT inp kep mk st tr res)
  by_cases c1 : K i = 1
  · rw [if_pos c1] at h
    exact br_t c1 (br_t rfl h)
  rw [if_neg c1] at h
  refine br_f c1 ?_
  by_cases c2 : K i = 2
  · rw [if_pos c2] at h
    have hs : ps_srt q 1 = 3 := by
      rw [hk, show (2 : Int32) = nI 2 from rfl, nI_eq (by omega) (by omega)] at c2
      subst c2; rfl
    obtain ⟨j, hj, hx⟩ := hfa.2.2 hs
    refine br_t c2 (br_t rfl (br_f (by rw [c2]; decide) (br_t (by rw [c2]; decide) ?_)))
    exact ps_ye109 (p := 1) (j := j) H hi (by omega) (by omega) (by omega) hx h
  rw [if_neg c2] at h
  refine br_f c2 ?_
  by_cases c3 : K i = 3
  · rw [if_pos c3] at h
    have hs : ps_srt q 2 = 3 := by
      rw [hk, show (3 : Int32) = nI 3 from rfl, nI_eq (by omega) (by omega)] at c3
      subst c3; rfl
    obtain ⟨j, hj, hx⟩ := hfb.2.2 hs
    refine br_t c3 (nm_r (e' := nI 2) (by decide) (br_t (by rw [c3]; decide) ?_))
    exact ps_ye109 (p := 2) (j := j) H hi (by omega) (by omega) (by omega) hx h
  rw [if_neg c3] at h
  refine br_f c3 ?_
  by_cases c4 : ps_cmp (K i)
  · rw [if_pos (ps_b_iff.mpr c4)] at h
    have hs : ps_srt q 3 = 3 := by
      rw [hk, ps_cmp_nI hq] at c4
      unfold ps_srt
      rw [if_neg (by omega), if_neg (by omega), if_pos rfl, if_pos (Or.inr c4)]
    obtain ⟨j, hj, hx⟩ := hfc.2.2 hs
    refine br_f c4.1 (br_f c4.2 (br_t rfl ?_))
    exact ps_ye109 (p := 3) (j := j) H hi (by omega) (by omega) (by omega) hx h
  · rw [if_neg (fun z => c4 (ps_b_iff.mp z))] at h
    exact br_c (fun _ => br_t rfl h) (fun d => br_c (fun _ => br_t rfl h) (fun d2 => absurd ⟨d, d2⟩ c4))
theorem ps_yedge2 {post : Int32 → Prop} {i : Nat} {w : Int32} (H : ps_YH vc ll n K A B C code cT) (hi : i < n) (h : post (ps_ed2 K C n i)) : wpY_edge post (fll, fvc, fil, fmc, fit, gcl, gcv, gsl, gra, code, cT, inp, kep, mk, st, tr, res) (nI i) 2 w := by
  have hcT := H.2.2.2.1
  obtain ⟨q, hq, hk, hfa, hfb, hfc⟩ := H.2.2.2.2.2 i hi
  have hl := H.2.1
  unfold ps_ed2 at h
  unfold wpY_edge
  refine ps_yfld (p := 0) H hi (by omega) (nm_r (e' := nI n) hcT (br_f (by decide) ?_))
  have e59 : wY_edge_59 post (nI i) 2 (K i) (nI n) fll fvc fil fmc fit gcl gcv gsl gra code cT inp kep mk st tr res := by
    have e76 : wY_edge_76 post (nI i) 2 (K i) (nI n) 0 fll fvc fil fmc fit gcl gcv gsl gra code cT inp kep mk st tr res := by
      by_cases c3 : K i = 3
      · rw [if_pos c3] at h
        have hs : ps_srt q 3 = 3 := by
          rw [hk, show (3 : Int32) = nI 3 from rfl, nI_eq (by omega) (by omega)] at c3
          subst c3; rfl
        obtain ⟨j, hj, hx⟩ := hfc.2.2 hs
        refine br_t c3 (nm_r (e' := nI 3) (by decide) (br_t (by rw [c3]; decide) ?_))
        exact ps_ye109 (p := 3) (j := j) H hi (by omega) (by omega) (by omega) hx h
      · rw [if_neg c3] at h
        exact br_f c3 (br_c (fun _ => br_t rfl h) (fun d => br_c (fun _ => br_t rfl h) (fun d2 => br_f (by decide) (br_t rfl h))))
    exact br_c (fun _ => br_f (by decide) e76) (fun _ => e76)
  show (K i = 1 → _) ∧ (¬ K i = 1 → wY_edge_59 post (nI i) 2 (K i) (nI n) fll fvc fil fmc fit gcl gcv gsl gra code cT inp kep mk st tr res)
  exact br_c (fun _ => br_f (by decide) e59) (fun _ => e59)
theorem ps_yedge {post : Int32 → Prop} {i e : Nat} {w : Int32} (H : ps_YH vc ll n K A B C code cT) (hi : i < n) (he : e ≤ 2) (h : post (ps_ed K A B C n i w e)) : wpY_edge post (fll, fvc, fil, fmc, fit, gcl, gcv, gsl, gra, code, cT, inp, kep, mk, st, tr, res) (nI i) (nI e) w := by
  have h3 : e = 0 ∨ e = 1 ∨ e = 2 := by omega
  rcases h3 with rfl | rfl | rfl
  · exact ps_yedge0 H hi h
  · exact ps_yedge1 H hi h
  · exact ps_yedge2 H hi h
end
end
section
/-! ===== Y: marks and searches ===== -/
/-- the first 33 marks are booleans -/
def ps_BB (mk : Nat → Int32) : Prop := ∀ j, j < 33 → mk j = 0 ∨ mk j = 1
theorem ps_nar1 : vp_nar .boolean 1 = 1 := rfl
theorem ps_nar0 : vp_nar .boolean 0 = 0 := rfl
theorem ps_nar01 {x : Int32} (h : x = 0 ∨ x = 1) : narrow .boolean (.int x) = .int x := by
  rcases h with rfl | rfl
  · rfl
  · rfl
theorem ps_BB_u {mk : Nat → Int32} {s : Nat} (h : ps_BB mk) : ps_BB (upd mk s 1) := by
  intro j hj
  by_cases e : j = s
  · subst e; exact Or.inr pk_us
  · rw [pk_un e]; exact h j hj
/-- marks: mk from mk0 with the places of P added -/
def ps_MI (mk0 : Nat → Int32) (P : Nat → Prop) (x : Int32) (mk : Nat → Int32) : Prop :=
  (x = 0 ∨ x = 1) ∧ ps_BB mk ∧ (∀ j, j < 33 → (mk j ≠ 0 ↔ (mk0 j ≠ 0 ∨ P j))) ∧ (x = 0 → mk = mk0) ∧ (x = 1 → ∃ j, j < 33 ∧ mk j ≠ 0 ∧ mk0 j = 0)
section
variable {fll fvc fil fmc fit gcl gcv gsl gra : Int32} {code cT inp kep mk st tr res : Nat → Int32}
variable {vc ll n : Nat} {K A B C : Nat → Int32}
theorem ps_ymn5 {post : Int32 → SY → Prop} {i : Nat} {w : Int32} {mk0 : Nat → Int32} (H : ps_YH vc ll n K A B C code cT) (hi : i < n)
    (h : ∀ x mk, ps_MI mk0 (fun j => ∃ e, e < 3 ∧ ps_ed K A B C n i w e = nI j) x mk → post x (fll, fvc, fil, fmc, fit, gcl, gcv, gsl, gra, code, cT, inp, kep, mk, st, tr, res)) :
    ∀ d e x mk, e + d = 3 → ps_MI mk0 (fun j => ∃ e', e' < e ∧ ps_ed K A B C n i w e' = nI j) x mk → wY_markNext_5 post (nI i) w fll fvc fil fmc fit gcl gcv gsl gra (d + 1) x (nI e) code cT inp kep mk st tr res := by
  have hn : n ≤ 32 := Nat.le_trans H.2.2.1 H.2.1
  intro d
  induction d with
  | zero =>
    intro e x mk hd hM
    have ee : e = 3 := by omega
    subst ee
    exact br_t (nI_lt (a := 2) (by omega) (by omega)) (And.intro (ps_nar01 hM.1) (h x mk hM))
  | succ d ih =>
    intro e x mk hd hM
    refine br_f (nI_nlt (a := 2) (by omega) (by omega)) (ps_yedge H hi (by omega) ?_)
    obtain ⟨m1, m2, m3, m4, m5⟩ := hM
    rcases ps_ed_le (K := K) (A := A) (B := B) (C := C) (w := w) (e := e) hi (by omega) with he | ⟨s, hs, he⟩
    · rw [he]
      refine br_t (by decide) (nm_r (nI_1 e) ?_)
      refine ih (e + 1) x mk (by omega) ⟨m1, m2, fun j hj => ?_, m4, m5⟩
      rw [m3 j hj]
      constructor
      · rintro (z | ⟨e', a, b⟩)
        · exact Or.inl z
        · exact Or.inr ⟨e', by omega, b⟩
      · rintro (z | ⟨e', a, b⟩)
        · exact Or.inl z
        · by_cases ee : e' = e
          · subst ee; rw [he] at b; exact absurd b (ps_m1_ne (by omega))
          · exact Or.inr ⟨e', by omega, b⟩
    · rw [he]
      have es : (nI s).toNatClampNeg = s := nI_clamp (by omega)
      refine br_f (nI_pos (by omega)) (br_f (nI_nlt (a := 32) (by omega) (by omega)) (And.intro (vp_in_nI (by omega) (by omega)) (br_c (fun c => ?_) (fun c => nm_r (nI_1 e) ?_))))
      · rw [es] at c
        refine And.intro (vp_in_nI (by omega) (by omega)) (nm_r (e' := upd mk s 1) (by rw [es, ps_nar1]) (nm_r (nI_1 e) ?_))
        refine ih (e + 1) 1 _ (by omega) ⟨Or.inr rfl, ps_BB_u m2, fun j hj => ?_, fun z => absurd z (by decide), fun _ => ⟨s, by omega, ?_, ?_⟩⟩
        · by_cases ej : j = s
          · subst ej
            rw [pk_us]
            exact ⟨fun _ => Or.inr ⟨e, by omega, he⟩, fun _ => by decide⟩
          · rw [pk_un ej, m3 j hj]
            constructor
            · rintro (z | ⟨e', a, b⟩)
              · exact Or.inl z
              · exact Or.inr ⟨e', by omega, b⟩
            · rintro (z | ⟨e', a, b⟩)
              · exact Or.inl z
              · by_cases ee : e' = e
                · subst ee; rw [he, nI_eq (by omega) (by omega)] at b; exact absurd b.symm ej
                · exact Or.inr ⟨e', by omega, b⟩
        · rw [pk_us]; decide
        · by_cases z : mk0 s = 0
          · exact z
          · exact absurd c ((m3 s (by omega)).mpr (Or.inl z))
      · rw [es] at c
        refine ih (e + 1) x mk (by omega) ⟨m1, m2, fun j hj => ?_, m4, m5⟩
        rw [m3 j hj]
        constructor
        · rintro (z | ⟨e', a, b⟩)
          · exact Or.inl z
          · exact Or.inr ⟨e', by omega, b⟩
        · rintro (z | ⟨e', a, b⟩)
          · exact Or.inl z
          · by_cases ee : e' = e
            · subst ee; rw [he, nI_eq (by omega) (by omega)] at b; subst b; exact (m3 _ (by omega)).mp c
            · exact Or.inr ⟨e', by omega, b⟩
theorem ps_ymn {post : Int32 → SY → Prop} {i : Nat} {w : Int32} (H : ps_YH vc ll n K A B C code cT) (hi : i < n) (hw : w = 0 ∨ w = 1) (hb : ps_BB mk)
    (h : ∀ x mk', ps_MI mk (fun j => ps_Sx K A B C n w i j) x mk' → post x (fll, fvc, fil, fmc, fit, gcl, gcv, gsl, gra, code, cT, inp, kep, mk', st, tr, res)) : wpY_markNext post (fll, fvc, fil, fmc, fit, gcl, gcv, gsl, gra, code, cT, inp, kep, mk, st, tr, res) (nI i) w := by
  have hn : n ≤ 32 := Nat.le_trans H.2.2.1 H.2.1
  refine Exists.intro 4 (ps_ymn5 H hi (mk0 := mk) (fun x mk' hM => h x mk' ?_) 3 0 0 mk (by omega) ⟨Or.inl rfl, hb, fun j _ => ⟨Or.inl, fun z => z.elim id (fun ⟨_, a, _⟩ => by omega)⟩, fun _ => rfl, fun z => absurd z (by decide)⟩)
  obtain ⟨m1, m2, m3, m4, m5⟩ := hM
  refine ⟨m1, m2, fun j hj => ?_, m4, m5⟩
  rw [m3 j hj]
  have hS : ∀ (hj : j ≤ n), (∃ e, e < 3 ∧ ps_ed K A B C n i w e = nI j) ↔ ps_Sx K A B C n w i j := by
    intro hj'
    rw [← ps_ed_Sx hi (by omega) hj' hw]
    exact ⟨fun ⟨e, a, b⟩ => ⟨e, by omega, b⟩, fun ⟨e, a, b⟩ => ⟨e, by omega, b⟩⟩
  by_cases hjn : j ≤ n
  · exact or_congr Iff.rfl (hS hjn)
  · constructor
    · rintro (z | ⟨e, a, b⟩)
      · exact Or.inl z
      · rcases ps_ed_le (K := K) (A := A) (B := B) (C := C) (w := w) (e := e) hi (by omega) with he | ⟨s, hs, he⟩
        · rw [he] at b; exact absurd b (ps_m1_ne (by omega))
        · rw [he, nI_eq (by omega) (by omega)] at b; omega
    · rintro (z | z)
      · exact Or.inl z
      · have := ps_Sx_le hi (by omega) z; omega
theorem ps_ycm2 {post : SY → Prop} (h : ∀ mk, (∀ j, j < 33 → mk j = 0) → post (fll, fvc, fil, fmc, fit, gcl, gcv, gsl, gra, code, cT, inp, kep, mk, st, tr, res)) :
    ∀ d i mk, i + d = 33 → (∀ j, j < i → mk j = 0) → wY_clearMarks_2 post fll fvc fil fmc fit gcl gcv gsl gra (d + 1) (nI i) code cT inp kep mk st tr res := by
  intro d
  induction d with
  | zero =>
    intro i mk hd hz
    exact br_t (nI_le (a := 33) (by omega) (by omega)) (h mk (fun j hj => hz j (by omega)))
  | succ d ih =>
    intro i mk hd hz
    refine br_f (nI_ge (b := 33) (by omega) (by omega)) (And.intro (vp_in_nI (by omega) (by omega)) (nm_r (e' := upd mk i 0) (by rw [nI_clamp (by omega), ps_nar0]) (nm_r (nI_1 i) ?_)))
    refine ih (i + 1) _ (by omega) (fun j hj => ?_)
    by_cases e : j = i
    · subst e; exact pk_us
    · rw [pk_un e]; exact hz j (by omega)
theorem ps_ycm {post : SY → Prop} (h : ∀ mk, (∀ j, j < 33 → mk j = 0) → post (fll, fvc, fil, fmc, fit, gcl, gcv, gsl, gra, code, cT, inp, kep, mk, st, tr, res)) : wpY_clearMarks post (fll, fvc, fil, fmc, fit, gcl, gcv, gsl, gra, code, cT, inp, kep, mk, st, tr, res) :=
  Exists.intro 34 (ps_ycm2 h 33 0 mk (by omega) (fun j hj => absurd hj (Nat.not_lt_zero j)))
end
/-- the edges of a spread -/
def ps_Es (K A B C : Nat → Int32) (n : Nat) (r stop w : Int32) (q s : Nat) : Prop := q < n ∧ ¬ nI q = stop ∧ ¬ ps_D K A r q ∧ ps_Sx K A B C n w q s
def ps_Mb (mk : Nat → Int32) (q : Nat) : Prop := q < 33 ∧ mk q ≠ 0
noncomputable def ps_Mc (mk : Nat → Int32) : Nat := ps_cn (fun q => ps_b (mk q ≠ 0)) 33
/-- within a round: mk1 at its start -/
def ps_SI (K A B C : Nat → Int32) (n : Nat) (r stop w : Int32) (mk0 mk1 : Nat → Int32) (p : Nat) (x : Int32) (mk : Nat → Int32) : Prop :=
  (x = 0 ∨ x = 1) ∧ ps_BB mk ∧ (∀ j, ps_Mb mk0 j → mk j ≠ 0) ∧ (∀ j, j < 33 → mk j ≠ 0 → ps_Lf (ps_Mb mk0) (ps_Es K A B C n r stop w) j) ∧ (∀ j, j < 33 → mk1 j ≠ 0 → mk j ≠ 0) ∧
  (x = 0 → mk = mk1 ∧ ∀ q s, q < p → mk q ≠ 0 → ps_Es K A B C n r stop w q s → mk s ≠ 0) ∧ (x = 1 → ps_Mc mk1 < ps_Mc mk)
section
variable {n : Nat} {K A B C : Nat → Int32} {r stop w : Int32} {mk0 mk1 mk mk' : Nat → Int32} {p : Nat} {x : Int32}
theorem ps_SI_skip (hp : p < n) (h : ps_SI K A B C n r stop w mk0 mk1 p x mk) (hs : mk p ≠ 0 → ∀ s, ¬ ps_Es K A B C n r stop w p s) : ps_SI K A B C n r stop w mk0 mk1 (p + 1) x mk := by
  obtain ⟨h1, h2, h3, h4, h5, h6, h7⟩ := h
  refine ⟨h1, h2, h3, h4, h5, fun z => ⟨(h6 z).1, fun q s hq hm he => ?_⟩, h7⟩
  by_cases e : q = p
  · subst e; exact absurd he (hs hm s)
  · exact (h6 z).2 q s (by omega) hm he
theorem ps_SI_mark {y : Int32} (hn : n ≤ 32) (hp : p < n) (h : ps_SI K A B C n r stop w mk0 mk1 p x mk) (hm : mk p ≠ 0) (hst : ¬ nI p = stop) (hD : ¬ ps_D K A r p) (m : ps_MI mk (fun j => ps_Sx K A B C n w p j) y mk') :
    (y = 0 → ps_SI K A B C n r stop w mk0 mk1 (p + 1) x mk') ∧ (¬ y = 0 → ps_SI K A B C n r stop w mk0 mk1 (p + 1) 1 mk') := by
  obtain ⟨h1, h2, h3, h4, h5, h6, h7⟩ := h
  obtain ⟨m1, m2, m3, m4, m5⟩ := m
  have up : ∀ j, j < 33 → mk j ≠ 0 → mk' j ≠ 0 := fun j hj z => (m3 j hj).mpr (Or.inl z)
  have snd : ∀ j, j < 33 → mk' j ≠ 0 → ps_Lf (ps_Mb mk0) (ps_Es K A B C n r stop w) j := by
    intro j hj z
    rcases (m3 j hj).mp z with z | z
    · exact h4 j hj z
    · exact ps_Lf_e (h4 p (by omega) hm) ⟨hp, hst, hD, z⟩
  have cle : ps_Mc mk1 ≤ ps_Mc mk := ps_cn_sub 33 (fun i hi z => ps_b_iff.mpr (h5 i hi (ps_b_iff.mp z)))
  refine ⟨fun hy => ?_, fun hy => ?_⟩
  · have e := m4 hy
    subst e
    refine ⟨h1, h2, h3, h4, h5, fun z => ⟨(h6 z).1, fun q s hq hmq he => ?_⟩, h7⟩
    by_cases e : q = p
    · subst e
      have hs := ps_Sx_le hp (by omega) he.2.2.2
      exact (m3 s (by omega)).mpr (Or.inr he.2.2.2)
    · exact (h6 z).2 q s (by omega) hmq he
  · have hy1 : y = 1 := m1.resolve_left hy
    refine ⟨Or.inr rfl, m2, fun j hj => up j hj.1 (h3 j hj), snd, fun j hj z => up j hj (h5 j hj z), fun z => absurd z (by decide), fun _ => ?_⟩
    obtain ⟨j, hj, a, b⟩ := m5 hy1
    have : ps_Mc mk < ps_Mc mk' := ps_cn_slt (P := fun q => ps_b (mk q ≠ 0)) (Q := fun q => ps_b (mk' q ≠ 0)) (i := j) (fun z => (ps_b_iff.mp z) b) (ps_b_iff.mpr a) 33 hj (fun i hi z => ps_b_iff.mpr (up i hi (ps_b_iff.mp z)))
    omega
end
section
variable {fll fvc fil fmc fit gcl gcv gsl gra : Int32} {code cT inp kep mk st tr res : Nat → Int32}
variable {vc ll n : Nat} {K A B C : Nat → Int32}
theorem ps_ysp24 {post : SY → Prop} {J6 : Int32 → Int32 → Int32 → Int32 → Int32 → Int32 → Int32 → Int32 → Int32 → Int32 → Int32 → (Nat → Int32) → (Nat → Int32) → (Nat → Int32) → (Nat → Int32) → (Nat → Int32) → (Nat → Int32) → (Nat → Int32) → (Nat → Int32) → Prop}
    {r stop w : Int32} {t : Nat} {mk0 mk1 : Nat → Int32} (H : ps_YH vc ll n K A B C code cT) (hw : w = 0 ∨ w = 1)
    (hJ : ∀ x mk, ps_SI K A B C n r stop w mk0 mk1 n x mk → J6 x (nI (t + 1)) fll fvc fil fmc fit gcl gcv gsl gra code cT inp kep mk st tr res) :
    ∀ d p x mk, p + d = n → ps_SI K A B C n r stop w mk0 mk1 p x mk → wY_spread_24 post J6 r stop w (nI t) (d + 1) x (nI p) fll fvc fil fmc fit gcl gcv gsl gra code cT inp kep mk st tr res := by
  have hn : n ≤ 32 := Nat.le_trans H.2.2.1 H.2.1
  have hcT := H.2.2.2.1
  intro d
  induction d with
  | zero =>
    intro p x mk hd hI
    have e : p = n := by omega
    subst e
    refine br_t (by rw [hcT]; exact nI_le (Nat.le_refl _) (by omega)) (nm_r (nI_1 t) (hJ x mk hI))
  | succ d ih =>
    intro p x mk hd hI
    have hp : p < n := by omega
    have e : (nI p).toNatClampNeg = p := nI_clamp (by omega)
    refine br_f (by rw [hcT]; exact nI_ge hp (by omega)) (And.intro (vp_in_nI (by omega) (by omega)) (br_c (fun c => nm_r (nI_1 p) ?_) (fun c => br_c (fun c2 => nm_r (nI_1 p) ?_) (fun c2 => ps_ydef H hp (fun hD => br_f (by decide) (nm_r (nI_1 p) ?_)) (fun hD => br_t rfl ?_)))))
    · rw [e] at c
      exact ih (p + 1) x mk (by omega) (ps_SI_skip hp hI (fun z => absurd c z))
    · exact ih (p + 1) x mk (by omega) (ps_SI_skip hp hI (fun _ s z => z.2.1 c2))
    · exact ih (p + 1) x mk (by omega) (ps_SI_skip hp hI (fun _ s z => z.2.2.1 hD))
    · rw [e] at c
      refine ps_ymn H hp hw hI.2.1 (fun y mk' m => ?_)
      have hs := ps_SI_mark hn hp hI c c2 hD m
      exact br_c (fun z => nm_r (nI_1 p) (ih (p + 1) x mk' (by omega) (hs.1 z))) (fun z => nm_r (nI_1 p) (ih (p + 1) 1 mk' (by omega) (hs.2 z)))
theorem ps_ysp6 {post : SY → Prop} {r stop w : Int32} {mk0 : Nat → Int32} (H : ps_YH vc ll n K A B C code cT) (hw : w = 0 ∨ w = 1)
    (h : ∀ mk, ps_BB mk → (∀ j, j < 33 → (mk j ≠ 0 ↔ ps_Lf (ps_Mb mk0) (ps_Es K A B C n r stop w) j)) → post (fll, fvc, fil, fmc, fit, gcl, gcv, gsl, gra, code, cT, inp, kep, mk, st, tr, res)) :
    ∀ d t x mk, t + d = 34 → ps_BB mk → (∀ j, ps_Mb mk0 j → mk j ≠ 0) → (∀ j, j < 33 → mk j ≠ 0 → ps_Lf (ps_Mb mk0) (ps_Es K A B C n r stop w) j) →
      (x = 0 → ∀ q s, q < n → mk q ≠ 0 → ps_Es K A B C n r stop w q s → mk s ≠ 0) → (¬ x = 0 → t ≤ ps_Mc mk) → wY_spread_6 post r stop w (d + 1) x (nI t) fll fvc fil fmc fit gcl gcv gsl gra code cT inp kep mk st tr res := by
  have hn : n ≤ 32 := Nat.le_trans H.2.2.1 H.2.1
  intro d
  induction d with
  | zero =>
    intro t x mk hd h1 h2 h3 h4 h5
    refine br_c (fun c => ?_) (fun c => ?_)
    · refine h mk h1 (fun j hj => ⟨h3 j hj, fun z => ?_⟩)
      exact ps_Lf_i (fun j => mk j ≠ 0) h2 (fun q s hq he => h4 c q s he.1 hq he) z
    · have := h5 c
      have : ps_Mc mk ≤ 33 := ps_cn_le _ _
      omega
  | succ d ih =>
    intro t x mk hd h1 h2 h3 h4 h5
    refine br_c (fun c => ?_) (fun c => ?_)
    · refine h mk h1 (fun j hj => ⟨h3 j hj, fun z => ?_⟩)
      exact ps_Lf_i (fun j => mk j ≠ 0) h2 (fun q s hq he => h4 c q s he.1 hq he) z
    · have h6 := h5 c
      have h7 : ps_Mc mk ≤ 33 := ps_cn_le _ _
      refine br_f (nI_nlt (a := 33) (by omega) (by omega)) (Exists.intro (n + 1) ?_)
      refine ps_ysp24 (mk0 := mk0) (mk1 := mk) H hw (fun x' mk' hI => ?_) n 0 0 mk (by omega) ⟨Or.inl rfl, h1, h2, h3, fun _ _ z => z, fun _ => ⟨rfl, fun q s hq => by omega⟩, fun z => absurd z (by decide)⟩
      obtain ⟨a1, a2, a3, a4, a5, a6, a7⟩ := hI
      refine ih (t + 1) x' mk' (by omega) a2 a3 a4 (fun z q s hq => (a6 z).2 q s hq) (fun z => ?_)
      have := a7 (a1.resolve_left z)
      omega
theorem ps_ysp {post : SY → Prop} {r stop w : Int32} (H : ps_YH vc ll n K A B C code cT) (hw : w = 0 ∨ w = 1) (hb : ps_BB mk)
    (h : ∀ mk', ps_BB mk' → (∀ j, j < 33 → (mk' j ≠ 0 ↔ ps_Lf (ps_Mb mk) (ps_Es K A B C n r stop w) j)) → post (fll, fvc, fil, fmc, fit, gcl, gcv, gsl, gra, code, cT, inp, kep, mk', st, tr, res)) : wpY_spread post (fll, fvc, fil, fmc, fit, gcl, gcv, gsl, gra, code, cT, inp, kep, mk, st, tr, res) r stop w :=
  Exists.intro 35 (ps_ysp6 (mk0 := mk) H hw h 34 0 1 mk (by omega) hb (fun j hj => hj.2) (fun j hj z => ps_Lf_b ⟨hj, z⟩) (fun z => absurd z (by decide)) (fun _ => Nat.zero_le _))
/-- Y's reachesWith -/
theorem ps_yrw {post : Int32 → SY → Prop} {d m : Nat} {r : Int32} (H : ps_YH vc ll n K A B C code cT) (hd : d < n) (hm : m ≤ n)
    (h1 : ps_Rw K A B C n d r m → ∀ mk', post 1 (fll, fvc, fil, fmc, fit, gcl, gcv, gsl, gra, code, cT, inp, kep, mk', st, tr, res)) (h0 : ¬ ps_Rw K A B C n d r m → ∀ mk', post 0 (fll, fvc, fil, fmc, fit, gcl, gcv, gsl, gra, code, cT, inp, kep, mk', st, tr, res)) : wpY_reachesWith post (fll, fvc, fil, fmc, fit, gcl, gcv, gsl, gra, code, cT, inp, kep, mk, st, tr, res) (nI d) r (nI m) := by
  have hn : n ≤ 32 := Nat.le_trans H.2.2.1 H.2.1
  unfold wpY_reachesWith
  refine ps_ydef H hd (fun hD => ?_) (fun hD => ?_)
  rotate_left
  · exact br_t rfl (h0 (fun z => hD z.2.1) mk)
  refine br_f (by decide) ?_
  refine ps_ycm (fun mk1 hz => ?_)
  refine ps_ymn H hd (Or.inl rfl) (fun j hj => Or.inl (hz j hj)) (fun x mk2 hM => ?_)
  refine ps_ysp H (Or.inl rfl) hM.2.1 (fun mk3 hb hL => ?_)
  have em : (nI m).toNatClampNeg = m := nI_clamp (by omega)
  have hr : mk3 m ≠ 0 ↔ ps_Rw K A B C n d r m := by
    rw [hL m (by omega)]
    constructor
    · intro z
      refine ⟨hd, hD, ps_Lf_c (fun q hq => ?_) (fun q s he => ?_) z⟩
      · rcases (hM.2.2.1 q hq.1).mp hq.2 with y | y
        · exact absurd (hz q hq.1) y
        · rcases y with ⟨_, y⟩ | ⟨y, _⟩
          · exact y
          · exact absurd y (by decide)
      · refine ⟨he.1, he.2.2.1, ?_⟩
        rcases he.2.2.2 with ⟨_, y⟩ | ⟨y, _⟩
        · exact y
        · exact absurd y (by decide)
    · rintro ⟨_, _, z⟩
      refine ps_Lf_c (fun q hq => ?_) (fun q s he => ?_) z
      · have := ps_Sr_le hd (by omega) hq
        exact ⟨by omega, (hM.2.2.1 q (by omega)).mpr (Or.inr (Or.inl ⟨rfl, hq⟩))⟩
      · exact ⟨he.1, fun e => ps_m1_ne (s := q) (by have := he.1; omega) e.symm, he.2.1, Or.inl ⟨rfl, he.2.2⟩⟩
  have hb' := hb m (by omega)
  refine And.intro (vp_in_nI (by omega) (by omega)) (And.intro (by rw [em]; exact ps_nar01 hb') ?_)
  rw [em]
  by_cases z : mk3 m = 0
  · rw [z]
    exact h0 (fun y => (hr.mpr y) z) mk3
  · have z1 := hb'.resolve_left z
    rw [z1]
    exact h1 (hr.mp z) mk3
/-- Y's postDom -/
theorem ps_ypd {post : Int32 → SY → Prop} {a b : Nat} (H : ps_YH vc ll n K A B C code cT) (ha : a ≤ n) (hb : b ≤ n)
    (h1 : ps_Pd K A B C n a b → ∀ mk', post 1 (fll, fvc, fil, fmc, fit, gcl, gcv, gsl, gra, code, cT, inp, kep, mk', st, tr, res)) (h0 : ¬ ps_Pd K A B C n a b → ∀ mk', post 0 (fll, fvc, fil, fmc, fit, gcl, gcv, gsl, gra, code, cT, inp, kep, mk', st, tr, res)) : wpY_postDom post (fll, fvc, fil, fmc, fit, gcl, gcv, gsl, gra, code, cT, inp, kep, mk, st, tr, res) (nI a) (nI b) := by
  have hn : n ≤ 32 := Nat.le_trans H.2.2.1 H.2.1
  have hcT := H.2.2.2.1
  have eb : (nI b).toNatClampNeg = b := nI_clamp (by omega)
  refine br_c (fun c => ?_) (fun c => br_c (fun c2 => ?_) (fun c2 => ?_))
  · rw [nI_eq (by omega) (by omega)] at c
    subst c
    refine h1 ⟨ha, fun z => ?_⟩ mk
    have := ps_Lf_i (fun p => p ≠ a) (fun q hq e => hq.2 (by rw [← e]; exact hq.1)) (fun q s _ he => he.2.1) z
    exact this rfl
  · rw [hcT, nI_eq (by omega) (by omega)] at c2
    refine h1 ⟨ha, fun z => ?_⟩ mk
    exact ps_Lf_i (fun _ => False) (fun q hq => hq.2 c2) (fun q s f _ => f) z
  · rw [nI_eq (by omega) (by omega)] at c
    rw [hcT, nI_eq (by omega) (by omega)] at c2
    refine ps_ycm (fun mk1 hz => ?_)
    refine And.intro (vp_in_nI (by omega) (by omega)) (nm_r (e' := upd mk1 b 1) (by rw [eb, ps_nar1]) ?_)
    refine ps_ysp H (Or.inr rfl) (ps_BB_u (fun j hj => Or.inl (hz j hj))) (fun mk3 hbb hL => ?_)
    have en : (nI n).toNatClampNeg = n := nI_clamp (by omega)
    have hr : mk3 n ≠ 0 ↔ ps_NP K A B C n a b := by
      rw [hL n (by omega)]
      have hrev := ps_rev (E := fun q s => q < n ∧ q ≠ a ∧ ps_Sw K A B C n q s) (n := n) (b := b)
      constructor
      · intro z
        have z1 : ps_Lf (fun p => p = b) (fun q s => q < n ∧ q ≠ a ∧ ps_Sw K A B C n q s) n := by
          refine ps_Lf_c (fun q hq => ?_) (fun q s he => ?_) z
          · by_cases e : q = b
            · exact e
            · exact absurd (by rw [pk_un e]; exact hz q hq.1) hq.2
          · refine ⟨he.1, fun e => he.2.1 (by rw [e]), ?_⟩
            rcases he.2.2.2 with ⟨y, _⟩ | ⟨_, y⟩
            · exact absurd y (by decide)
            · exact y
        exact ps_Lf_c (fun q hq => ⟨hq, c2⟩) (fun q s he => he) (hrev.mp z1)
      · intro z
        have z1 := hrev.mpr (ps_Lf_c (fun q hq => hq.1) (fun q s he => he) z)
        refine ps_Lf_c (fun q hq => ?_) (fun q s he => ?_) z1
        · subst hq
          exact ⟨by omega, by rw [pk_us]; decide⟩
        · have hq := he.1
          refine ⟨hq, fun e => he.2.1 ((nI_eq (by omega) (by omega)).mp e), fun hD => ?_, Or.inr ⟨rfl, he.2.2⟩⟩
          rcases hD with y | y | y
          · exact absurd y.2 (by decide)
          · exact absurd y.2 (by decide)
          · obtain ⟨k, hk, hkk, hfa, _⟩ := H.2.2.2.2.2 q hq
            have hs : ps_srt k 1 = 1 := by
              have y1 := y.1
              rw [hkk, show (4 : Int32) = nI 4 from rfl, show (5 : Int32) = nI 5 from rfl, show (11 : Int32) = nI 11 from rfl, nI_eq (by omega) (by omega), nI_eq (by omega) (by omega), nI_ltI (by omega) (by omega)] at y1
              unfold ps_srt
              rw [if_pos rfl, if_neg (by omega), if_neg (by omega), if_neg (by omega)]
            obtain ⟨j, hj, hx⟩ := hfa.1 hs
            have hv := H.1
            exact ps_m1_ne (s := j) (by omega) (by rw [← hx]; exact y.2.symm)
    show vp_in (cT 0) 33 ∧ ((mk3 (cT 0).toNatClampNeg = 0 → _) ∧ (¬ mk3 (cT 0).toNatClampNeg = 0 → _))
    rw [hcT]
    refine And.intro (vp_in_nI (by omega) (by omega)) ?_
    rw [en]
    refine br_c (fun z => h1 ⟨ha, fun y => (hr.mpr y) z⟩ mk3) (fun z => h0 (fun y => y.2 (hr.mp z)) mk3)
end
end
section
/-! ===== Y: controlsLine, reason, keptBelow ===== -/
def ps_Fl (x : Int32) (P : Prop) : Prop := (x = 0 ∧ ¬ P) ∨ (x = 1 ∧ P)
theorem ps_Fl_c {x : Int32} {P Q : Prop} (h : P ↔ Q) (f : ps_Fl x P) : ps_Fl x Q := by rw [← propext h]; exact f
theorem ps_Fl_0 {x : Int32} {P : Prop} (f : ps_Fl x P) (h : x = 0) : ¬ P := by
  rcases f with f | f
  · exact f.2
  · rw [f.1] at h; exact absurd h (by decide)
theorem ps_Fl_1 {x : Int32} {P : Prop} (f : ps_Fl x P) (h : ¬ x = 0) : P := by
  rcases f with f | f
  · exact absurd f.1 h
  · exact f.2
def ps_wv (a b c : Bool) : Int32 := ((if a = true then 1 else 0) + (if b = true then 2 else 0)) + (if c = true then 4 else 0)
theorem ps_wv_0 : ∀ a b c, ps_wv a b c = 0 ↔ (a = false ∧ b = false ∧ c = false) := by decide
noncomputable def ps_kb (kep : Nat → Int32) (i : Nat) : Bool := ps_b (kep i ≠ 0)
theorem ps_kb_t {kep : Nat → Int32} {i : Nat} : ps_kb kep i = true ↔ kep i ≠ 0 := ps_b_iff
/-- data and control reasons as seen from the kept lines -/
def ps_Dt (K A B C : Nat → Int32) (n line : Nat) (var : Int32) (kep : Nat → Int32) (d : Nat) : Prop := ps_Rw K A B C n d var line ∨ ∃ m, m < n ∧ kep m ≠ 0 ∧ ps_Src K A B C n d m
def ps_Cq (K A B C : Nat → Int32) (n : Nat) (kep : Nat → Int32) (d : Nat) : Prop := ∃ m, m < n ∧ kep m ≠ 0 ∧ ps_Ct K A B C n d m
section
variable {fll fvc fil fmc fit gcl gcv gsl gra : Int32} {code cT inp kep mk st tr res : Nat → Int32}
variable {vc ll n : Nat} {K A B C : Nat → Int32}
theorem ps_ycl18 {post : Int32 → SY → Prop} {b m : Nat} (H : ps_YH vc ll n K A B C code cT) (hb : b < n) (hm : m < n) :
    ∀ d e mk, e + d = 3 → ((∃ e', e ≤ e' ∧ e' < 3 ∧ ∃ s, s ≤ n ∧ ps_ed K A B C n b 1 e' = nI s ∧ ps_Pd K A B C n m s) → ∀ mk, post 1 (fll, fvc, fil, fmc, fit, gcl, gcv, gsl, gra, code, cT, inp, kep, mk, st, tr, res)) → ((∀ e', e ≤ e' → e' < 3 → ∀ s, s ≤ n → ps_ed K A B C n b 1 e' = nI s → ¬ ps_Pd K A B C n m s) → ∀ mk, post 0 (fll, fvc, fil, fmc, fit, gcl, gcv, gsl, gra, code, cT, inp, kep, mk, st, tr, res)) → wY_controlsLine_18 post (nI b) (nI m) (d + 1) (nI e) fll fvc fil fmc fit gcl gcv gsl gra code cT inp kep mk st tr res := by
  have hn : n ≤ 32 := Nat.le_trans H.2.2.1 H.2.1
  intro d
  induction d with
  | zero =>
    intro e mk hd h1 h0
    exact br_t (nI_lt (a := 2) (by omega) (by omega)) (h0 (fun e' a b => by omega) mk)
  | succ d ih =>
    intro e mk hd h1 h0
    refine br_f (nI_nlt (a := 2) (by omega) (by omega)) (ps_yedge H hb (by omega) ?_)
    rcases ps_ed_le (K := K) (A := A) (B := B) (C := C) (w := 1) (e := e) hb (by omega) with he | ⟨s, hs, he⟩
    · rw [he]
      refine br_t (by decide) (nm_r (nI_1 e) ?_)
      refine ih (e + 1) mk (by omega) (fun ⟨e', a, z⟩ => h1 ⟨e', by omega, z⟩) (fun z => h0 (fun e' a b' s' hs' he' => ?_))
      by_cases ee : e' = e
      · subst ee; rw [he] at he'; exact absurd he' (ps_m1_ne (by omega))
      · exact z e' (by omega) b' s' hs' he'
    · rw [he]
      refine br_f (nI_pos (by omega)) (ps_ypd H (by omega) hs (fun hP mk' => ?_) (fun hP mk' => ?_))
      · exact br_f (by decide) (h1 ⟨e, by omega, by omega, s, hs, he, hP⟩ mk')
      · refine br_t rfl (nm_r (nI_1 e) ?_)
        refine ih (e + 1) mk' (by omega) (fun ⟨e', a, z⟩ => h1 ⟨e', by omega, z⟩) (fun z => h0 (fun e' a b' s' hs' he' => ?_))
        by_cases ee : e' = e
        · subst ee; rw [he, nI_eq (by omega) (by omega)] at he'; subst he'; exact hP
        · exact z e' (by omega) b' s' hs' he'
theorem ps_ycl {post : Int32 → SY → Prop} {b m : Nat} (H : ps_YH vc ll n K A B C code cT) (hb : b < n) (hm : m < n)
    (h1 : ps_Ct K A B C n b m → ∀ mk', post 1 (fll, fvc, fil, fmc, fit, gcl, gcv, gsl, gra, code, cT, inp, kep, mk', st, tr, res)) (h0 : ¬ ps_Ct K A B C n b m → ∀ mk', post 0 (fll, fvc, fil, fmc, fit, gcl, gcv, gsl, gra, code, cT, inp, kep, mk', st, tr, res)) : wpY_controlsLine post (fll, fvc, fil, fmc, fit, gcl, gcv, gsl, gra, code, cT, inp, kep, mk, st, tr, res) (nI b) (nI m) := by
  have hn : n ≤ 32 := Nat.le_trans H.2.2.1 H.2.1
  have hE : (∃ e', 0 ≤ e' ∧ e' < 3 ∧ ∃ s, s ≤ n ∧ ps_ed K A B C n b 1 e' = nI s ∧ ps_Pd K A B C n m s) ↔ ∃ s, ps_Sw K A B C n b s ∧ ps_Pd K A B C n m s := by
    constructor
    · rintro ⟨e', _, a, s, hs, he, hP⟩
      have := (ps_ed_Sx (w := 1) hb (by omega) hs (Or.inr rfl)).mp ⟨e', by omega, he⟩
      rcases this with ⟨y, _⟩ | ⟨_, y⟩
      · exact absurd y (by decide)
      · exact ⟨s, y, hP⟩
    · rintro ⟨s, hs, hP⟩
      have hle := ps_Sw_le hb (by omega) hs
      obtain ⟨e', a, he⟩ := (ps_ed_Sx (w := 1) hb (by omega) hle (Or.inr rfl)).mpr (Or.inr ⟨rfl, hs⟩)
      exact ⟨e', by omega, by omega, s, hle, he, hP⟩
  have loop : (m = b ∨ ¬ ps_Pd K A B C n m b) → ∀ mk, ∃ n18 : Nat, wY_controlsLine_18 post (nI b) (nI m) n18 0 fll fvc fil fmc fit gcl gcv gsl gra code cT inp kep mk st tr res := by
    intro hc mk
    refine ⟨4, ps_ycl18 H hb hm 3 0 mk (by omega) (fun z => h1 ⟨hE.mp z, hc⟩) (fun z => h0 (fun y => ?_))⟩
    obtain ⟨e', a, b', s, hs, he, hP⟩ := hE.mpr y.1
    exact z e' a b' s hs he hP
  refine br_c (fun c => ?_) (fun c => ?_)
  · rw [nI_eq (by omega) (by omega)] at c
    exact loop (Or.inl c) mk
  · rw [nI_eq (by omega) (by omega)] at c
    refine ps_ypd H (by omega) (by omega) (fun hP mk' => br_f (by decide) (h0 (fun z => z.2.elim c (fun y => y hP)) mk')) (fun hP mk' => br_t rfl (loop (Or.inr hP) mk'))
theorem ps_yr46 {post : Int32 → SY → Prop} {J19 : Int32 → Int32 → Int32 → Int32 → Int32 → Int32 → Int32 → Int32 → Int32 → Int32 → Int32 → Int32 → (Nat → Int32) → (Nat → Int32) → (Nat → Int32) → (Nat → Int32) → (Nat → Int32) → (Nat → Int32) → (Nat → Int32) → (Nat → Int32) → Prop}
    {d m : Nat} {x3 : Int32} {D0 C0 : Prop} (H : ps_YH vc ll n K A B C code cT) (hd : d < n) (hm : m < n) (f3 : ps_Fl x3 C0)
    (hJ : ∀ x2 x3 mk, ps_Fl x2 (D0 ∨ ps_Src K A B C n d m) → ps_Fl x3 (C0 ∨ ps_Ct K A B C n d m) → J19 x2 x3 (nI (m + 1)) fll fvc fil fmc fit gcl gcv gsl gra code cT inp kep mk st tr res) :
    ∀ k r x2 mk, r + k = 10 → ps_Fl x2 (D0 ∨ ∃ q, q < r ∧ ps_U K A B C (nI q) m ∧ ps_Rw K A B C n d (nI q) m) → wY_reason_46 post J19 (nI d) x3 (nI m) (k + 1) x2 (nI r) fll fvc fil fmc fit gcl gcv gsl gra code cT inp kep mk st tr res := by
  intro k
  induction k with
  | zero =>
    intro r x2 mk hk f2
    have f2' : ps_Fl x2 (D0 ∨ ps_Src K A B C n d m) := by
      refine ps_Fl_c ?_ f2
      constructor
      · rintro (z | ⟨q, a, z⟩)
        · exact Or.inl z
        · exact Or.inr ⟨q, by omega, z⟩
      · rintro (z | ⟨q, a, z⟩)
        · exact Or.inl z
        · exact Or.inr ⟨q, by omega, z⟩
    refine br_t (nI_lt (a := 9) (by omega) (by omega)) (br_c (fun c => ?_) (fun c => nm_r (nI_1 m) (hJ x2 x3 mk f2' ?_)))
    · have hC0 := ps_Fl_0 f3 c
      refine ps_ycl H hd hm (fun z mk' => nm_r (nI_1 m) (hJ x2 1 mk' f2' (Or.inr ⟨rfl, Or.inr z⟩))) (fun z mk' => nm_r (nI_1 m) (hJ x2 0 mk' f2' (Or.inl ⟨rfl, fun y => y.elim hC0 z⟩)))
    · have hC0 := ps_Fl_1 f3 c
      rcases f3 with f | f
      · exact absurd f.1 c
      · exact Or.inr ⟨f.1, Or.inl f.2⟩
  | succ k ih =>
    intro r x2 mk hk f2
    refine br_f (nI_nlt (a := 9) (by omega) (by omega)) (br_c (fun c => ?_) (fun c => nm_r (nI_1 r) ?_))
    · have hn2 := ps_Fl_0 f2 c
      refine ps_yus H hm (by omega) (fun hU => br_f (by decide) ?_) (fun hU => br_t rfl (nm_r (nI_1 r) ?_))
      · refine ps_yrw H hd (by omega) (fun hR mk' => nm_r (nI_1 r) ?_) (fun hR mk' => nm_r (nI_1 r) ?_)
        · exact ih (r + 1) 1 mk' (by omega) (Or.inr ⟨rfl, Or.inr ⟨r, by omega, hU, hR⟩⟩)
        · refine ih (r + 1) 0 mk' (by omega) (Or.inl ⟨rfl, fun z => ?_⟩)
          rcases z with z | ⟨q, a, z⟩
          · exact hn2 (Or.inl z)
          · by_cases e : q = r
            · subst e; exact hR z.2
            · exact hn2 (Or.inr ⟨q, by omega, z⟩)
      · refine ih (r + 1) x2 mk (by omega) (Or.inl ⟨c, fun z => ?_⟩)
        rcases z with z | ⟨q, a, z⟩
        · exact hn2 (Or.inl z)
        · by_cases e : q = r
          · subst e; exact hU z.1
          · exact hn2 (Or.inr ⟨q, by omega, z⟩)
    · refine ih (r + 1) x2 mk (by omega) ?_
      rcases f2 with f | ⟨f, g⟩
      · exact absurd f.1 c
      · refine Or.inr ⟨f, ?_⟩
        rcases g with g | ⟨q, a, g⟩
        · exact Or.inl g
        · exact Or.inr ⟨q, by omega, g⟩
theorem ps_yr19 {post : Int32 → SY → Prop} {d cl : Nat} (H : ps_YH vc ll n K A B C code cT) (hd : d < n) (hcl : cl < n)
    (h : ∀ mk, post (ps_wv (ps_b (d = cl)) (ps_b (ps_Dt K A B C n cl gcv kep d)) (ps_b (ps_Cq K A B C n kep d))) (fll, fvc, fil, fmc, fit, nI cl, gcv, gsl, gra, code, cT, inp, kep, mk, st, tr, res)) :
    ∀ k m x2 x3 mk, m + k = n → ps_Fl x2 (ps_Rw K A B C n d gcv cl ∨ ∃ j, j < m ∧ kep j ≠ 0 ∧ ps_Src K A B C n d j) → ps_Fl x3 (∃ j, j < m ∧ kep j ≠ 0 ∧ ps_Ct K A B C n d j) → wY_reason_19 post (nI d) (k + 1) x2 x3 (nI m) fll fvc fil fmc fit (nI cl) gcv gsl gra code cT inp kep mk st tr res := by
  have hn : n ≤ 32 := Nat.le_trans H.2.2.1 H.2.1
  have hcT := H.2.2.2.1
  intro k
  induction k with
  | zero =>
    intro m x2 x3 mk hk f2 f3
    have e : m = n := by omega
    subst e
    have h' := h mk
    unfold ps_wv at h'
    have f2' : ps_Fl x2 (ps_Dt K A B C m cl gcv kep d) := f2
    have f3' : ps_Fl x3 (ps_Cq K A B C m kep d) := f3
    have a2 : ∀ z0, post (z0 + (if ps_b (ps_Dt K A B C m cl gcv kep d) = true then 2 else 0) + (if ps_b (ps_Cq K A B C m kep d) = true then 4 else 0)) (fll, fvc, fil, fmc, fit, nI cl, gcv, gsl, gra, code, cT, inp, kep, mk, st, tr, res) → wY_reason_115 post x2 x3 z0 fll fvc fil fmc fit (nI cl) gcv gsl gra code cT inp kep mk st tr res := by
      intro z0 hz
      have b3 : ∀ z1, post (z0 + z1 + (if ps_b (ps_Cq K A B C m kep d) = true then 4 else 0)) (fll, fvc, fil, fmc, fit, nI cl, gcv, gsl, gra, code, cT, inp, kep, mk, st, tr, res) → wY_reason_124 post x3 z1 z0 fll fvc fil fmc fit (nI cl) gcv gsl gra code cT inp kep mk st tr res := by
        intro z1 hz1
        refine br_c (fun c => ?_) (fun c => ?_)
        · rw [if_neg (fun z => (ps_Fl_0 f3' c) (ps_b_iff.mp z))] at hz1; exact hz1
        · rw [if_pos (ps_b_iff.mpr (ps_Fl_1 f3' c))] at hz1; exact hz1
      refine br_c (fun c => b3 0 ?_) (fun c => b3 2 ?_)
      · rw [if_neg (fun z => (ps_Fl_0 f2' c) (ps_b_iff.mp z))] at hz; exact hz
      · rw [if_pos (ps_b_iff.mpr (ps_Fl_1 f2' c))] at hz; exact hz
    refine br_t (by rw [hcT]; exact nI_le (Nat.le_refl _) (by omega)) (br_c (fun c => a2 1 ?_) (fun c => a2 0 ?_))
    · rw [nI_eq (by omega) (by omega)] at c
      rw [if_pos (ps_b_iff.mpr c)] at h'; exact h'
    · rw [nI_eq (by omega) (by omega)] at c
      rw [if_neg (fun z => c (ps_b_iff.mp z))] at h'; exact h'
  | succ k ih =>
    intro m x2 x3 mk hk f2 f3
    have hm : m < n := by omega
    have e : (nI m).toNatClampNeg = m := nI_clamp (by omega)
    refine br_f (by rw [hcT]; exact nI_ge hm (by omega)) (And.intro (vp_in_nI (by omega) (by omega)) (br_c (fun c => nm_r (nI_1 m) ?_) (fun c => Exists.intro 11 ?_)))
    · rw [e] at c
      refine ih (m + 1) x2 x3 mk (by omega) (ps_Fl_c ?_ f2) (ps_Fl_c ?_ f3)
      · constructor
        · rintro (z | ⟨j, a, z⟩)
          · exact Or.inl z
          · exact Or.inr ⟨j, by omega, z⟩
        · rintro (z | ⟨j, a, z⟩)
          · exact Or.inl z
          · by_cases ej : j = m
            · subst ej; exact absurd c z.1
            · exact Or.inr ⟨j, by omega, z⟩
      · constructor
        · rintro ⟨j, a, z⟩; exact ⟨j, by omega, z⟩
        · rintro ⟨j, a, z⟩
          by_cases ej : j = m
          · subst ej; exact absurd c z.1
          · exact ⟨j, by omega, z⟩
    · rw [e] at c
      refine ps_yr46 (gcl := nI cl) H hd hm f3 (fun x2' x3' mk' g2 g3 => ?_) 10 0 x2 mk (by omega) (ps_Fl_c ⟨Or.inl, fun z => z.elim id (fun ⟨q, a, _⟩ => by omega)⟩ f2)
      refine ih (m + 1) x2' x3' mk' (by omega) (ps_Fl_c ?_ g2) (ps_Fl_c ?_ g3)
      · constructor
        · rintro ((z | ⟨j, a, z⟩) | z)
          · exact Or.inl z
          · exact Or.inr ⟨j, by omega, z⟩
          · exact Or.inr ⟨m, by omega, c, z⟩
        · rintro (z | ⟨j, a, z⟩)
          · exact Or.inl (Or.inl z)
          · by_cases ej : j = m
            · subst ej; exact Or.inr z.2
            · exact Or.inl (Or.inr ⟨j, by omega, z⟩)
      · constructor
        · rintro (⟨j, a, z⟩ | z)
          · exact ⟨j, by omega, z⟩
          · exact ⟨m, by omega, c, z⟩
        · rintro ⟨j, a, z⟩
          by_cases ej : j = m
          · subst ej; exact Or.inr z.2
          · exact Or.inl ⟨j, by omega, z⟩
theorem ps_yrs {post : Int32 → SY → Prop} {d cl : Nat} (H : ps_YH vc ll n K A B C code cT) (hd : d < n) (hcl : cl < n)
    (h : ∀ mk', post (ps_wv (ps_b (d = cl)) (ps_b (ps_Dt K A B C n cl gcv kep d)) (ps_b (ps_Cq K A B C n kep d))) (fll, fvc, fil, fmc, fit, nI cl, gcv, gsl, gra, code, cT, inp, kep, mk', st, tr, res)) : wpY_reason post (fll, fvc, fil, fmc, fit, nI cl, gcv, gsl, gra, code, cT, inp, kep, mk, st, tr, res) (nI d) := by
  unfold wpY_reason
  refine ps_yrw H hd (by omega) (fun hR mk' => ?_) (fun hR mk' => ?_)
  · refine Exists.intro (n + 1) ?_
    exact ps_yr19 H hd hcl h n 0 1 0 mk' (by omega) (Or.inr ⟨rfl, Or.inl hR⟩) (Or.inl ⟨rfl, fun ⟨j, a, _⟩ => by omega⟩)
  · refine Exists.intro (n + 1) ?_
    exact ps_yr19 H hd hcl h n 0 0 0 mk' (by omega) (Or.inl ⟨rfl, fun z => z.elim hR (fun ⟨j, a, _⟩ => by omega)⟩) (Or.inl ⟨rfl, fun ⟨j, a, _⟩ => by omega⟩)
theorem ps_ykb4 {post : Int32 → Prop} {x : Nat} (hx : x ≤ 32) (h : post (nI (ps_cn (ps_kb kep) x))) :
    ∀ d i, i + d = x → wY_keptBelow_4 post (nI x) fll fvc fil fmc fit gcl gcv gsl gra code cT inp kep mk st tr res (d + 1) (nI (ps_cn (ps_kb kep) i)) (nI i) := by
  intro d
  induction d with
  | zero =>
    intro i hd
    have e : i = x := by omega
    subst e
    exact br_t (nI_le (Nat.le_refl _) (by omega)) h
  | succ d ih =>
    intro i hd
    have e : (nI i).toNatClampNeg = i := nI_clamp (by omega)
    refine br_f (nI_ge (by omega) (by omega)) (br_f (nI_ge (b := 32) (by omega) (by omega)) (And.intro (vp_in_nI (by omega) (by omega)) (br_c (fun c => nm_r (nI_1 i) ?_) (fun c => nm_r (nI_1 _) (nm_r (nI_1 i) ?_)))))
    · rw [e] at c
      rw [← ps_cn_f (P := ps_kb kep) (n := i) (fun z => (ps_kb_t.mp z) c)]
      exact ih (i + 1) (by omega)
    · rw [e] at c
      rw [← ps_cn_t (P := ps_kb kep) (n := i) (ps_kb_t.mpr c)]
      exact ih (i + 1) (by omega)
theorem ps_ykb {post : Int32 → Prop} {x : Nat} (hx : x ≤ 32) (h : post (nI (ps_cn (ps_kb kep) x))) : wpY_keptBelow post (fll, fvc, fil, fmc, fit, gcl, gcv, gsl, gra, code, cT, inp, kep, mk, st, tr, res) (nI x) :=
  Exists.intro (x + 1) (ps_ykb4 hx h x 0 (by omega))
end
end
section
/-! ===== Y: slice ===== -/
/-- the closure's rounds: kep1 at the round's start -/
def ps_TI (K A B C : Nat → Int32) (n line : Nat) (var : Int32) (kep1 : Nat → Int32) (p : Nat) (x : Int32) (kep : Nat → Int32) : Prop :=
  (x = 0 ∨ x = 1) ∧ kep line ≠ 0 ∧ (∀ j, j < 32 → kep j ≠ 0 → ps_Kp K A B C n line var j) ∧ (∀ j, kep1 j ≠ 0 → kep j ≠ 0) ∧
  (x = 0 → kep = kep1 ∧ ∀ j, j < p → (ps_Dt K A B C n line var kep j ∨ ps_Cq K A B C n kep j) → kep j ≠ 0) ∧ (x = 1 → ps_cn (ps_kb kep1) 32 < ps_cn (ps_kb kep) 32)
section
variable {K A B C : Nat → Int32} {n line p : Nat} {var x : Int32} {kep1 kep : Nat → Int32}
theorem ps_TI_skip (h : ps_TI K A B C n line var kep1 p x kep) (hk : (ps_Dt K A B C n line var kep p ∨ ps_Cq K A B C n kep p) → kep p ≠ 0) : ps_TI K A B C n line var kep1 (p + 1) x kep := by
  obtain ⟨h1, h2, h3, h4, h5, h6⟩ := h
  refine ⟨h1, h2, h3, h4, fun z => ⟨(h5 z).1, fun j hj hr => ?_⟩, h6⟩
  by_cases e : j = p
  · subst e; exact hk hr
  · exact (h5 z).2 j (by omega) hr
theorem ps_TI_put (hn : n ≤ 32) (hp : p < n) (h : ps_TI K A B C n line var kep1 p x kep) (h0 : kep p = 0) (hr : p = line ∨ ps_Dt K A B C n line var kep p ∨ ps_Cq K A B C n kep p) : ps_TI K A B C n line var kep1 (p + 1) 1 (upd kep p 1) := by
  obtain ⟨h1, h2, h3, h4, h5, h6⟩ := h
  have up : ∀ j, kep j ≠ 0 → (upd kep p 1) j ≠ 0 := by
    intro j hj
    by_cases e : j = p
    · subst e; exact absurd h0 hj
    · rw [pk_un e]; exact hj
  have kp : ps_Kp K A B C n line var p := by
    rcases hr with hr | hr | hr
    · exact ps_Lf_b (Or.inl hr)
    · rcases hr with hr | ⟨m, hm, hk, hs⟩
      · exact ps_Lf_b (Or.inr hr)
      · exact ps_Lf_e (h3 m (by omega) hk) ⟨hm, hp, Or.inl hs⟩
    · obtain ⟨m, hm, hk, hs⟩ := hr
      exact ps_Lf_e (h3 m (by omega) hk) ⟨hm, hp, Or.inr hs⟩
  refine ⟨Or.inr rfl, up line h2, fun j hj hk => ?_, fun j hj => up j (h4 j hj), fun z => absurd z (by decide), fun _ => ?_⟩
  · by_cases e : j = p
    · subst e; exact kp
    · rw [pk_un e] at hk; exact h3 j hj hk
  · have c1 : ps_cn (ps_kb kep1) 32 ≤ ps_cn (ps_kb kep) 32 := ps_cn_sub 32 (fun i _ z => ps_kb_t.mpr (h4 i (ps_kb_t.mp z)))
    have c2 : ps_cn (ps_kb kep) 32 < ps_cn (ps_kb (upd kep p 1)) 32 := ps_cn_slt (i := p) (fun z => (ps_kb_t.mp z) h0) (ps_kb_t.mpr (by rw [pk_us]; decide)) 32 (by omega) (fun i _ z => ps_kb_t.mpr (up i (ps_kb_t.mp z)))
    omega
end
/-- Y's kept lines are the least set -/
def ps_YK (K A B C : Nat → Int32) (n line : Nat) (var : Int32) (kep : Nat → Int32) : Prop := ∀ j, j < 32 → (kep j ≠ 0 ↔ ps_Kp K A B C n line var j)
/-- the slice's code: lines below i are written -/
def ps_WY (Kb : Nat → Bool) (n : Nat) (K A B C code code' : Nat → Int32) (i : Nat) : Prop :=
  (∀ q, (q < 128 ∨ 128 + 4 * ps_cn Kb i ≤ q) → code' q = code q) ∧ (∀ m, m < i → Kb m = true → ∀ p, p ≤ 3 → code' (128 + 4 * ps_cn Kb m + p) = ps_sl Kb n (K m) (ps_fl K A B C p m) p)
/-- and of line i the fields below p -/
def ps_WP (Kb : Nat → Bool) (n : Nat) (K A B C code code' : Nat → Int32) (i p : Nat) : Prop :=
  (∀ q, (q < 128 ∨ 128 + 4 * ps_cn Kb i + p ≤ q) → code' q = code q) ∧ (∀ m, m < i → Kb m = true → ∀ p, p ≤ 3 → code' (128 + 4 * ps_cn Kb m + p) = ps_sl Kb n (K m) (ps_fl K A B C p m) p) ∧
  (∀ s, s < p → code' (128 + 4 * ps_cn Kb i + s) = ps_sl Kb n (K i) (ps_fl K A B C s i) s)
theorem ps_WP_put {Kb : Nat → Bool} {n i p : Nat} {K A B C code code' : Nat → Int32} (h : ps_WP Kb n K A B C code code' i p) :
    ps_WP Kb n K A B C code (upd code' (128 + 4 * ps_cn Kb i + p) (ps_sl Kb n (K i) (ps_fl K A B C p i) p)) i (p + 1) := by
  obtain ⟨h1, h2, h3⟩ := h
  refine ⟨fun q hq => ?_, fun m hm hk s hs => ?_, fun s hs => ?_⟩
  · rw [pk_un (by omega)]; exact h1 q (by omega)
  · have := ps_cn_mon Kb (show m + 1 ≤ i by omega)
    rw [ps_cn_t hk] at this
    rw [pk_un (by omega)]; exact h2 m hm hk s hs
  · by_cases e : s = p
    · subst e; exact pk_us
    · rw [pk_un (by omega)]; exact h3 s (by omega)
theorem ps_WP_end {Kb : Nat → Bool} {n i : Nat} {K A B C code code' : Nat → Int32} (hk : Kb i = true) (h : ps_WP Kb n K A B C code code' i 4) : ps_WY Kb n K A B C code code' (i + 1) := by
  obtain ⟨h1, h2, h3⟩ := h
  refine ⟨fun q hq => ?_, fun m hm hkm p hp => ?_⟩
  · rw [ps_cn_t hk] at hq; exact h1 q (by omega)
  · by_cases e : m = i
    · subst e; exact h3 p (by omega)
    · exact h2 m (by omega) hkm p hp
theorem ps_YH_c {vc ll n : Nat} {K A B C code code' cT : Nat → Int32} (H : ps_YH vc ll n K A B C code cT) (h : ∀ q, q < 128 → code' q = code q) : ps_YH vc ll n K A B C code' cT := by
  obtain ⟨h1, h2, h3, h4, h5, h6⟩ := H
  refine ⟨h1, h2, h3, h4, fun i hi => ?_, h6⟩
  rw [h _ (by omega), h _ (by omega), h _ (by omega), h _ (by omega)]
  exact h5 i hi
section
variable {fll fvc fil fmc fit gcl gcv gsl gra : Int32} {code cT inp kep mk st tr res : Nat → Int32}
variable {vc ll n : Nat} {K A B C : Nat → Int32}
theorem ps_ys219 {post : Int32 → SY → Prop} {J153 J180 : Int32 → (Nat → Int32) → (Nat → Int32) → (Nat → Int32) → (Nat → Int32) → (Nat → Int32) → (Nat → Int32) → (Nat → Int32) → (Nat → Int32) → Prop}
    {i p k q : Nat} {x z0 : Int32} (hq : q ≤ 16) (hn : n ≤ 32) (hk : k ≤ 31) (hp : p ≤ 3) (hz : ps_srt q p = 3 → z0 = nI (ps_T x n))
    (h : J180 (nI (p + 1)) (upd code (128 + 4 * k + p) (if ps_srt q p = 3 then nI (ps_cn (ps_kb kep) (ps_T x n)) else x)) cT inp kep mk st tr res) :
    wY_slice_219 post J153 J180 (nI n) (nI i) (nI k) (nI q) (nI p) x z0 fll fvc fil fmc fit gcl gcv gsl gra code cT inp kep mk st tr res := by
  have e : (128 + nI k * 4) + nI p = nI (128 + 4 * k + p) := by
    rw [show (4 : Int32) = nI 4 from rfl, show (128 : Int32) = nI 128 from rfl, pk_mul, nI_add, nI_add]
    exact congrArg nI (by omega)
  have hin : vp_in ((128 + nI k * 4) + nI p) 256 := by rw [e]; exact vp_in_nI (by omega) (by omega)
  have ec : ((128 + nI k * 4) + nI p).toNatClampNeg = 128 + 4 * k + p := by rw [e]; exact nI_clamp (by omega)
  have hc : ps_ch (ps_srt q p) = 84 ↔ ps_srt q p = 3 := by
    have hle := ps_srt_le q p
    have : ∀ s, s < 4 → (ps_ch s = 84 ↔ s = 3) := by decide
    exact this _ (by omega)
  refine ps_ysrt hq hp (br_c (fun c => ?_) (fun c => ?_))
  · have c3 := hc.mp c
    rw [if_pos c3] at h
    rw [hz c3]
    refine ps_ykb (Nat.le_trans (ps_T_le x (by omega)) hn) (And.intro hin (nm_r (e' := upd code (128 + 4 * k + p) (nI (ps_cn (ps_kb kep) (ps_T x n)))) (by rw [ec]) (nm_r (nI_1 p) h)))
  · rw [if_neg (fun z => c (hc.mpr z))] at h
    exact And.intro hin (nm_r (e' := upd code (128 + 4 * k + p) x) (by rw [ec]) (nm_r (nI_1 p) h))
theorem ps_ys180 {post : Int32 → SY → Prop} {J153 : Int32 → (Nat → Int32) → (Nat → Int32) → (Nat → Int32) → (Nat → Int32) → (Nat → Int32) → (Nat → Int32) → (Nat → Int32) → (Nat → Int32) → Prop}
    {code0 : Nat → Int32} {i : Nat} (H : ps_YH vc ll n K A B C code0 cT) (hi : i < n) (hk : kep i ≠ 0)
    (hJ : ∀ code, ps_WY (ps_kb kep) n K A B C code0 code (i + 1) → J153 (nI (i + 1)) code cT inp kep mk st tr res) :
    ∀ d p code, p + d = 4 → ps_WP (ps_kb kep) n K A B C code0 code i p → wY_slice_180 post J153 (nI n) (nI i) (nI (ps_cn (ps_kb kep) i)) (K i) fll fvc fil fmc fit gcl gcv gsl gra (d + 1) (nI p) code cT inp kep mk st tr res := by
  have hn : n ≤ 32 := Nat.le_trans H.2.2.1 H.2.1
  have hll := H.2.1
  have e : (nI i).toNatClampNeg = i := nI_clamp (by omega)
  have hcn := ps_cn_le (ps_kb kep) i
  obtain ⟨q, hq, hkq, hfa, hfb, hfc⟩ := H.2.2.2.2.2 i hi
  have hfl : ∀ p, p ≤ 3 → ps_srt q p = 3 → ∃ j, j ≤ ll ∧ ps_fl K A B C p i = nI j := by
    intro p hp hs
    have h4 : p = 0 ∨ p = 1 ∨ p = 2 ∨ p = 3 := by omega
    rcases h4 with rfl | rfl | rfl | rfl
    · exact absurd hs (by rw [show ps_srt q 0 = 0 from rfl]; decide)
    · exact hfa.2.2 hs
    · exact hfb.2.2 hs
    · exact hfc.2.2 hs
  intro d
  induction d with
  | zero =>
    intro p code hd hW
    have ep : p = 4 := by omega
    subst ep
    refine And.intro (vp_in_nI (by omega) (by omega)) (br_f (by rw [e]; exact hk) (br_t (nI_lt (a := 3) (by omega) (by omega)) (nm_r (nI_1 i) (hJ code (ps_WP_end (ps_kb_t.mpr hk) hW)))))
  | succ d ih =>
    intro p code hd hW
    have H' := ps_YH_c H (fun q hq => hW.1 q (Or.inl hq))
    refine And.intro (vp_in_nI (by omega) (by omega)) (br_f (by rw [e]; exact hk) (br_f (nI_nlt (a := 3) (by omega) (by omega)) (ps_yfld H' hi (by omega) ?_)))
    have hput := ps_WP_put hW
    have hs : ps_sl (ps_kb kep) n (K i) (ps_fl K A B C p i) p = (if ps_srt q p = 3 then nI (ps_cn (ps_kb kep) (ps_T (ps_fl K A B C p i) n)) else ps_fl K A B C p i) := by
      unfold ps_sl
      rw [hkq, nI_clamp (by omega)]
    rw [hs] at hput
    have go : ∀ z0, (ps_srt q p = 3 → z0 = nI (ps_T (ps_fl K A B C p i) n)) → wY_slice_219 post J153 (wY_slice_180 post J153 (nI n) (nI i) (nI (ps_cn (ps_kb kep) i)) (K i) fll fvc fil fmc fit gcl gcv gsl gra (d + 1)) (nI n) (nI i) (nI (ps_cn (ps_kb kep) i)) (K i) (nI p) (ps_fl K A B C p i) z0 fll fvc fil fmc fit gcl gcv gsl gra code cT inp kep mk st tr res := by
      intro z0 hz
      have h1 := ih (p + 1) _ (by omega) hput
      rw [hkq] at h1 ⊢
      exact ps_ys219 hq hn (by omega) (by omega) hz h1
    refine br_c (fun c => go _ (fun _ => ?_)) (fun c => go _ (fun z => ?_))
    · unfold ps_T; rw [if_pos c]
    · obtain ⟨j, hj, hx⟩ := hfl p (by omega) z
      exact (ps_T_nI (j := j) (by omega) hx c).symm
theorem ps_ys153 {post : Int32 → SY → Prop} {code0 : Nat → Int32} (H : ps_YH vc ll n K A B C code0 cT)
    (hp : ∀ code, ps_WY (ps_kb kep) n K A B C code0 code n → post (nI (ps_cn (ps_kb kep) n)) (fll, fvc, fil, fmc, fit, gcl, gcv, 1, 0, code, upd cT 1 (nI (ps_cn (ps_kb kep) n)), inp, kep, mk, st, tr, res)) :
    ∀ d i code, i + d = n → ps_WY (ps_kb kep) n K A B C code0 code i → wY_slice_153 post (nI n) fll fvc fil fmc fit gcl gcv gsl gra (d + 1) (nI i) code cT inp kep mk st tr res := by
  have hn : n ≤ 32 := Nat.le_trans H.2.2.1 H.2.1
  intro d
  induction d with
  | zero =>
    intro i code hd hW
    have e : i = n := by omega
    subst e
    refine br_t (nI_le (Nat.le_refl _) (by omega)) (ps_ykb hn (nm_e ?_))
    exact hp code hW
  | succ d ih =>
    intro i code hd hW
    have hi : i < n := by omega
    have e : (nI i).toNatClampNeg = i := nI_clamp (by omega)
    have H' := ps_YH_c H (fun q hq => hW.1 q (Or.inl hq))
    refine br_f (nI_ge hi (by omega)) (ps_ykb (by omega) (ps_yfld (p := 0) H' hi (by omega) ?_))
    by_cases hk : kep i = 0
    · refine Exists.intro 1 (And.intro (vp_in_nI (by omega) (by omega)) (br_t (by rw [e]; exact hk) (nm_r (nI_1 i) ?_)))
      have hf : ¬ ps_kb kep i = true := fun z => (ps_kb_t.mp z) hk
      refine ih (i + 1) code (by omega) ⟨fun q hq => ?_, fun m hm hkm p hp' => ?_⟩
      · rw [ps_cn_f hf] at hq; exact hW.1 q hq
      · by_cases em : m = i
        · subst em; exact absurd hkm hf
        · exact hW.2 m (by omega) hkm p hp'
    · refine Exists.intro 5 (ps_ys180 H hi hk (fun code' hW' => ih (i + 1) code' (by omega) hW') 4 0 code (by omega) ⟨fun q hq => hW.1 q (by omega), hW.2, fun s hs => by omega⟩)
theorem ps_ys102 {post : Int32 → SY → Prop} {J84 : Int32 → Int32 → Int32 → Int32 → Int32 → Int32 → Int32 → Int32 → Int32 → Int32 → Int32 → (Nat → Int32) → (Nat → Int32) → (Nat → Int32) → (Nat → Int32) → (Nat → Int32) → (Nat → Int32) → (Nat → Int32) → (Nat → Int32) → Prop}
    {t line : Nat} {kep1 : Nat → Int32} (H : ps_YH vc ll n K A B C code cT) (hli : line < n)
    (hJ : ∀ x kep mk, ps_TI K A B C n line gcv kep1 n x kep → J84 x (nI (t + 1)) fll fvc fil fmc fit (nI line) gcv gsl gra code cT inp kep mk st tr res) :
    ∀ d p x kep mk, p + d = n → ps_TI K A B C n line gcv kep1 p x kep → wY_slice_102 post J84 (nI n) (nI t) (d + 1) x (nI p) fll fvc fil fmc fit (nI line) gcv gsl gra code cT inp kep mk st tr res := by
  have hn : n ≤ 32 := Nat.le_trans H.2.2.1 H.2.1
  intro d
  induction d with
  | zero =>
    intro p x kep mk hd hI
    have e : p = n := by omega
    subst e
    exact br_t (nI_le (Nat.le_refl _) (by omega)) (nm_r (nI_1 t) (hJ x kep mk hI))
  | succ d ih =>
    intro p x kep mk hd hI
    have hp : p < n := by omega
    have e : (nI p).toNatClampNeg = p := nI_clamp (by omega)
    refine br_f (nI_ge hp (by omega)) (And.intro (vp_in_nI (by omega) (by omega)) (br_c (fun c => ?_) (fun c => nm_r (nI_1 p) ?_)))
    · rw [e] at c
      refine ps_yrs H hp hli (fun mk' => ?_)
      refine br_c (fun z => nm_r (nI_1 p) ?_) (fun z => And.intro (vp_in_nI (by omega) (by omega)) (nm_r (e' := upd kep p 1) (by rw [e, ps_nar1]) (nm_r (nI_1 p) ?_)))
      · have z2 := (ps_wv_0 _ _ _).mp z
        exact ih (p + 1) x kep mk' (by omega) (ps_TI_skip hI (fun y => by
          rcases y with y | y
          · rw [ps_b_iff.mpr y] at z2; exact absurd z2.2.1 (by decide)
          · rw [ps_b_iff.mpr y] at z2; exact absurd z2.2.2 (by decide)))
      · refine ih (p + 1) 1 _ mk' (by omega) (ps_TI_put hn hp hI c ?_)
        by_cases y1 : p = line
        · exact Or.inl y1
        · by_cases y2 : ps_Dt K A B C n line gcv kep p
          · exact Or.inr (Or.inl y2)
          · by_cases y3 : ps_Cq K A B C n kep p
            · exact Or.inr (Or.inr y3)
            · exact absurd ((ps_wv_0 _ _ _).mpr ⟨ps_b_f.mpr y1, ps_b_f.mpr y2, ps_b_f.mpr y3⟩) z
    · rw [e] at c
      exact ih (p + 1) x kep mk (by omega) (ps_TI_skip hI (fun _ => c))
theorem ps_ys84 {post : Int32 → SY → Prop} {line : Nat} (H : ps_YH vc ll n K A B C code cT) (hli : line < n)
    (hp : ∀ code' kep mk, ps_YK K A B C n line gcv kep → ps_WY (ps_kb kep) n K A B C code code' n → post (nI (ps_cn (ps_kb kep) n)) (fll, fvc, fil, fmc, fit, nI line, gcv, 1, 0, code', upd cT 1 (nI (ps_cn (ps_kb kep) n)), inp, kep, mk, st, tr, res)) :
    ∀ d t x kep mk, t + d = 33 → kep line ≠ 0 → (∀ j, j < 32 → kep j ≠ 0 → ps_Kp K A B C n line gcv j) →
      (x = 0 → ∀ j, j < n → (ps_Dt K A B C n line gcv kep j ∨ ps_Cq K A B C n kep j) → kep j ≠ 0) → (¬ x = 0 → t ≤ ps_cn (ps_kb kep) 32) → wY_slice_84 post (nI n) (d + 1) x (nI t) fll fvc fil fmc fit (nI line) gcv gsl gra code cT inp kep mk st tr res := by
  have hn : n ≤ 32 := Nat.le_trans H.2.2.1 H.2.1
  have fin : ∀ kep mk, kep line ≠ 0 → (∀ j, j < 32 → kep j ≠ 0 → ps_Kp K A B C n line gcv j) → (∀ j, j < n → (ps_Dt K A B C n line gcv kep j ∨ ps_Cq K A B C n kep j) → kep j ≠ 0) → ∃ n153 : Nat, wY_slice_153 post (nI n) fll fvc fil fmc fit (nI line) gcv gsl gra n153 0 code cT inp kep mk st tr res := by
    intro kep mk h1 h2 h3
    refine ⟨n + 1, ps_ys153 (gcl := nI line) H (fun code' hW => hp code' kep mk (fun j hj => ⟨h2 j hj, fun z => ?_⟩) hW) n 0 code (by omega) ⟨fun _ _ => rfl, fun m hm => by omega⟩⟩
    refine ps_Lf_i (fun j => kep j ≠ 0) (fun q hq => ?_) (fun m s hm he => ?_) z
    · rcases hq with rfl | hq
      · exact h1
      · exact h3 q hq.1 (Or.inl (Or.inl hq))
    · rcases he.2.2 with y | y
      · exact h3 s he.2.1 (Or.inl (Or.inr ⟨m, he.1, hm, y⟩))
      · exact h3 s he.2.1 (Or.inr ⟨m, he.1, hm, y⟩)
  intro d
  induction d with
  | zero =>
    intro t x kep mk hd h1 h2 h3 h4
    refine br_c (fun c => fin kep mk h1 h2 (h3 c)) (fun c => ?_)
    have := h4 c
    have := ps_cn_le (ps_kb kep) 32
    omega
  | succ d ih =>
    intro t x kep mk hd h1 h2 h3 h4
    refine br_c (fun c => fin kep mk h1 h2 (h3 c)) (fun c => ?_)
    have h6 := h4 c
    have h7 := ps_cn_le (ps_kb kep) 32
    refine br_f (nI_nlt (a := 32) (by omega) (by omega)) (Exists.intro (n + 1) ?_)
    refine ps_ys102 (kep1 := kep) H hli (fun x' kep' mk' hI => ?_) n 0 0 kep mk (by omega) ⟨Or.inl rfl, h1, h2, fun _ z => z, fun _ => ⟨rfl, fun j hj => by omega⟩, fun z => absurd z (by decide)⟩
    obtain ⟨a1, a2, a3, a4, a5, a6⟩ := hI
    refine ih (t + 1) x' kep' mk' (by omega) a2 a3 (fun z => (a5 z).2) (fun z => ?_)
    have := a6 (a1.resolve_left z)
    omega
theorem ps_ys47 {post : Int32 → SY → Prop} {line : Nat} (H : ps_YH vc ll n K A B C code cT) (hli : line < n)
    (hp : ∀ code' kep mk, ps_YK K A B C n line gcv kep → ps_WY (ps_kb kep) n K A B C code code' n → post (nI (ps_cn (ps_kb kep) n)) (fll, fvc, fil, fmc, fit, nI line, gcv, 1, 0, code', upd cT 1 (nI (ps_cn (ps_kb kep) n)), inp, kep, mk, st, tr, res)) :
    ∀ d i kep, i + d = 32 → (∀ j, j < i → (kep j ≠ 0 ↔ j = line)) → wY_slice_47 post (nI line) (nI n) fll fvc fil fmc fit (nI line) gcv gsl gra (d + 1) (nI i) code cT inp kep mk st tr res := by
  have hn : n ≤ 32 := Nat.le_trans H.2.2.1 H.2.1
  intro d
  induction d with
  | zero =>
    intro i kep hd hz
    refine br_t (nI_le (a := 32) (by omega) (by omega)) (Exists.intro 34 ?_)
    refine ps_ys84 H hli hp 33 0 1 kep mk (by omega) ((hz line (by omega)).mpr rfl) (fun j hj hk => ?_) (fun z => absurd z (by decide)) (fun _ => Nat.zero_le _)
    exact ps_Lf_b (Or.inl ((hz j (by omega)).mp hk))
  | succ d ih =>
    intro i kep hd hz
    have e : (nI i).toNatClampNeg = i := nI_clamp (by omega)
    refine br_f (nI_ge (b := 32) (by omega) (by omega)) (br_c (fun c => And.intro (vp_in_nI (by omega) (by omega)) (nm_r (e' := upd kep i 1) (by rw [e, ps_nar1]) (nm_r (nI_1 i) ?_))) (fun c => And.intro (vp_in_nI (by omega) (by omega)) (nm_r (e' := upd kep i 0) (by rw [e, ps_nar0]) (nm_r (nI_1 i) ?_))))
    · rw [nI_eq (by omega) (by omega)] at c
      refine ih (i + 1) _ (by omega) (fun j hj => ?_)
      by_cases ej : j = i
      · subst ej; rw [pk_us]; exact ⟨fun _ => c, fun _ => by decide⟩
      · rw [pk_un ej]; exact hz j (by omega)
    · rw [nI_eq (by omega) (by omega)] at c
      refine ih (i + 1) _ (by omega) (fun j hj => ?_)
      by_cases ej : j = i
      · subst ej; rw [pk_us]; exact ⟨fun z => absurd rfl z, fun z => absurd z c⟩
      · rw [pk_un ej]; exact hz j (by omega)
theorem ps_yslice {post : Int32 → SY → Prop} {line v : Nat} (H : ps_YH vc ll n K A B C code cT) (hli : line < n) (hv : v < vc)
    (hp : ∀ code' kep mk, ps_YK K A B C n line (nI v) kep → ps_WY (ps_kb kep) n K A B C code code' n → post (nI (ps_cn (ps_kb kep) n)) (fll, nI vc, fil, fmc, fit, nI line, nI v, 1, 0, code', upd cT 1 (nI (ps_cn (ps_kb kep) n)), inp, kep, mk, st, tr, res)) :
    wpY_slice post (fll, nI vc, fil, fmc, fit, gcl, gcv, gsl, gra, code, cT, inp, kep, mk, st, tr, res) (nI line) (nI v) := by
  have hn : n ≤ 32 := Nat.le_trans H.2.2.1 H.2.1
  have hvc := H.1
  refine nm_r (e' := nI n) H.2.2.2.1 (br_f (nI_pos (by omega)) (br_t (nI_lt hli (by omega)) (br_f (nI_pos (by omega)) (br_t (nI_lt hv (by omega)) (Exists.intro 33 ?_)))))
  exact ps_ys47 (gcv := nI v) H hli hp 32 0 kep (by omega) (fun j hj => absurd hj (Nat.not_lt_zero j))
end
end
section
/-! ===== the relation ===== -/
def ps_Lim (ll vc il mc it n k : Nat) : Prop := 4 ≤ ll ∧ ll ≤ 32 ∧ 1 ≤ vc ∧ vc ≤ 8 ∧ il ≤ 16 ∧ 1 ≤ mc ∧ mc ≤ 16 ∧ it ≤ il ∧ n ≤ ll ∧ k ≤ 32
/-- Y's code holds X's lines -/
def ps_CE (K A B C code : Nat → Int32) : Prop := ∀ i, K i = code (4 * i) ∧ A i = code (4 * i + 1) ∧ B i = code (4 * i + 2) ∧ C i = code (4 * i + 3)
/-- behind a slice -/
def ps_SF (vc n k : Nat) (fcv : Int32) (fkp fdk fck : Int64) (K A B C : Nat → Int32) (ri pd co : Nat → Int64) (cl od : Nat → Int32) (gcl gcv : Int32) (kep : Nat → Int32) : Prop :=
  ∃ (K0 A0 B0 C0 : Nat → Int32) (line v : Nat), line < n ∧ v < vc ∧ (∀ i, i < n → K i = K0 i ∧ A i = A0 i ∧ B i = B0 i ∧ C i = C0 i) ∧ fcv = nI v ∧ gcl = nI line ∧ gcv = nI v ∧
    cl 0 = nI line ∧ cl 1 = nI (ps_cn (ps_tb fkp) line) ∧ ps_XF K0 A0 B0 C0 n line (nI v) fkp fdk fck ri pd co ∧ (∀ i, i < n → ps_tb fkp i = true → od (ps_cn (ps_tb fkp) i) = nI i) ∧
    k = ps_cn (ps_tb fkp) n ∧ ps_YK K0 A0 B0 C0 n line (nI v) kep
/-- the stores of the runs -/
def ps_RS (rv rm rc st : Nat → Int32) : Prop := ∀ w, w < 2 → (∀ j, j < 8 → rv (8 * w + j) = st (32 * w + j)) ∧ (∀ j, j < 16 → rm (16 * w + j) = st (32 * w + 16 + j)) ∧ rc w = st (32 * w + 8)
def ps_RO (ro rs rh rd res : Nat → Int32) : Prop := ∀ w, w < 2 → ro w = res (4 * w) ∧ rs w = res (4 * w + 1) ∧ rh w = res (4 * w + 2) ∧ rd w = res (4 * w + 3)
def ps_F (ll vc il mc it n k : Nat) (fhs fcv : Int32) (fkp fdk fck : Int64) (fhr : Int32) (K A B C T : Nat → Int32) (ri pd co : Nat → Int64) (cl od rv rm rc rs rh rd ro : Nat → Int32) (gcl gcv : Int32) (code kep st res : Nat → Int32) : Prop :=
  ps_Lim ll vc il mc it n k ∧ T 0 = nI n ∧ T 1 = nI k ∧ ps_CE K A B C code ∧ ps_VP vc ll n K A B C ∧ (∀ j, j < k → ps_VL vc ll (K (32 + j)) (A (32 + j)) (B (32 + j)) (C (32 + j))) ∧
  (fhs = 0 ∨ (fhs = 1 ∧ ps_SF vc n k fcv fkp fdk fck K A B C ri pd co cl od gcl gcv kep)) ∧ (fhr = 0 ∨ fhr = 1) ∧ ps_RS rv rm rc st ∧ ps_RO ro rs rh rd res
def i_Rel (_ : Nat) (u : SX) (v : SY) : Prop :=
  match u, v with
  | (fll, fvc, fil, fmc, fit, fhs, fcv, fkp, fdk, fck, fqs, fhr, K, A, B, C, T, inp, jf, js, rn, us, df, ri, pd, co, cl, qu, nw, od, rv, rm, rc, rs, rh, rd, ro, rt), (yll, yvc, yil, ymc, yit, gcl, gcv, gsl, gra, code, cT, yinp, kep, _, st, tr, res) =>
    ∃ ll vc il mc it n k : Nat, (fll = nI ll ∧ fvc = nI vc ∧ fil = nI il ∧ fmc = nI mc ∧ fit = nI it) ∧ (yll = nI ll ∧ yvc = nI vc ∧ yil = nI il ∧ ymc = nI mc ∧ yit = nI it) ∧ (gsl = fhs ∧ gra = fhr ∧ cT = T ∧ yinp = inp ∧ tr = rt) ∧
      ps_F ll vc il mc it n k fhs fcv fkp fdk fck fhr K A B C T ri pd co cl od rv rm rc rs rh rd ro gcl gcv code kep st res
theorem i_up {k : Nat} {u : SX} {v : SY} (h : i_Rel k u v) : i_Rel (k + 5) u v := h
theorem ps_el {kk : Nat} {u : SX} {v : SY} {P : SX → SY → Prop} (I : i_Rel kk u v)
    (h : ∀ (ll vc il mc it n k : Nat) (fhs fcv : Int32) (fkp fdk fck : Int64) (fqs fhr : Int32) (K A B C T inp jf js rn us df : Nat → Int32) (ri pd co : Nat → Int64) (cl qu nw od rv rm rc rs rh rd ro rt : Nat → Int32) (gcl gcv : Int32) (code kep mk st res : Nat → Int32),
      ps_F ll vc il mc it n k fhs fcv fkp fdk fck fhr K A B C T ri pd co cl od rv rm rc rs rh rd ro gcl gcv code kep st res → P (nI ll, nI vc, nI il, nI mc, nI it, fhs, fcv, fkp, fdk, fck, fqs, fhr, K, A, B, C, T, inp, jf, js, rn, us, df, ri, pd, co, cl, qu, nw, od, rv, rm, rc, rs, rh, rd, ro, rt) (nI ll, nI vc, nI il, nI mc, nI it, gcl, gcv, fhs, fhr, code, T, inp, kep, mk, st, rt, res)) : P u v := by
  obtain ⟨fll, fvc, fil, fmc, fit, fhs, fcv, fkp, fdk, fck, fqs, fhr, K, A, B, C, T, inp, jf, js, rn, us, df, ri, pd, co, cl, qu, nw, od, rv, rm, rc, rs, rh, rd, ro, rt⟩ := u
  obtain ⟨yll, yvc, yil, ymc, yit, gcl, gcv, gsl, gra, code, cT, yinp, kep, mk, st, tr, res⟩ := v
  obtain ⟨ll, vc, il, mc, it, n, k, ⟨a1, a2, a3, a4, a5⟩, ⟨b1, b2, b3, b4, b5⟩, ⟨c1, c2, c3, c4, c5⟩, hF⟩ := I
  subst a1 a2 a3 a4 a5 b1 b2 b3 b4 b5 c1 c2 c3 c4 c5
  exact h _ _ _ _ _ _ _ _ _ _ _ _ _ _ _ _ _ _ _ _ _ _ _ _ _ _ _ _ _ _ _ _ _ _ _ _ _ _ _ _ _ _ _ _ _ _ _ hF
theorem ps_in {kk ll vc il mc it n k : Nat} {fhs fcv : Int32} {fkp fdk fck : Int64} {fqs fhr : Int32} {K A B C T inp jf js rn us df : Nat → Int32} {ri pd co : Nat → Int64} {cl qu nw od rv rm rc rs rh rd ro rt : Nat → Int32} {gcl gcv : Int32} {code kep mk st res : Nat → Int32}
    (hF : ps_F ll vc il mc it n k fhs fcv fkp fdk fck fhr K A B C T ri pd co cl od rv rm rc rs rh rd ro gcl gcv code kep st res) : i_Rel kk (nI ll, nI vc, nI il, nI mc, nI it, fhs, fcv, fkp, fdk, fck, fqs, fhr, K, A, B, C, T, inp, jf, js, rn, us, df, ri, pd, co, cl, qu, nw, od, rv, rm, rc, rs, rh, rd, ro, rt) (nI ll, nI vc, nI il, nI mc, nI it, gcl, gcv, fhs, fhr, code, T, inp, kep, mk, st, rt, res) :=
  ⟨ll, vc, il, mc, it, n, k, ⟨rfl, rfl, rfl, rfl, rfl⟩, ⟨rfl, rfl, rfl, rfl, rfl⟩, ⟨rfl, rfl, rfl, rfl, rfl⟩, hF⟩
/-! clamp -/
def ps_clv (lo hi : Nat) (x : Int32) : Nat := if nI lo ≤ x then (if x ≤ nI hi then x.toNatClampNeg else hi) else lo
theorem ps_clv_rng {lo hi : Nat} {x : Int32} (h : lo ≤ hi) (hh : hi < 2 ^ 31) : lo ≤ ps_clv lo hi x ∧ ps_clv lo hi x ≤ hi := by
  unfold ps_clv
  by_cases c : nI lo ≤ x
  · rw [if_pos c]
    by_cases c2 : x ≤ nI hi
    · rw [if_pos c2]
      rw [Int32.le_iff_toInt_le, nI_toInt (by omega)] at c c2
      have : x.toNatClampNeg = x.toInt.toNat := rfl
      omega
    · rw [if_neg c2]; omega
  · rw [if_neg c]; omega
theorem ps_clv_x {lo hi : Nat} {x : Int32} (hl : lo < 2 ^ 31) (hh : hi < 2 ^ 31) (c : nI lo ≤ x) (c2 : x ≤ nI hi) : nI (ps_clv lo hi x) = x := by
  unfold ps_clv
  rw [if_pos c, if_pos c2]
  have h0 : ¬ x < 0 := by
    rw [Int32.le_iff_toInt_le, nI_toInt (by omega)] at c
    rw [Int32.lt_iff_toInt_lt, show (0 : Int32).toInt = 0 from by decide]
    omega
  obtain ⟨j, hj, rfl⟩ := nI_of h0
  rw [nI_clamp hj]
section
variable {fll fvc fil fmc fit fhs fcv : Int32} {fkp fdk fck : Int64} {fqs fhr : Int32} {K A B C T inp jf js rn us df : Nat → Int32} {ri pd co : Nat → Int64} {cl qu nw od rv rm rc rs rh rd ro rt : Nat → Int32}
variable {gcl gcv gsl gra : Int32} {code cT kep mk st tr res : Nat → Int32}
theorem ps_xcl {post : Int32 → Prop} {x : Int32} (lo hi : Nat) (hl : lo < 2 ^ 31) (hh : hi < 2 ^ 31) (h : post (nI (ps_clv lo hi x))) : wpX_clamp post (fll, fvc, fil, fmc, fit, fhs, fcv, fkp, fdk, fck, fqs, fhr, K, A, B, C, T, inp, jf, js, rn, us, df, ri, pd, co, cl, qu, nw, od, rv, rm, rc, rs, rh, rd, ro, rt) x (nI lo) (nI hi) :=
  br_c (fun c => br_c (fun c2 => by rw [ps_clv_x hl hh c c2] at h; exact h) (fun c2 => by unfold ps_clv at h; rw [if_pos c, if_neg c2] at h; exact h)) (fun c => by unfold ps_clv at h; rw [if_neg c] at h; exact h)
theorem ps_ycv {post : Int32 → Prop} {x : Int32} (lo hi : Nat) (hl : lo < 2 ^ 31) (hh : hi < 2 ^ 31) (h : post (nI (ps_clv lo hi x))) : wpY_clamp post (fll, fvc, fil, fmc, fit, gcl, gcv, gsl, gra, code, cT, inp, kep, mk, st, tr, res) x (nI lo) (nI hi) :=
  br_c (fun c => br_c (fun c2 => by rw [ps_clv_x hl hh c c2] at h; exact h) (fun c2 => by unfold ps_clv at h; rw [if_pos c, if_neg c2] at h; exact h)) (fun c => by unfold ps_clv at h; rw [if_neg c] at h; exact h)
end
theorem i_vc0 (k0 : Int32) (k1 : Int32) (k2 : Int32) (k3 : Int32) : wpX_init (fun u => wpY_init (fun v => i_Rel 4 u v) k0 k1 k2 k3) k0 k1 k2 k3 := by
  unfold wpX_init
  refine ps_xcl 4 32 (by omega) (by omega) ?_
  refine ps_xcl 1 8 (by omega) (by omega) ?_
  refine ps_xcl 0 16 (by omega) (by omega) ?_
  refine ps_xcl 1 16 (by omega) (by omega) ?_
  unfold wpY_init
  refine ps_ycv 4 32 (by omega) (by omega) ?_
  refine ps_ycv 1 8 (by omega) (by omega) ?_
  refine ps_ycv 0 16 (by omega) (by omega) ?_
  refine ps_ycv 1 16 (by omega) (by omega) ?_
  have r0 := ps_clv_rng (lo := 4) (hi := 32) (x := k0) (by omega) (by omega)
  have r1 := ps_clv_rng (lo := 1) (hi := 8) (x := k1) (by omega) (by omega)
  have r2 := ps_clv_rng (lo := 0) (hi := 16) (x := k2) (by omega) (by omega)
  have r3 := ps_clv_rng (lo := 1) (hi := 16) (x := k3) (by omega) (by omega)
  refine ps_in (it := 0) (n := 0) (k := 0) ⟨⟨r0.1, r0.2, r1.1, r1.2, r2.2, r3.1, r3.2, by omega, by omega, by omega⟩, rfl, rfl, fun i => ⟨rfl, rfl, rfl, rfl⟩, fun i hi => by omega, fun j hj => by omega, Or.inl rfl, Or.inl rfl, fun w hw => ⟨fun _ _ => rfl, fun _ _ => rfl, rfl⟩, fun w hw => ⟨rfl, rfl, rfl, rfl⟩⟩
end
section
/-! ===== dropLine, addInput, clearInputs, inputs ===== -/
theorem i_vc_inputCount {k : Nat} {u : SX} {v : SY} (I : i_Rel k u v) (hk : k + 5 ≤ 2564) : wpX_inputCount (fun r => wpY_inputCount (fun r' => r' = r ∧ i_Rel (k + 5) u v) v) u := by
  refine ps_el (P := fun u v => wpX_inputCount (fun r => wpY_inputCount (fun r' => r' = r ∧ i_Rel (k + 5) u v) v) u) I ?_
  intro ll vc il mc it n k fhs fcv fkp fdk fck fqs fhr K A B C T inp jf js rn us df ri pd co cl qu nw od rv rm rc rs rh rd ro rt gcl gcv code kep mk st res hF
  exact And.intro rfl (ps_in hF)
theorem i_vc_clearInputs {k : Nat} {u : SX} {v : SY} (I : i_Rel k u v) (hk : k + 5 ≤ 2564) : wpX_clearInputs (fun r u' => wpY_clearInputs (fun r' v' => r' = r ∧ i_Rel (k + 5) u' v') v) u := by
  refine ps_el (P := fun u v => wpX_clearInputs (fun r u' => wpY_clearInputs (fun r' v' => r' = r ∧ i_Rel (k + 5) u' v') v) u) I ?_
  intro ll vc il mc it n k fhs fcv fkp fdk fck fqs fhr K A B C T inp jf js rn us df ri pd co cl qu nw od rv rm rc rs rh rd ro rt gcl gcv code kep mk st res hF
  obtain ⟨⟨l1, l2, l3, l4, l5, l6, l7, l8, l9, l10⟩, f2, f3, f4, f5, f6, f7, f8, f9, f10⟩ := hF
  exact And.intro rfl (ps_in (it := 0) ⟨⟨l1, l2, l3, l4, l5, l6, l7, by omega, l9, l10⟩, f2, f3, f4, f5, f6, f7, Or.inl rfl, f9, f10⟩)
theorem i_vc_addInput {k : Nat} {u : SX} {v : SY} (I : i_Rel k u v) (hk : k + 5 ≤ 2564) (v1 : Int32) : wpX_addInput (fun r u' => wpY_addInput (fun r' v' => r' = r ∧ i_Rel (k + 5) u' v') v v1) u v1 := by
  refine ps_el (P := fun u v => wpX_addInput (fun r u' => wpY_addInput (fun r' v' => r' = r ∧ i_Rel (k + 5) u' v') v v1) u v1) I ?_
  intro ll vc il mc it n k fhs fcv fkp fdk fck fqs fhr K A B C T inp jf js rn us df ri pd co cl qu nw od rv rm rc rs rh rd ro rt gcl gcv code kep mk st res hF
  have hF' := hF
  obtain ⟨⟨l1, l2, l3, l4, l5, l6, l7, l8, l9, l10⟩, f2, f3, f4, f5, f6, f7, f8, f9, f10⟩ := hF
  by_cases c : it < il
  · have c' : nI it < nI il := nI_lt c (by omega)
    have e : (nI it).toNatClampNeg = it := nI_clamp (by omega)
    have hin : vp_in (nI it) 16 := vp_in_nI (by omega) (by omega)
    refine br_t c' (And.intro hin (nm_r (e' := upd inp it v1) (by rw [e]) (nm_r (nI_1 it) ?_)))
    refine br_t c' (And.intro hin (nm_r (e' := upd inp it v1) (by rw [e]) (nm_r (nI_1 it) ?_)))
    exact And.intro rfl (ps_in (it := it + 1) ⟨⟨l1, l2, l3, l4, l5, l6, l7, by omega, l9, l10⟩, f2, f3, f4, f5, f6, f7, Or.inl rfl, f9, f10⟩)
  · have c' : ¬ nI it < nI il := nI_nlt (by omega) (by omega)
    exact br_f c' (br_f c' (And.intro rfl (ps_in hF')))
theorem i_vc_inputAt {k : Nat} {u : SX} {v : SY} (I : i_Rel k u v) (hk : k + 5 ≤ 2564) (v1 : Int32) : wpX_inputAt (fun r => wpY_inputAt (fun r' => r' = r ∧ i_Rel (k + 5) u v) v v1) u v1 := by
  refine ps_el (P := fun u v => wpX_inputAt (fun r => wpY_inputAt (fun r' => r' = r ∧ i_Rel (k + 5) u v) v v1) u v1) I ?_
  intro ll vc il mc it n k fhs fcv fkp fdk fck fqs fhr K A B C T inp jf js rn us df ri pd co cl qu nw od rv rm rc rs rh rd ro rt gcl gcv code kep mk st res hF
  have hF' := hF
  obtain ⟨⟨l1, l2, l3, l4, l5, l6, l7, l8, l9, l10⟩, _⟩ := hF
  rcases pk_ix v1 (n := it) (by omega) with c | c | ⟨j, hj, rfl⟩
  · exact br_t c (br_t c (And.intro rfl (ps_in hF')))
  · have c0 : ¬ v1 < 0 := by
      intro z
      rw [Int32.le_iff_toInt_le, nI_toInt (by omega)] at c
      rw [Int32.lt_iff_toInt_lt, show (0 : Int32).toInt = 0 from by decide] at z
      omega
    exact br_f c0 (br_f (Int32.not_lt.mpr c) (br_f c0 (br_t c (And.intro rfl (ps_in hF')))))
  · have hin : vp_in (nI j) 16 := vp_in_nI (by omega) (by omega)
    exact br_f (nI_pos (by omega)) (br_t (nI_lt hj (by omega)) (And.intro hin (br_f (nI_pos (by omega)) (br_f (nI_ge hj (by omega)) (And.intro hin (And.intro rfl (ps_in hF')))))))
theorem i_vc_dropLine {k : Nat} {u : SX} {v : SY} (I : i_Rel k u v) (hk : k + 5 ≤ 2564) : wpX_dropLine (fun r u' => wpY_dropLine (fun r' v' => r' = r ∧ i_Rel (k + 5) u' v') v) u := by
  refine ps_el (P := fun u v => wpX_dropLine (fun r u' => wpY_dropLine (fun r' v' => r' = r ∧ i_Rel (k + 5) u' v') v) u) I ?_
  intro ll vc il mc it n k fhs fcv fkp fdk fck fqs fhr K A B C T inp jf js rn us df ri pd co cl qu nw od rv rm rc rs rh rd ro rt gcl gcv code kep mk st res hF
  have hF' := hF
  obtain ⟨⟨l1, l2, l3, l4, l5, l6, l7, l8, l9, l10⟩, f2, f3, f4, f5, f6, f7, f8, f9, f10⟩ := hF
  by_cases c : n = 0
  · have c' : T 0 = 0 := by rw [f2, c]; rfl
    exact br_t c' (br_t c' (And.intro rfl (ps_in hF')))
  · have c' : ¬ T 0 = 0 := by rw [f2]; exact nI_ne0 (by omega) (by omega)
    have e : upd T 0 (T 0 - 1) = upd T 0 (nI (n - 1)) := by
      rw [f2]
      obtain ⟨m, rfl⟩ : ∃ m, n = m + 1 := ⟨n - 1, by omega⟩
      rw [nI_pred]; rfl
    refine br_f c' (nm_r e (nm_e ?_))
    refine br_f c' (nm_r e (nm_e ?_))
    refine And.intro rfl (ps_in (n := n - 1) (k := 0) ⟨⟨l1, l2, l3, l4, l5, l6, l7, l8, by omega, by omega⟩, ?_, pk_us, f4, fun i hi => f5 i (by omega), fun j hj => by omega, Or.inl rfl, Or.inl rfl, f9, f10⟩)
    rw [pk_un (by decide), pk_us]
/-! ===== add ===== -/
theorem ps_FV_0 {vc ll : Nat} {x : Int32} : ps_FV vc ll 0 x := ⟨fun z => absurd z (by decide), fun z => absurd z (by decide), fun z => absurd z (by decide)⟩
theorem ps_FV_1 {vc ll : Nat} {x : Int32} (hv : vc < 2 ^ 31) : ps_FV vc ll 1 x ↔ (¬ x < 0 ∧ ¬ nI vc ≤ x) := by
  constructor
  · intro h
    obtain ⟨j, hj, rfl⟩ := h.1 rfl
    exact ⟨nI_pos (by omega), nI_ge hj hv⟩
  · rintro ⟨h1, h2⟩
    refine ⟨fun _ => ?_, fun z => absurd z (by decide), fun z => absurd z (by decide)⟩
    obtain ⟨j, hj, rfl⟩ := nI_of h1
    rw [nI_leI hv hj] at h2
    exact ⟨j, by omega, rfl⟩
theorem ps_FV_2 {vc ll : Nat} {x : Int32} : ps_FV vc ll 2 x ↔ (x < nI vc ∨ ¬ x < 100) := by
  rw [Int32.not_lt]
  exact ⟨fun h => h.2.1 rfl, fun h => ⟨fun z => absurd z (by decide), fun _ => h, fun z => absurd z (by decide)⟩⟩
theorem ps_FV_3 {vc ll : Nat} {x : Int32} (hl : ll < 2 ^ 31) : ps_FV vc ll 3 x ↔ (¬ x < 0 ∧ ¬ nI ll < x) := by
  constructor
  · intro h
    obtain ⟨j, hj, rfl⟩ := h.2.2 rfl
    exact ⟨nI_pos (by omega), nI_nlt hj hl⟩
  · rintro ⟨h1, h2⟩
    refine ⟨fun z => absurd z (by decide), fun z => absurd z (by decide), fun _ => ?_⟩
    obtain ⟨j, hj, rfl⟩ := nI_of h1
    rw [nI_ltI hl hj] at h2
    exact ⟨j, by omega, rfl⟩
section
variable {fll fvc fil fmc fit fhs fcv : Int32} {fkp fdk fck : Int64} {fqs fhr : Int32} {K A B C T inp jf js rn us df : Nat → Int32} {ri pd co : Nat → Int64} {cl qu nw od rv rm rc rs rh rd ro rt : Nat → Int32}
variable {gcl gcv gsl gra : Int32} {code cT kep mk st tr res : Nat → Int32}
variable {vc ll n : Nat}
theorem ps_xvf {post : Int32 → Prop} {s : Nat} {x : Int32} (hs : s ≤ 3) (hv : vc < 2 ^ 31) (hl : ll < 2 ^ 31) (h1 : ps_FV vc ll s x → post 1) (h0 : ¬ ps_FV vc ll s x → post 0) : wpX_validField post (nI ll, nI vc, fil, fmc, fit, fhs, fcv, fkp, fdk, fck, fqs, fhr, K, A, B, C, T, inp, jf, js, rn, us, df, ri, pd, co, cl, qu, nw, od, rv, rm, rc, rs, rh, rd, ro, rt) (nI s) x := by
  have h4 : s = 0 ∨ s = 1 ∨ s = 2 ∨ s = 3 := by omega
  rcases h4 with rfl | rfl | rfl | rfl
  · exact br_f (by decide) (br_f (by decide) (br_f (by decide) (h1 ps_FV_0)))
  · rw [ps_FV_1 hv] at h1 h0
    exact br_t rfl (br_c (fun c => And.intro rfl (h0 (fun z => z.1 c))) (fun c => br_c (fun c2 => And.intro rfl (h0 (fun z => z.2 c2))) (fun c2 => And.intro rfl (h1 ⟨c, c2⟩))))
  · rw [ps_FV_2] at h1 h0
    exact br_f (by decide) (br_t rfl (br_c (fun c => h1 (Or.inl c)) (fun c => br_c (fun c2 => h0 (fun z => z.elim c (fun y => y c2))) (fun c2 => h1 (Or.inr c2)))))
  · rw [ps_FV_3 hl] at h1 h0
    exact br_f (by decide) (br_f (by decide) (br_t rfl (br_c (fun c => h0 (fun z => z.1 c)) (fun c => br_c (fun c2 => h0 (fun z => z.2 c2)) (fun c2 => h1 ⟨c, c2⟩)))))
theorem ps_yvf {post : Int32 → Prop} {s : Nat} {x : Int32} (hs : s ≤ 3) (hv : vc < 2 ^ 31) (hl : ll < 2 ^ 31) (h1 : ps_FV vc ll s x → post 1) (h0 : ¬ ps_FV vc ll s x → post 0) : wpY_valid post (nI ll, nI vc, fil, fmc, fit, gcl, gcv, gsl, gra, code, cT, inp, kep, mk, st, tr, res) (ps_ch s) x := by
  have h4 : s = 0 ∨ s = 1 ∨ s = 2 ∨ s = 3 := by omega
  rcases h4 with rfl | rfl | rfl | rfl
  · exact br_f (by decide) (br_f (by decide) (br_f (by decide) (h1 ps_FV_0)))
  · rw [ps_FV_1 hv] at h1 h0
    exact br_t rfl (br_c (fun c => h0 (fun z => z.1 c)) (fun c => br_c (fun c2 => h0 (fun z => z.2 c2)) (fun c2 => h1 ⟨c, c2⟩)))
  · rw [ps_FV_2] at h1 h0
    exact br_f (by decide) (br_t rfl (br_c (fun c => h1 (Or.inl c)) (fun c => br_c (fun c2 => h0 (fun z => z.elim c (fun y => y c2))) (fun c2 => h1 (Or.inr c2)))))
  · rw [ps_FV_3 hl] at h1 h0
    exact br_f (by decide) (br_f (by decide) (br_t rfl (br_c (fun c => h0 (fun z => z.1 c)) (fun c => br_c (fun c2 => h0 (fun z => z.2 c2)) (fun c2 => h1 ⟨c, c2⟩)))))
/-- a stored field: 0 if unused -/
def ps_z (s : Nat) (x : Int32) : Int32 := if s = 0 then 0 else x
theorem ps_z_FV {vc ll s : Nat} {x : Int32} (h : ps_FV vc ll s x) : ps_FV vc ll s (ps_z s x) := by
  unfold ps_z
  by_cases c : s = 0
  · subst c; exact ps_FV_0
  · rw [if_neg c]; exact h
theorem ps_x150 {post : Int32 → SX → Prop} {z : Int32} (hn : n < 64) (h : post (nI n) (fll, fvc, fil, fmc, fit, 0, fcv, fkp, fdk, fck, fqs, 0, K, A, B, upd C n z, upd (upd T 0 (nI (n + 1))) 1 0, inp, jf, js, rn, us, df, ri, pd, co, cl, qu, nw, od, rv, rm, rc, rs, rh, rd, ro, rt)) : wX_add_150 post (nI n) z (nI n) fll fvc fil fmc fit fhs fcv fkp fdk fck fqs fhr K A B C T inp jf js rn us df ri pd co cl qu nw od rv rm rc rs rh rd ro rt :=
  And.intro (vp_in_nI hn (by omega)) (nm_r (e' := upd C n z) (by rw [nI_clamp (by omega)]) (nm_r (e' := upd T 0 (nI (n + 1))) (by rw [nI_1]) (nm_e h)))
theorem ps_x132 {post : Int32 → SX → Prop} {z c : Int32} {s : Nat} (hs : s ≤ 3) (hn : n < 64) (h : post (nI n) (fll, fvc, fil, fmc, fit, 0, fcv, fkp, fdk, fck, fqs, 0, K, A, upd B n z, upd C n (ps_z s c), upd (upd T 0 (nI (n + 1))) 1 0, inp, jf, js, rn, us, df, ri, pd, co, cl, qu, nw, od, rv, rm, rc, rs, rh, rd, ro, rt)) : wX_add_132 post c (nI n) (nI s) z (nI n) fll fvc fil fmc fit fhs fcv fkp fdk fck fqs fhr K A B C T inp jf js rn us df ri pd co cl qu nw od rv rm rc rs rh rd ro rt := by
  refine And.intro (vp_in_nI hn (by omega)) (nm_r (e' := upd B n z) (by rw [nI_clamp (by omega)]) (pk_eq s 0 (fun e => ps_x150 hn ?_) (fun e => ps_x150 hn ?_)))
  · unfold ps_z at h; rw [if_pos e] at h; exact h
  · unfold ps_z at h; rw [if_neg e] at h; exact h
theorem ps_x115 {post : Int32 → SX → Prop} {z b c : Int32} {s s2 : Nat} (hs : s ≤ 3) (hs2 : s2 ≤ 3) (hn : n < 64) (h : post (nI n) (fll, fvc, fil, fmc, fit, 0, fcv, fkp, fdk, fck, fqs, 0, K, upd A n z, upd B n (ps_z s b), upd C n (ps_z s2 c), upd (upd T 0 (nI (n + 1))) 1 0, inp, jf, js, rn, us, df, ri, pd, co, cl, qu, nw, od, rv, rm, rc, rs, rh, rd, ro, rt)) : wX_add_115 post b c (nI n) (nI s) (nI s2) z (nI n) fll fvc fil fmc fit fhs fcv fkp fdk fck fqs fhr K A B C T inp jf js rn us df ri pd co cl qu nw od rv rm rc rs rh rd ro rt := by
  refine And.intro (vp_in_nI hn (by omega)) (nm_r (e' := upd A n z) (by rw [nI_clamp (by omega)]) (pk_eq s 0 (fun e => ps_x132 hs2 hn ?_) (fun e => ps_x132 hs2 hn ?_)))
  · unfold ps_z at h; unfold ps_z; rw [if_pos e] at h; exact h
  · unfold ps_z at h; unfold ps_z; rw [if_neg e] at h; exact h
/-- X's add of a line in range and room -/
theorem ps_xadd {post : Int32 → SX → Prop} {q : Nat} {a b c : Int32} (hq : q ≤ 16) (hv : vc ≤ 8) (hl : ll ≤ 32) (hn : n < ll) (hT : T 0 = nI n)
    (h1 : ps_FV vc ll (ps_srt q 1) a → ps_FV vc ll (ps_srt q 2) b → ps_FV vc ll (ps_srt q 3) c → post (nI n) (nI ll, nI vc, fil, fmc, fit, 0, fcv, fkp, fdk, fck, fqs, 0, upd K n (nI q), upd A n (ps_z (ps_srt q 1) a), upd B n (ps_z (ps_srt q 2) b), upd C n (ps_z (ps_srt q 3) c), upd (upd T 0 (nI (n + 1))) 1 0, inp, jf, js, rn, us, df, ri, pd, co, cl, qu, nw, od, rv, rm, rc, rs, rh, rd, ro, rt))
    (h0 : ¬ (ps_FV vc ll (ps_srt q 1) a ∧ ps_FV vc ll (ps_srt q 2) b ∧ ps_FV vc ll (ps_srt q 3) c) → post (-4) (nI ll, nI vc, fil, fmc, fit, fhs, fcv, fkp, fdk, fck, fqs, fhr, K, A, B, C, T, inp, jf, js, rn, us, df, ri, pd, co, cl, qu, nw, od, rv, rm, rc, rs, rh, rd, ro, rt)) : wpX_add post (nI ll, nI vc, fil, fmc, fit, fhs, fcv, fkp, fdk, fck, fqs, fhr, K, A, B, C, T, inp, jf, js, rn, us, df, ri, pd, co, cl, qu, nw, od, rv, rm, rc, rs, rh, rd, ro, rt) (nI q) a b c := by
  refine br_f (nI_pos (by omega)) (br_t (nI_le (b := 16) hq (by omega)) (nm_r (e' := nI n) hT (br_t (nI_lt hn (by omega)) ?_)))
  refine ps_xsrtA hq (ps_xsrtB hq (ps_xsrtC hq ?_))
  refine ps_xvf (ps_srt_le q 1) (by omega) (by omega) (fun va => br_f (by decide) ?_) (fun va => br_t rfl (h0 (fun z => va z.1)))
  refine ps_xvf (ps_srt_le q 2) (by omega) (by omega) (fun vb => br_f (by decide) ?_) (fun vb => br_t rfl (h0 (fun z => vb z.2.1)))
  refine ps_xvf (ps_srt_le q 3) (by omega) (by omega) (fun vC => br_f (by decide) ?_) (fun vC => br_t rfl (h0 (fun z => vC z.2.2)))
  have hs := ps_srt_le q 1
  refine And.intro (vp_in_nI (by omega) (by omega)) (nm_r (e' := upd K n (nI q)) (by rw [nI_clamp (by omega)]) (pk_eq (ps_srt q 1) 0 (fun e => ps_x115 (ps_srt_le q 2) (ps_srt_le q 3) (by omega) ?_) (fun e => ps_x115 (ps_srt_le q 2) (ps_srt_le q 3) (by omega) ?_)))
  · have h := h1 va vb vC
    unfold ps_z at h; unfold ps_z; rw [if_pos e] at h; exact h
  · have h := h1 va vb vC
    unfold ps_z at h; unfold ps_z; rw [if_neg e] at h; exact h
end
end
section
/-! ===== Y: add ===== -/
section
variable {fll fvc fil fmc fit fhs fcv : Int32} {fkp fdk fck : Int64} {fqs fhr : Int32} {K A B C T inp jf js rn us df : Nat → Int32} {ri pd co : Nat → Int64} {cl qu nw od rv rm rc rs rh rd ro rt : Nat → Int32}
variable {gcl gcv gsl gra : Int32} {code cT kep mk st tr res : Nat → Int32}
variable {vc ll n : Nat}
theorem ps_y136 {post : Int32 → SY → Prop} {J108 : Int32 → (Nat → Int32) → (Nat → Int32) → (Nat → Int32) → (Nat → Int32) → (Nat → Int32) → (Nat → Int32) → (Nat → Int32) → (Nat → Int32) → Prop} {q p : Nat} {a b c z : Int32} (hq : q ≤ 16) (hn : n < 32) (hp : p ≤ 3)
    (h : J108 (nI (p + 1)) (upd code (4 * n + p) (ps_z (ps_srt q p) z)) cT inp kep mk st tr res) : wY_add_136 post J108 (nI q) a b c (nI n) (nI p) z fll fvc fil fmc fit gcl gcv gsl gra code cT inp kep mk st tr res := by
  have e : nI n * 4 + nI p = nI (4 * n + p) := by
    rw [show (4 : Int32) = nI 4 from rfl, pk_mul, nI_add, Nat.mul_comm]
  have hin : vp_in (nI n * 4 + nI p) 256 := by rw [e]; exact vp_in_nI (by omega) (by omega)
  have ec : (nI n * 4 + nI p).toNatClampNeg = 4 * n + p := by rw [e]; exact nI_clamp (by omega)
  have hc : ps_ch (ps_srt q p) = 45 ↔ ps_srt q p = 0 := by
    have hle := ps_srt_le q p
    have : ∀ s, s < 4 → (ps_ch s = 45 ↔ s = 0) := by decide
    exact this _ (by omega)
  unfold ps_z at h
  refine ps_ysrt hq hp (br_c (fun c => ?_) (fun c => ?_))
  · rw [if_pos (hc.mp c)] at h
    exact And.intro hin (nm_r (e' := upd code (4 * n + p) 0) (by rw [ec]) (nm_r (nI_1 p) h))
  · rw [if_neg (fun z => c (hc.mpr z))] at h
    exact And.intro hin (nm_r (e' := upd code (4 * n + p) z) (by rw [ec]) (nm_r (nI_1 p) h))
theorem ps_yadd {post : Int32 → SY → Prop} {q : Nat} {a b c : Int32} (hq : q ≤ 16) (hv : vc ≤ 8) (hl : ll ≤ 32) (hn : n < ll) (hT : cT 0 = nI n)
    (h1 : ps_FV vc ll (ps_srt q 1) a → ps_FV vc ll (ps_srt q 2) b → ps_FV vc ll (ps_srt q 3) c → post (nI n) (nI ll, nI vc, fil, fmc, fit, gcl, gcv, 0, 0, upd (upd (upd (upd code (4 * n) (nI q)) (4 * n + 1) (ps_z (ps_srt q 1) a)) (4 * n + 2) (ps_z (ps_srt q 2) b)) (4 * n + 3) (ps_z (ps_srt q 3) c), upd (upd cT 0 (nI (n + 1))) 1 0, inp, kep, mk, st, tr, res))
    (h0 : ¬ (ps_FV vc ll (ps_srt q 1) a ∧ ps_FV vc ll (ps_srt q 2) b ∧ ps_FV vc ll (ps_srt q 3) c) → post (-4) (nI ll, nI vc, fil, fmc, fit, gcl, gcv, gsl, gra, code, cT, inp, kep, mk, st, tr, res)) : wpY_add post (nI ll, nI vc, fil, fmc, fit, gcl, gcv, gsl, gra, code, cT, inp, kep, mk, st, tr, res) (nI q) a b c := by
  have e4 : (nI n * 4).toNatClampNeg = 4 * n := by
    rw [show (4 : Int32) = nI 4 from rfl, pk_mul, nI_clamp (by omega), Nat.mul_comm]
  have hin : vp_in (nI n * 4) 256 := by
    rw [show (4 : Int32) = nI 4 from rfl, pk_mul]; exact vp_in_nI (by omega) (by omega)
  refine br_f (nI_pos (by omega)) (br_t (nI_le (b := 16) hq (by omega)) (nm_r (e' := nI n) hT (br_t (nI_lt hn (by omega)) (Exists.intro 4 ?_))))
  refine br_f (by decide) (ps_ysrt (p := 1) hq (by omega) (br_t rfl ?_))
  refine ps_yvf (ps_srt_le q 1) (by omega) (by omega) (fun va => br_f (by decide) (nm_r (e' := nI 2) (by decide) ?_)) (fun va => br_t rfl (h0 (fun z => va z.1)))
  refine br_f (by decide) (ps_ysrt (p := 2) hq (by omega) (br_f (by decide) (br_t rfl ?_)))
  refine ps_yvf (ps_srt_le q 2) (by omega) (by omega) (fun vb => br_f (by decide) (nm_r (e' := nI 3) (by decide) ?_)) (fun vb => br_t rfl (h0 (fun z => vb z.2.1)))
  refine br_f (by decide) (ps_ysrt (p := 3) hq (by omega) (br_f (by decide) (br_f (by decide) ?_)))
  refine ps_yvf (ps_srt_le q 3) (by omega) (by omega) (fun vC => br_f (by decide) (nm_r (e' := nI 4) (by decide) ?_)) (fun vC => br_t rfl (h0 (fun z => vC z.2.2)))
  refine br_t (by decide) (And.intro hin (nm_r (e' := upd code (4 * n) (nI q)) (by rw [e4]) (Exists.intro 4 ?_)))
  refine br_f (by decide) (br_t rfl (ps_y136 (p := 1) hq (by omega) (by omega) ?_))
  refine br_f (by decide) (br_f (by decide) (br_t rfl (ps_y136 (p := 2) hq (by omega) (by omega) ?_)))
  refine br_f (by decide) (br_f (by decide) (br_f (by decide) (ps_y136 (p := 3) hq (by omega) (by omega) ?_)))
  refine br_t (by decide) (nm_r (e' := upd cT 0 (nI (n + 1))) (by rw [nI_1]) (nm_e ?_))
  exact h1 va vb vC
end
theorem ps_CE_put {K A B C code : Nat → Int32} {n : Nat} {k a b c : Int32} (h : ps_CE K A B C code) : ps_CE (upd K n k) (upd A n a) (upd B n b) (upd C n c) (upd (upd (upd (upd code (4 * n) k) (4 * n + 1) a) (4 * n + 2) b) (4 * n + 3) c) := by
  intro i
  by_cases e : i = n
  · subst e
    refine ⟨?_, ?_, ?_, ?_⟩
    · rw [pk_us, pk_un (by omega), pk_un (by omega), pk_un (by omega), pk_us]
    · rw [pk_us, pk_un (by omega), pk_un (by omega), pk_us]
    · rw [pk_us, pk_un (by omega), pk_us]
    · rw [pk_us, pk_us]
  · obtain ⟨h1, h2, h3, h4⟩ := h i
    refine ⟨?_, ?_, ?_, ?_⟩
    · rw [pk_un e, pk_un (by omega), pk_un (by omega), pk_un (by omega), pk_un (by omega)]; exact h1
    · rw [pk_un e, pk_un (by omega), pk_un (by omega), pk_un (by omega), pk_un (by omega)]; exact h2
    · rw [pk_un e, pk_un (by omega), pk_un (by omega), pk_un (by omega), pk_un (by omega)]; exact h3
    · rw [pk_un e, pk_un (by omega), pk_un (by omega), pk_un (by omega), pk_un (by omega)]; exact h4
theorem i_vc_add {k : Nat} {u : SX} {v : SY} (I : i_Rel k u v) (hk : k + 5 ≤ 2564) (v1 : Int32) (v2 : Int32) (v3 : Int32) (v4 : Int32) : wpX_add (fun r u' => wpY_add (fun r' v' => r' = r ∧ i_Rel (k + 5) u' v') v v1 v2 v3 v4) u v1 v2 v3 v4 := by
  refine ps_el (P := fun u v => wpX_add (fun r u' => wpY_add (fun r' v' => r' = r ∧ i_Rel (k + 5) u' v') v v1 v2 v3 v4) u v1 v2 v3 v4) I ?_
  intro ll vc il mc it n k fhs fcv fkp fdk fck fqs fhr K A B C T inp jf js rn us df ri pd co cl qu nw od rv rm rc rs rh rd ro rt gcl gcv code kep mk st res hF
  have hF' := hF
  obtain ⟨⟨l1, l2, l3, l4, l5, l6, l7, l8, l9, l10⟩, f2, f3, f4, f5, f6, f7, f8, f9, f10⟩ := hF
  by_cases c0 : v1 < 0
  · exact br_t c0 (br_t c0 (And.intro rfl (ps_in hF')))
  by_cases c1 : v1 ≤ 16
  case neg => exact br_f c0 (br_f c1 (br_f c0 (br_f c1 (And.intro rfl (ps_in hF')))))
  obtain ⟨q, hq, rfl⟩ := nI_of2 (M := 16) (n := 16) (by decide) c0 c1
  by_cases c2 : n < ll
  case neg =>
    have c2' : ¬ nI n < nI ll := nI_nlt (by omega) (by omega)
    exact br_f c0 (br_t c1 (nm_r (e' := nI n) f2 (br_f c2' (br_f c0 (br_t c1 (nm_r (e' := nI n) f2 (br_f c2' (And.intro rfl (ps_in hF')))))))))
  refine ps_xadd hq l4 l2 c2 f2 (fun va vb vC => ?_) (fun hN => ?_)
  · refine ps_yadd hq l4 l2 c2 f2 (fun _ _ _ => ?_) (fun hN => absurd ⟨va, vb, vC⟩ hN)
    refine And.intro rfl (ps_in (n := n + 1) (k := 0) ⟨⟨l1, l2, l3, l4, l5, l6, l7, l8, by omega, by omega⟩, ?_, pk_us, ps_CE_put f4, fun i hi => ?_, fun j hj => by omega, Or.inl rfl, Or.inl rfl, f9, f10⟩)
    · rw [pk_un (by decide), pk_us]
    · by_cases e : i = n
      · subst e
        rw [pk_us, pk_us, pk_us, pk_us]
        exact ⟨q, hq, rfl, ps_z_FV va, ps_z_FV vb, ps_z_FV vC⟩
      · rw [pk_un e, pk_un e, pk_un e, pk_un e]
        exact f5 i (by omega)
  · refine ps_yadd hq l4 l2 c2 f2 (fun va vb vC => absurd ⟨va, vb, vC⟩ hN) (fun _ => ?_)
    exact And.intro rfl (ps_in hF')
end
section
/-! ===== slice ===== -/
/-- the slice's arrays agree -/
theorem ps_CE_sl {Kb Kb2 : Nat → Bool} {n : Nat} {K A B C code K' A' B' C' code' : Nat → Int32} (hn : n ≤ 32) (h : ps_CE K A B C code) (hb : ∀ i, i < 32 → Kb i = Kb2 i)
    (hW : ps_WS Kb n K A B C K' A' B' C' (ps_cn Kb n)) (hY : ps_WY Kb2 n K A B C code code' n) : ps_CE K' A' B' C' code' := by
  have hcn : ∀ i, i ≤ 32 → ps_cn Kb i = ps_cn Kb2 i := fun i hi => ps_cn_eq i (fun j hj => hb j (by omega))
  have hle := ps_cn_le Kb n
  have hsl : ∀ k x p, ps_sl Kb n k x p = ps_sl Kb2 n k x p := by
    intro k x p
    unfold ps_sl
    rw [hcn (ps_T x n) (Nat.le_trans (ps_T_le x (by omega)) hn)]
  intro q
  by_cases c : q < 32 ∨ 32 + ps_cn Kb n ≤ q
  · obtain ⟨w1, w2, w3, w4⟩ := hW.1 q c
    obtain ⟨h1, h2, h3, h4⟩ := h q
    have hn2 := hcn n hn
    rw [w1, w2, w3, w4, h1, h2, h3, h4, hY.1 (4 * q) (by omega), hY.1 (4 * q + 1) (by omega), hY.1 (4 * q + 2) (by omega), hY.1 (4 * q + 3) (by omega)]
    exact ⟨rfl, rfl, rfl, rfl⟩
  · obtain ⟨i, hi, hk, hc⟩ := ps_cn_ex (P := Kb) n (q - 32) (by omega)
    obtain ⟨w1, w2, w3, w4⟩ := hW.2 i hi hk (by omega)
    have eq : 32 + ps_cn Kb i = q := by omega
    rw [eq] at w1 w2 w3 w4
    have hk2 : Kb2 i = true := by rw [← hb i (by omega)]; exact hk
    have y := hY.2 i hi hk2
    rw [← hcn i (by omega)] at y
    have y0 := y 0 (by omega)
    have y1 := y 1 (by omega)
    have y2 := y 2 (by omega)
    have y3 := y 3 (by omega)
    rw [show 128 + 4 * ps_cn Kb i + 0 = 4 * q by omega] at y0
    rw [show 128 + 4 * ps_cn Kb i + 1 = 4 * q + 1 by omega] at y1
    rw [show 128 + 4 * ps_cn Kb i + 2 = 4 * q + 2 by omega] at y2
    rw [show 128 + 4 * ps_cn Kb i + 3 = 4 * q + 3 by omega] at y3
    rw [w1, w2, w3, w4, y0, y1, y2, y3]
    exact ⟨rfl, hsl _ _ _, hsl _ _ _, hsl _ _ _⟩
/-- the slice's lines are valid -/
theorem ps_VL_sl {Kb : Nat → Bool} {vc ll n : Nat} {K A B C K' A' B' C' : Nat → Int32} (hn : n ≤ ll) (hl : ll ≤ 32) (hV : ps_VP vc ll n K A B C) (hW : ps_WS Kb n K A B C K' A' B' C' (ps_cn Kb n)) :
    ∀ j, j < ps_cn Kb n → ps_VL vc ll (K' (32 + j)) (A' (32 + j)) (B' (32 + j)) (C' (32 + j)) := by
  intro j hj
  obtain ⟨i, hi, hk, hc⟩ := ps_cn_ex (P := Kb) n j hj
  obtain ⟨w1, w2, w3, w4⟩ := hW.2 i hi hk (by omega)
  rw [hc] at w1 w2 w3 w4
  obtain ⟨q, hq, hkq, hfa, hfb, hfc⟩ := hV i hi
  have key : ∀ x p, ps_FV vc ll (ps_srt q p) x → ps_FV vc ll (ps_srt q p) (ps_sl Kb n (K i) x p) := by
    intro x p hx
    unfold ps_sl
    rw [hkq, nI_clamp (by omega)]
    by_cases c : ps_srt q p = 3
    · rw [if_pos c, c]
      refine ⟨fun z => absurd z (by decide), fun z => absurd z (by decide), fun _ => ⟨_, ?_, rfl⟩⟩
      have h1 := ps_cn_le Kb (ps_T x n)
      have h2 := ps_T_le x (n := n) (by omega)
      omega
    · rw [if_neg c]; exact hx
  rw [w1, w2, w3, w4]
  exact ⟨q, hq, hkq, key _ 1 hfa, key _ 2 hfb, key _ 3 hfc⟩
theorem i_vc_slice {k : Nat} {u : SX} {v : SY} (I : i_Rel k u v) (hk : k + 5 ≤ 2564) (v1 : Int32) (v2 : Int32) : wpX_slice (fun r u' => wpY_slice (fun r' v' => r' = r ∧ i_Rel (k + 5) u' v') v v1 v2) u v1 v2 := by
  refine ps_el (P := fun u v => wpX_slice (fun r u' => wpY_slice (fun r' v' => r' = r ∧ i_Rel (k + 5) u' v') v v1 v2) u v1 v2) I ?_
  intro ll vc il mc it n k fhs fcv fkp fdk fck fqs fhr K A B C T inp jf js rn us df ri pd co cl qu nw od rv rm rc rs rh rd ro rt gcl gcv code kep mk st res hF
  have hF' := hF
  obtain ⟨⟨l1, l2, l3, l4, l5, l6, l7, l8, l9, l10⟩, f2, f3, f4, f5, f6, f7, f8, f9, f10⟩ := hF
  by_cases c0 : v1 < 0
  · exact nm_r (e' := nI n) f2 (br_t c0 (nm_r (e' := nI n) f2 (br_t c0 (And.intro rfl (ps_in hF')))))
  obtain ⟨line, hline, rfl⟩ := nI_of c0
  by_cases c1 : line < n
  case neg =>
    have c1' : ¬ nI line < nI n := nI_nlt (by omega) (by omega)
    exact nm_r (e' := nI n) f2 (br_f c0 (br_f c1' (nm_r (e' := nI n) f2 (br_f c0 (br_f c1' (And.intro rfl (ps_in hF')))))))
  have c1' : nI line < nI n := nI_lt c1 (by omega)
  by_cases c2 : v2 < 0
  · exact nm_r (e' := nI n) f2 (br_f c0 (br_t c1' (br_t c2 (br_t rfl (nm_r (e' := nI n) f2 (br_f c0 (br_t c1' (br_t c2 (And.intro rfl (ps_in hF'))))))))))
  obtain ⟨v, hv, rfl⟩ := nI_of c2
  by_cases c3 : v < vc
  case neg =>
    have c3' : nI vc ≤ nI v := nI_le (by omega) (by omega)
    have c3'' : ¬ nI v < nI vc := nI_nlt (by omega) (by omega)
    exact nm_r (e' := nI n) f2 (br_f c0 (br_t c1' (br_f c2 (br_t c3' (br_t rfl (nm_r (e' := nI n) f2 (br_f c0 (br_t c1' (br_f c2 (br_f c3'' (And.intro rfl (ps_in hF'))))))))))))
  refine ps_xslice l4 (by omega) l2 c1 c3 f5 f2 (fun jf js rn us df ri pd co kp dk ck qu qs nw od K' A' B' C' hX hW hod => ?_)
  have hYH : ps_YH vc ll n K A B C code T := ⟨l4, l2, l9, f2, fun i hi => ⟨(f4 i).1.symm, (f4 i).2.1.symm, (f4 i).2.2.1.symm, (f4 i).2.2.2.symm⟩, f5⟩
  refine ps_yslice hYH c1 c3 (fun code' kep mk hK hY => ?_)
  have hb : ∀ i, i < 32 → ps_tb kp i = ps_kb kep i := by
    intro i hi
    have h1 := hX.2.2.2.1 i
    have h2 := hK i hi
    rw [Bool.eq_iff_iff, ps_kb_t, h1, h2]
  have hcn : ps_cn (ps_tb kp) n = ps_cn (ps_kb kep) n := ps_cn_eq n (fun j hj => hb j (by omega))
  rw [← hcn]
  have hle := ps_cn_le (ps_tb kp) n
  refine And.intro rfl (ps_in (n := n) (k := ps_cn (ps_tb kp) n) ⟨⟨l1, l2, l3, l4, l5, l6, l7, l8, l9, by omega⟩, ?_, pk_us, ps_CE_sl (by omega) f4 hb hW hY, fun i hi => ?_, ps_VL_sl l9 l2 f5 hW, Or.inr ⟨rfl, ?_⟩, Or.inl rfl, f9, f10⟩)
  · rw [pk_un (by decide)]; exact f2
  · obtain ⟨w1, w2, w3, w4⟩ := hW.1 i (Or.inl (by omega))
    rw [w1, w2, w3, w4]; exact f5 i hi
  · refine ⟨K, A, B, C, line, v, c1, c3, fun i hi => hW.1 i (Or.inl (by omega)), rfl, rfl, rfl, ?_, pk_us, hX, hod, rfl, hK⟩
    rw [pk_un (by decide), pk_us]
end
section
/-! ===== getters of runs and programs ===== -/
theorem ps_w2 (p : Int32) : (∃ w, w < 2 ∧ p = nI w) ∨ (¬ p = 0 ∧ ¬ p = 1) := by
  by_cases h0 : p = 0
  · exact Or.inl ⟨0, by omega, h0⟩
  · by_cases h1 : p = 1
    · exact Or.inl ⟨1, by omega, h1⟩
    · exact Or.inr ⟨h0, h1⟩
theorem ps_nl {x : Int32} {n : Nat} (hn : n < 2 ^ 31) (h : x < 0 ∨ nI n ≤ x) : ¬ ∃ j, j < n ∧ x = nI j := by
  rintro ⟨j, hj, rfl⟩
  rcases h with h | h
  · exact nI_pos (by omega) h
  · exact nI_ge hj hn h
theorem ps_ge0 {x : Int32} {n : Nat} (hn : n < 2 ^ 31) (c : nI n ≤ x) : ¬ x < 0 := by
  intro z
  rw [Int32.le_iff_toInt_le, nI_toInt (by omega)] at c
  rw [Int32.lt_iff_toInt_lt, show (0 : Int32).toInt = 0 from by decide] at z
  omega
section
variable {fll fvc fil fmc fit fhs fcv : Int32} {fkp fdk fck : Int64} {fqs fhr : Int32} {K A B C T inp jf js rn us df : Nat → Int32} {ri pd co : Nat → Int64} {cl qu nw od rv rm rc rs rh rd ro rt : Nat → Int32}
variable {gcl gcv gsl gra : Int32} {code cT kep mk st tr res : Nat → Int32}
variable {vc ll n : Nat}
theorem ps_xip1 {post : Int32 → Prop} {w : Nat} (hw : w < 2) (h : post 1) : wpX_isProgram post (fll, fvc, fil, fmc, fit, fhs, fcv, fkp, fdk, fck, fqs, fhr, K, A, B, C, T, inp, jf, js, rn, us, df, ri, pd, co, cl, qu, nw, od, rv, rm, rc, rs, rh, rd, ro, rt) (nI w) := by
  have h2 : w = 0 ∨ w = 1 := by omega
  rcases h2 with rfl | rfl
  · exact br_t rfl h
  · exact br_f (by decide) (br_t rfl h)
theorem ps_xip0 {post : Int32 → Prop} {p : Int32} (hp : ¬ p = 0 ∧ ¬ p = 1) (h : post 0) : wpX_isProgram post (fll, fvc, fil, fmc, fit, fhs, fcv, fkp, fdk, fck, fqs, fhr, K, A, B, C, T, inp, jf, js, rn, us, df, ri, pd, co, cl, qu, nw, od, rv, rm, rc, rs, rh, rd, ro, rt) p := br_f hp.1 (br_f hp.2 h)
theorem ps_xirT {post : Int32 → Prop} {w : Nat} (hr : ¬ fhr = 0) (hw : w < 2) (h : post 1) : wpX_isRecorded post (fll, fvc, fil, fmc, fit, fhs, fcv, fkp, fdk, fck, fqs, fhr, K, A, B, C, T, inp, jf, js, rn, us, df, ri, pd, co, cl, qu, nw, od, rv, rm, rc, rs, rh, rd, ro, rt) (nI w) :=
  br_f hr (ps_xip1 hw (br_f (by decide) h))
theorem ps_xirF {post : Int32 → Prop} {p : Int32} (hr : fhr = 0 ∨ (¬ p = 0 ∧ ¬ p = 1)) (h : post 0) : wpX_isRecorded post (fll, fvc, fil, fmc, fit, fhs, fcv, fkp, fdk, fck, fqs, fhr, K, A, B, C, T, inp, jf, js, rn, us, df, ri, pd, co, cl, qu, nw, od, rv, rm, rc, rs, rh, rd, ro, rt) p := by
  by_cases c : fhr = 0
  · exact br_t c h
  · exact br_f c (ps_xip0 (hr.resolve_left c) (br_t rfl h))
theorem ps_yroT {post : Int32 → Prop} {w j : Nat} (hr : ¬ gra = 0) (hw : w < 2) (hj : j < 4) (h : post (res (4 * w + j))) : wpY_resultOf post (fll, fvc, fil, fmc, fit, gcl, gcv, gsl, gra, code, cT, inp, kep, mk, st, tr, res) (nI w) (nI j) := by
  have e : nI w * 4 + nI j = nI (4 * w + j) := by
    rw [show (4 : Int32) = nI 4 from rfl, pk_mul, nI_add, Nat.mul_comm]
  have h16 : wY_resultOf_16 post (nI w) (nI j) fll fvc fil fmc fit gcl gcv gsl gra code cT inp kep mk st tr res := by
    refine And.intro (by rw [e]; exact vp_in_nI (by omega) (by omega)) ?_
    rw [e, nI_clamp (by omega)]; exact h
  have h2 : w = 0 ∨ w = 1 := by omega
  rcases h2 with rfl | rfl
  · exact br_f hr (br_t rfl h16)
  · exact br_f hr (br_f (by decide) (br_t rfl h16))
theorem ps_yroF {post : Int32 → Prop} {p x : Int32} (hr : gra = 0 ∨ (¬ p = 0 ∧ ¬ p = 1)) (h : post 0) : wpY_resultOf post (fll, fvc, fil, fmc, fit, gcl, gcv, gsl, gra, code, cT, inp, kep, mk, st, tr, res) p x := by
  by_cases c : gra = 0
  · exact br_t c h
  · exact br_f c (br_f (hr.resolve_left c).1 (br_f (hr.resolve_left c).2 h))
theorem ps_xil {post : Int32 → Prop} {x : Int32} (hn : n < 2 ^ 31) (hT : T 0 = nI n) (h1 : ∀ j, j < n → x = nI j → post 1) (h0 : (x < 0 ∨ nI n ≤ x) → post 0) : wpX_isLine post (fll, fvc, fil, fmc, fit, fhs, fcv, fkp, fdk, fck, fqs, fhr, K, A, B, C, T, inp, jf, js, rn, us, df, ri, pd, co, cl, qu, nw, od, rv, rm, rc, rs, rh, rd, ro, rt) x := by
  refine br_c (fun c => h0 (Or.inl c)) (fun c => ?_)
  rw [hT]
  refine br_c (fun c2 => h0 (Or.inr c2)) (fun c2 => ?_)
  obtain ⟨j, hj, rfl⟩ := nI_of c
  rw [nI_leI hn hj] at c2
  exact h1 j (by omega) rfl
theorem ps_xipl {post : Int32 → Prop} {x : Int32} (hn : n < 2 ^ 31) (hT : T 0 = nI n) (h1 : ∀ j, j ≤ n → x = nI j → post 1) (h0 : (x < 0 ∨ nI n < x) → post 0) : wpX_isPlace post (fll, fvc, fil, fmc, fit, fhs, fcv, fkp, fdk, fck, fqs, fhr, K, A, B, C, T, inp, jf, js, rn, us, df, ri, pd, co, cl, qu, nw, od, rv, rm, rc, rs, rh, rd, ro, rt) x := by
  refine br_c (fun c => h0 (Or.inl c)) (fun c => ?_)
  rw [hT]
  refine br_c (fun c2 => h0 (Or.inr c2)) (fun c2 => ?_)
  obtain ⟨j, hj, rfl⟩ := nI_of c
  rw [nI_ltI hn hj] at c2
  exact h1 j (by omega) rfl
end
theorem i_vc_outcome {k : Nat} {u : SX} {v : SY} (I : i_Rel k u v) (hk : k + 5 ≤ 2564) (v1 : Int32) : wpX_outcome (fun r => wpY_outcome (fun r' => r' = r ∧ i_Rel (k + 5) u v) v v1) u v1 := by
  refine ps_el (P := fun u v => wpX_outcome (fun r => wpY_outcome (fun r' => r' = r ∧ i_Rel (k + 5) u v) v v1) u v1) I ?_
  intro ll vc il mc it n k fhs fcv fkp fdk fck fqs fhr K A B C T inp jf js rn us df ri pd co cl qu nw od rv rm rc rs rh rd ro rt gcl gcv code kep mk st res hF
  have hF' := hF
  obtain ⟨_, _, _, _, _, _, _, _, _, f10⟩ := hF
  unfold wpX_outcome
  by_cases hr : fhr = 0
  · refine ps_xirF (Or.inl hr) (br_t rfl ?_)
    unfold wpY_outcome
    exact ps_yroF (Or.inl hr) (And.intro rfl (ps_in hF'))
  rcases ps_w2 v1 with ⟨w, hw, rfl⟩ | hp
  · refine ps_xirT hr hw (br_f (by decide) (And.intro (vp_in_nI hw (by omega)) ?_))
    unfold wpY_outcome
    refine ps_yroT (j := 0) hr hw (by omega) (And.intro ?_ (ps_in hF'))
    have h := f10 w hw
    rw [nI_clamp (by omega)]
    exact h.1.symm
  · refine ps_xirF (Or.inr hp) (br_t rfl ?_)
    unfold wpY_outcome
    exact ps_yroF (Or.inr hp) (And.intro rfl (ps_in hF'))
theorem i_vc_steps {k : Nat} {u : SX} {v : SY} (I : i_Rel k u v) (hk : k + 5 ≤ 2564) (v1 : Int32) : wpX_steps (fun r => wpY_steps (fun r' => r' = r ∧ i_Rel (k + 5) u v) v v1) u v1 := by
  refine ps_el (P := fun u v => wpX_steps (fun r => wpY_steps (fun r' => r' = r ∧ i_Rel (k + 5) u v) v v1) u v1) I ?_
  intro ll vc il mc it n k fhs fcv fkp fdk fck fqs fhr K A B C T inp jf js rn us df ri pd co cl qu nw od rv rm rc rs rh rd ro rt gcl gcv code kep mk st res hF
  have hF' := hF
  obtain ⟨_, _, _, _, _, _, _, _, _, f10⟩ := hF
  unfold wpX_steps
  by_cases hr : fhr = 0
  · refine ps_xirF (Or.inl hr) (br_t rfl ?_)
    unfold wpY_steps
    exact ps_yroF (Or.inl hr) (And.intro rfl (ps_in hF'))
  rcases ps_w2 v1 with ⟨w, hw, rfl⟩ | hp
  · refine ps_xirT hr hw (br_f (by decide) (And.intro (vp_in_nI hw (by omega)) ?_))
    unfold wpY_steps
    refine ps_yroT (j := 1) hr hw (by omega) (And.intro ?_ (ps_in hF'))
    have h := f10 w hw
    rw [nI_clamp (by omega)]
    exact h.2.1.symm
  · refine ps_xirF (Or.inr hp) (br_t rfl ?_)
    unfold wpY_steps
    exact ps_yroF (Or.inr hp) (And.intro rfl (ps_in hF'))
theorem i_vc_hits {k : Nat} {u : SX} {v : SY} (I : i_Rel k u v) (hk : k + 5 ≤ 2564) (v1 : Int32) : wpX_hits (fun r => wpY_hits (fun r' => r' = r ∧ i_Rel (k + 5) u v) v v1) u v1 := by
  refine ps_el (P := fun u v => wpX_hits (fun r => wpY_hits (fun r' => r' = r ∧ i_Rel (k + 5) u v) v v1) u v1) I ?_
  intro ll vc il mc it n k fhs fcv fkp fdk fck fqs fhr K A B C T inp jf js rn us df ri pd co cl qu nw od rv rm rc rs rh rd ro rt gcl gcv code kep mk st res hF
  have hF' := hF
  obtain ⟨_, _, _, _, _, _, _, _, _, f10⟩ := hF
  unfold wpX_hits
  by_cases hr : fhr = 0
  · refine ps_xirF (Or.inl hr) (br_t rfl ?_)
    unfold wpY_hits
    exact ps_yroF (Or.inl hr) (And.intro rfl (ps_in hF'))
  rcases ps_w2 v1 with ⟨w, hw, rfl⟩ | hp
  · refine ps_xirT hr hw (br_f (by decide) (And.intro (vp_in_nI hw (by omega)) ?_))
    unfold wpY_hits
    refine ps_yroT (j := 2) hr hw (by omega) (And.intro ?_ (ps_in hF'))
    have h := f10 w hw
    rw [nI_clamp (by omega)]
    exact h.2.2.1.symm
  · refine ps_xirF (Or.inr hp) (br_t rfl ?_)
    unfold wpY_hits
    exact ps_yroF (Or.inr hp) (And.intro rfl (ps_in hF'))
theorem i_vc_digest {k : Nat} {u : SX} {v : SY} (I : i_Rel k u v) (hk : k + 5 ≤ 2564) (v1 : Int32) : wpX_digest (fun r => wpY_digest (fun r' => r' = r ∧ i_Rel (k + 5) u v) v v1) u v1 := by
  refine ps_el (P := fun u v => wpX_digest (fun r => wpY_digest (fun r' => r' = r ∧ i_Rel (k + 5) u v) v v1) u v1) I ?_
  intro ll vc il mc it n k fhs fcv fkp fdk fck fqs fhr K A B C T inp jf js rn us df ri pd co cl qu nw od rv rm rc rs rh rd ro rt gcl gcv code kep mk st res hF
  have hF' := hF
  obtain ⟨_, _, _, _, _, _, _, _, _, f10⟩ := hF
  unfold wpX_digest
  by_cases hr : fhr = 0
  · refine ps_xirF (Or.inl hr) (br_t rfl ?_)
    unfold wpY_digest
    exact ps_yroF (Or.inl hr) (And.intro rfl (ps_in hF'))
  rcases ps_w2 v1 with ⟨w, hw, rfl⟩ | hp
  · refine ps_xirT hr hw (br_f (by decide) (And.intro (vp_in_nI hw (by omega)) ?_))
    unfold wpY_digest
    refine ps_yroT (j := 3) hr hw (by omega) (And.intro ?_ (ps_in hF'))
    have h := f10 w hw
    rw [nI_clamp (by omega)]
    exact h.2.2.2.symm
  · refine ps_xirF (Or.inr hp) (br_t rfl ?_)
    unfold wpY_digest
    exact ps_yroF (Or.inr hp) (And.intro rfl (ps_in hF'))
theorem i_vc_lineCount {k : Nat} {u : SX} {v : SY} (I : i_Rel k u v) (hk : k + 5 ≤ 2564) (v1 : Int32) : wpX_lineCount (fun r => wpY_lineCount (fun r' => r' = r ∧ i_Rel (k + 5) u v) v v1) u v1 := by
  refine ps_el (P := fun u v => wpX_lineCount (fun r => wpY_lineCount (fun r' => r' = r ∧ i_Rel (k + 5) u v) v v1) u v1) I ?_
  intro ll vc il mc it n k fhs fcv fkp fdk fck fqs fhr K A B C T inp jf js rn us df ri pd co cl qu nw od rv rm rc rs rh rd ro rt gcl gcv code kep mk st res hF
  unfold wpX_lineCount
  rcases ps_w2 v1 with ⟨w, hw, rfl⟩ | hp
  · refine ps_xip1 hw (br_f (by decide) (And.intro (vp_in_nI hw (by omega)) ?_))
    have h2 : w = 0 ∨ w = 1 := by omega
    rcases h2 with rfl | rfl
    · exact br_t rfl (And.intro (vp_in_nI hw (by omega)) (And.intro rfl (ps_in hF)))
    · exact br_f (by decide) (br_t rfl (And.intro (vp_in_nI hw (by omega)) (And.intro rfl (ps_in hF))))
  · exact ps_xip0 hp (br_t rfl (br_f hp.1 (br_f hp.2 (And.intro rfl (ps_in hF)))))
theorem i_vc_criterion {k : Nat} {u : SX} {v : SY} (I : i_Rel k u v) (hk : k + 5 ≤ 2564) (v1 : Int32) : wpX_criterion (fun r => wpY_criterion (fun r' => r' = r ∧ i_Rel (k + 5) u v) v v1) u v1 := by
  refine ps_el (P := fun u v => wpX_criterion (fun r => wpY_criterion (fun r' => r' = r ∧ i_Rel (k + 5) u v) v v1) u v1) I ?_
  intro ll vc il mc it n k fhs fcv fkp fdk fck fqs fhr K A B C T inp jf js rn us df ri pd co cl qu nw od rv rm rc rs rh rd ro rt gcl gcv code kep mk st res hF
  have hF' := hF
  obtain ⟨_, f2, f3, f4, f5, f6, f7, f8, f9, f10⟩ := hF
  rcases f7 with c | ⟨c, hS⟩
  · exact br_t c (br_t c (And.intro rfl (ps_in hF')))
  have c' : ¬ fhs = 0 := by rw [c]; decide
  obtain ⟨K0, A0, B0, C0, line, v, s1, s2, s3, s4, s5, s6, s7, s8, s9, s10, s11, s12⟩ := hS
  refine br_f c' ?_
  by_cases h0 : v1 = 0
  · subst h0
    exact br_t rfl (br_f c' (br_f (by decide) (br_t (by decide) (br_t rfl (And.intro (s5.trans s7.symm) (ps_in hF'))))))
  refine br_f h0 ?_
  by_cases h1 : v1 = 1
  · subst h1
    exact br_t rfl (br_f c' (br_f (by decide) (br_t (by decide) (br_f (by decide) (And.intro (s6.trans s4.symm) (ps_in hF'))))))
  refine br_f h1 (br_f c' (br_c (fun _ => And.intro rfl (ps_in hF')) (fun d => br_c (fun d2 => ?_) (fun _ => And.intro rfl (ps_in hF')))))
  exfalso
  obtain ⟨j, hj, rfl⟩ := nI_of2 (M := 1) (n := 1) (by decide) d d2
  have h2 : j = 0 ∨ j = 1 := by omega
  rcases h2 with rfl | rfl
  · exact h0 rfl
  · exact h1 rfl
theorem i_vc_trace {k : Nat} {u : SX} {v : SY} (I : i_Rel k u v) (hk : k + 5 ≤ 2564) (v1 : Int32) (v2 : Int32) : wpX_trace (fun r => wpY_trace (fun r' => r' = r ∧ i_Rel (k + 5) u v) v v1 v2) u v1 v2 := by
  refine ps_el (P := fun u v => wpX_trace (fun r => wpY_trace (fun r' => r' = r ∧ i_Rel (k + 5) u v) v v1 v2) u v1 v2) I ?_
  intro ll vc il mc it n k fhs fcv fkp fdk fck fqs fhr K A B C T inp jf js rn us df ri pd co cl qu nw od rv rm rc rs rh rd ro rt gcl gcv code kep mk st res hF
  have hF' := hF
  obtain ⟨_, _, _, _, _, _, _, _, _, f10⟩ := hF
  unfold wpX_trace
  have nope : (fhr = 0 ∨ (¬ v1 = 0 ∧ ¬ v1 = 1)) → wpY_trace (fun r' => r' = 0 ∧ i_Rel (k + 5) (nI ll, nI vc, nI il, nI mc, nI it, fhs, fcv, fkp, fdk, fck, fqs, fhr, K, A, B, C, T, inp, jf, js, rn, us, df, ri, pd, co, cl, qu, nw, od, rv, rm, rc, rs, rh, rd, ro, rt) (nI ll, nI vc, nI il, nI mc, nI it, gcl, gcv, fhs, fhr, code, T, inp, kep, mk, st, rt, res)) (nI ll, nI vc, nI il, nI mc, nI it, gcl, gcv, fhs, fhr, code, T, inp, kep, mk, st, rt, res) v1 v2 := by
    intro hr
    refine br_c (fun _ => And.intro rfl (ps_in hF')) (fun d => ?_)
    unfold wpY_hits
    exact ps_yroF hr (br_t (Int32.not_lt.mp d) (And.intro rfl (ps_in hF')))
  by_cases hr : fhr = 0
  · exact ps_xirF (Or.inl hr) (br_t rfl (nope (Or.inl hr)))
  rcases ps_w2 v1 with ⟨w, hw, rfl⟩ | hp
  · have e : (nI w).toNatClampNeg = w := nI_clamp (by omega)
    have h10 : rh w = res (4 * w + 2) := (f10 w hw).2.2.1
    refine ps_xirT hr hw (br_f (by decide) ?_)
    by_cases d : v2 < 0
    · exact br_t d (br_t d (And.intro rfl (ps_in hF')))
    refine br_f d (And.intro (vp_in_nI hw (by omega)) ?_)
    rw [e]
    have yh : ∀ post : Int32 → Prop, post (rh w) → wpY_hits post (nI ll, nI vc, nI il, nI mc, nI it, gcl, gcv, fhs, fhr, code, T, inp, kep, mk, st, rt, res) (nI w) := by
      intro post hp
      unfold wpY_hits
      refine ps_yroT (j := 2) hr hw (by omega) ?_
      rw [← h10]; exact hp
    by_cases c1 : rh w ≤ v2
    · exact br_t c1 (br_f d (yh _ (br_t c1 (And.intro rfl (ps_in hF')))))
    refine br_f c1 ?_
    by_cases c2 : v2 < 256
    · obtain ⟨j, hj, rfl⟩ := nI_of d
      rw [show (256 : Int32) = nI 256 from rfl, nI_ltI hj (by omega)] at c2
      have ei : nI w * 256 + nI j = nI (256 * w + j) := by
        rw [show (256 : Int32) = nI 256 from rfl, pk_mul, nI_add, Nat.mul_comm]
      have hin : vp_in (nI w * 256 + nI j) 512 := by rw [ei]; exact vp_in_nI (by omega) (by omega)
      exact br_t (nI_lt (b := 256) c2 (by omega)) (And.intro hin (br_f d (yh _ (br_f c1 (br_f (nI_ge (b := 256) c2 (by omega)) (And.intro hin (And.intro rfl (ps_in hF'))))))))
    · exact br_f c2 (br_f d (yh _ (br_f c1 (br_t (Int32.not_lt.mp c2) (And.intro rfl (ps_in hF'))))))
  · exact ps_xirF (Or.inr hp) (br_t rfl (nope (Or.inr hp)))
theorem i_vc_field {k : Nat} {u : SX} {v : SY} (I : i_Rel k u v) (hk : k + 5 ≤ 2564) (v1 : Int32) (v2 : Int32) (v3 : Int32) : wpX_field (fun r => wpY_field (fun r' => r' = r ∧ i_Rel (k + 5) u v) v v1 v2 v3) u v1 v2 v3 := by
  refine ps_el (P := fun u v => wpX_field (fun r => wpY_field (fun r' => r' = r ∧ i_Rel (k + 5) u v) v v1 v2 v3) u v1 v2 v3) I ?_
  intro ll vc il mc it n k fhs fcv fkp fdk fck fqs fhr K A B C T inp jf js rn us df ri pd co cl qu nw od rv rm rc rs rh rd ro rt gcl gcv code kep mk st res hF
  have hF' := hF
  obtain ⟨⟨l1, l2, l3, l4, l5, l6, l7, l8, l9, l10⟩, f2, f3, f4, f5, f6, f7, f8, f9, f10⟩ := hF
  unfold wpX_field
  rcases ps_w2 v1 with ⟨w, hw, rfl⟩ | hp
  · have e : (nI w).toNatClampNeg = w := nI_clamp (by omega)
    have hin : vp_in (nI w) 2 := vp_in_nI hw (by omega)
    obtain ⟨t, ht, hTw⟩ : ∃ t, t ≤ 32 ∧ T w = nI t := by
      have h2 : w = 0 ∨ w = 1 := by omega
      rcases h2 with rfl | rfl
      · exact ⟨n, by omega, f2⟩
      · exact ⟨k, by omega, f3⟩
    have yl : ∀ post : Int32 → Prop, post (nI t) → wpY_lineCount post (nI ll, nI vc, nI il, nI mc, nI it, gcl, gcv, fhs, fhr, code, T, inp, kep, mk, st, rt, res) (nI w) := by
      intro post hp
      rw [← hTw] at hp
      have h2 : w = 0 ∨ w = 1 := by omega
      rcases h2 with rfl | rfl
      · exact br_t rfl (And.intro hin hp)
      · exact br_f (by decide) (br_t rfl (And.intro hin hp))
    refine ps_xip1 hw (br_f (by decide) ?_)
    by_cases d : v2 < 0
    · exact br_t d (br_t d (And.intro rfl (ps_in hF')))
    refine br_f d (And.intro hin ?_)
    rw [e, hTw]
    obtain ⟨i, hi, rfl⟩ := nI_of d
    by_cases c : i < t
    · have c' : nI i < nI t := nI_lt c (by omega)
      have ei : nI w * 32 + nI i = nI (32 * w + i) := by
        rw [show (32 : Int32) = nI 32 from rfl, pk_mul, nI_add, Nat.mul_comm]
      have hix : vp_in (nI (32 * w + i)) 64 := vp_in_nI (by omega) (by omega)
      have ec : (nI (32 * w + i)).toNatClampNeg = 32 * w + i := nI_clamp (by omega)
      obtain ⟨g0, g1, g2, g3⟩ := f4 (32 * w + i)
      have yf : ∀ (j : Nat) (x : Int32), j ≤ 3 → code (4 * (32 * w + i) + j) = x → wpY_field (fun r' => r' = x ∧ i_Rel (k + 5) (nI ll, nI vc, nI il, nI mc, nI it, fhs, fcv, fkp, fdk, fck, fqs, fhr, K, A, B, C, T, inp, jf, js, rn, us, df, ri, pd, co, cl, qu, nw, od, rv, rm, rc, rs, rh, rd, ro, rt) (nI ll, nI vc, nI il, nI mc, nI it, gcl, gcv, fhs, fhr, code, T, inp, kep, mk, st, rt, res)) (nI ll, nI vc, nI il, nI mc, nI it, gcl, gcv, fhs, fhr, code, T, inp, kep, mk, st, rt, res) (nI w) (nI i) (nI j) := by
        intro j x hj hx
        have ej : (nI w * 128 + nI i * 4) + nI j = nI (4 * (32 * w + i) + j) := by
          rw [show (4 : Int32) = nI 4 from rfl, show (128 : Int32) = nI 128 from rfl, pk_mul, pk_mul, nI_add, nI_add]
          exact congrArg nI (by omega)
        refine br_f d (yl _ (br_f (nI_ge c (by omega)) (br_f (nI_pos (n := j) (by omega)) (br_t (nI_le (b := 3) hj (by omega)) ?_))))
        rw [ej]
        refine And.intro (vp_in_nI (by omega) (by omega)) (And.intro ?_ (ps_in hF'))
        rw [nI_clamp (by omega)]; exact hx
      refine br_t c' (nm_r ei ?_)
      by_cases d3 : v3 < 0
      · exact br_t d3 (br_f d (yl _ (br_f (nI_ge c (by omega)) (br_t d3 (And.intro rfl (ps_in hF'))))))
      by_cases d4 : v3 ≤ 3
      case neg => exact br_f d3 (br_t (Int32.not_le.mp d4) (br_f d (yl _ (br_f (nI_ge c (by omega)) (br_f d3 (br_f d4 (And.intro rfl (ps_in hF')))))))) 
      obtain ⟨j, hj, rfl⟩ := nI_of2 (M := 3) (n := 3) (by decide) d3 d4
      refine br_f d3 (br_f (Int32.not_lt.mpr d4) ?_)
      have h4 : j = 0 ∨ j = 1 ∨ j = 2 ∨ j = 3 := by omega
      rcases h4 with rfl | rfl | rfl | rfl
      · refine br_t rfl (And.intro hix ?_)
        rw [ec]; exact yf 0 _ (by omega) g0.symm
      · refine br_f (by decide) (br_t rfl (And.intro hix ?_))
        rw [ec]; exact yf 1 _ (by omega) g1.symm
      · refine br_f (by decide) (br_f (by decide) (br_t rfl (And.intro hix ?_)))
        rw [ec]; exact yf 2 _ (by omega) g2.symm
      · refine br_f (by decide) (br_f (by decide) (br_f (by decide) (br_t rfl (And.intro hix ?_))))
        rw [ec]; exact yf 3 _ (by omega) g3.symm
    · exact br_f (nI_nlt (by omega) (by omega)) (br_f d (yl _ (br_t (nI_le (by omega) (by omega)) (And.intro rfl (ps_in hF')))))
  · refine ps_xip0 hp (br_t rfl (br_c (fun _ => And.intro rfl (ps_in hF')) (fun d => ?_)))
    exact br_f hp.1 (br_f hp.2 (br_t (Int32.not_lt.mp d) (And.intro rfl (ps_in hF'))))
theorem i_vc_finalValue {k : Nat} {u : SX} {v : SY} (I : i_Rel k u v) (hk : k + 5 ≤ 2564) (v1 : Int32) (v2 : Int32) : wpX_finalValue (fun r => wpY_finalValue (fun r' => r' = r ∧ i_Rel (k + 5) u v) v v1 v2) u v1 v2 := by
  refine ps_el (P := fun u v => wpX_finalValue (fun r => wpY_finalValue (fun r' => r' = r ∧ i_Rel (k + 5) u v) v v1 v2) u v1 v2) I ?_
  intro ll vc il mc it n k fhs fcv fkp fdk fck fqs fhr K A B C T inp jf js rn us df ri pd co cl qu nw od rv rm rc rs rh rd ro rt gcl gcv code kep mk st res hF
  have hF' := hF
  obtain ⟨⟨l1, l2, l3, l4, l5, l6, l7, l8, l9, l10⟩, f2, f3, f4, f5, f6, f7, f8, f9, f10⟩ := hF
  unfold wpX_finalValue
  by_cases hr : fhr = 0
  · exact ps_xirF (Or.inl hr) (br_t rfl (br_t hr (And.intro rfl (ps_in hF'))))
  rcases ps_w2 v1 with ⟨w, hw, rfl⟩ | hp
  · have e : (nI w).toNatClampNeg = w := nI_clamp (by omega)
    obtain ⟨g1, g2, g3⟩ := f9 w hw
    have em : (16 : Int32) + nI mc = nI (16 + mc) := by rw [show (16 : Int32) = nI 16 from rfl, nI_add]
    have w0 : ¬ nI w < 0 := nI_pos (by omega)
    have w1 : nI w ≤ 1 := nI_le (b := 1) (by omega) (by omega)
    refine ps_xirT hr hw (br_f (by decide) ?_)
    have ei : ∀ j, nI w * 32 + nI j = nI (32 * w + j) := by
      intro j
      rw [show (32 : Int32) = nI 32 from rfl, pk_mul, nI_add, Nat.mul_comm]
    have y75 : ∀ (j : Nat) (x : Int32), j < 32 → st (32 * w + j) = x → wY_finalValue_75 (fun r' => r' = x ∧ i_Rel (k + 5) (nI ll, nI vc, nI il, nI mc, nI it, fhs, fcv, fkp, fdk, fck, fqs, fhr, K, A, B, C, T, inp, jf, js, rn, us, df, ri, pd, co, cl, qu, nw, od, rv, rm, rc, rs, rh, rd, ro, rt) (nI ll, nI vc, nI il, nI mc, nI it, gcl, gcv, fhs, fhr, code, T, inp, kep, mk, st, rt, res)) (nI w) (nI j) (nI ll) (nI vc) (nI il) (nI mc) (nI it) gcl gcv fhs fhr code T inp kep mk st rt res := by
      intro j x hj hx
      refine And.intro (by rw [ei]; exact vp_in_nI (by omega) (by omega)) (And.intro ?_ (ps_in hF'))
      rw [ei, nI_clamp (by omega)]; exact hx
    -- not a variable: Y goes to its join 34
    have y34n : ∀ x2 : Int32, ¬ x2 = 8 → (x2 < 16 ∨ nI (16 + mc) ≤ x2) → wY_finalValue_34 (fun r' => r' = 0 ∧ i_Rel (k + 5) (nI ll, nI vc, nI il, nI mc, nI it, fhs, fcv, fkp, fdk, fck, fqs, fhr, K, A, B, C, T, inp, jf, js, rn, us, df, ri, pd, co, cl, qu, nw, od, rv, rm, rc, rs, rh, rd, ro, rt) (nI ll, nI vc, nI il, nI mc, nI it, gcl, gcv, fhs, fhr, code, T, inp, kep, mk, st, rt, res)) (nI w) x2 (nI ll) (nI vc) (nI il) (nI mc) (nI it) gcl gcv fhs fhr code T inp kep mk st rt res := by
      intro x2 h8 h16
      have h57 : wY_finalValue_57 (fun r' => r' = 0 ∧ i_Rel (k + 5) (nI ll, nI vc, nI il, nI mc, nI it, fhs, fcv, fkp, fdk, fck, fqs, fhr, K, A, B, C, T, inp, jf, js, rn, us, df, ri, pd, co, cl, qu, nw, od, rv, rm, rc, rs, rh, rd, ro, rt) (nI ll, nI vc, nI il, nI mc, nI it, gcl, gcv, fhs, fhr, code, T, inp, kep, mk, st, rt, res)) (nI w) x2 0 (nI ll) (nI vc) (nI il) (nI mc) (nI it) gcl gcv fhs fhr code T inp kep mk st rt res := br_t rfl (br_t rfl (br_f h8 (And.intro rfl (ps_in hF'))))
      refine br_c (fun _ => h57) (fun c => br_t ?_ h57)
      rw [em]; exact h16.resolve_left c
    refine ps_xiv (vc := vc) (by omega) (fun j hj e2 => ?_) (fun hz => br_t rfl ?_)
    · subst e2
      have ej : nI w * 8 + nI j = nI (8 * w + j) := by
        rw [show (8 : Int32) = nI 8 from rfl, pk_mul, nI_add, Nat.mul_comm]
      refine br_f (by decide) (And.intro (by rw [ej]; exact vp_in_nI (by omega) (by omega)) ?_)
      rw [ej, nI_clamp (by omega)]
      refine br_f hr (br_f w0 (br_t w1 (br_f (nI_pos (by omega)) (br_f (nI_ge hj (by omega)) (br_t (nI_lt (b := 16) (by omega) (by omega)) (br_f (by decide) ?_))))))
      exact y75 j _ (by omega) (g1 j (by omega)).symm
    · have yv : ∀ post : Int32 → Prop, wY_finalValue_34 post (nI w) v2 (nI ll) (nI vc) (nI il) (nI mc) (nI it) gcl gcv fhs fhr code T inp kep mk st rt res → wpY_finalValue post (nI ll, nI vc, nI il, nI mc, nI it, gcl, gcv, fhs, fhr, code, T, inp, kep, mk, st, rt, res) (nI w) v2 := by
        intro post h34
        refine br_f hr (br_f w0 (br_t w1 (br_c (fun _ => h34) (fun c => br_t (hz.resolve_left c) h34))))
      by_cases h8 : v2 = 8
      · subst h8
        refine br_t rfl (And.intro (vp_in_nI hw (by omega)) (yv _ ?_))
        rw [e]
        refine br_t (by decide) (br_t rfl (br_t rfl (br_t rfl ?_)))
        exact y75 8 _ (by omega) g3.symm
      refine br_f h8 ?_
      by_cases h16 : v2 < 16
      · exact br_t h16 (yv _ (y34n v2 h8 (Or.inl h16)))
      refine br_f h16 ?_
      rw [em]
      by_cases hm : nI (16 + mc) ≤ v2
      · exact br_t hm (yv _ (y34n v2 h8 (Or.inr hm)))
      refine br_f hm ?_
      have h0 : ¬ v2 < 0 := fun z => h16 (Int32.lt_trans z (by decide))
      obtain ⟨j, hj, rfl⟩ := nI_of h0
      rw [show (16 : Int32) = nI 16 from rfl, nI_ltI hj (by omega)] at h16
      have hm' := hm
      rw [nI_leI (by omega) hj] at hm'
      have ej : (nI w * 16 + nI j) - 16 = nI (16 * w + (j - 16)) := by
        rw [show (16 : Int32) = nI 16 from rfl, pk_mul, nI_add, pk_sub (by omega)]
        exact congrArg nI (by omega)
      refine And.intro (by rw [ej]; exact vp_in_nI (by omega) (by omega)) (yv _ ?_)
      rw [ej, nI_clamp (by omega)]
      refine br_f (nI_nlt (b := 16) (by omega) (by omega)) (br_f (by rw [em]; exact hm) (br_t rfl (br_f (by decide) ?_)))
      refine y75 j _ (by omega) ?_
      rw [g2 (j - 16) (by omega)]
      exact congrArg st (by omega)
  · refine ps_xirF (Or.inr hp) (br_t rfl (br_f hr (br_c (fun _ => And.intro rfl (ps_in hF')) (fun c => br_c (fun c2 => ?_) (fun _ => And.intro rfl (ps_in hF'))))))
    exfalso
    obtain ⟨j, hj, rfl⟩ := nI_of2 (M := 1) (n := 1) (by decide) c c2
    have h2 : j = 0 ∨ j = 1 := by omega
    rcases h2 with rfl | rfl
    · exact hp.1 rfl
    · exact hp.2 rfl
end
section
/-! ===== getters of facts: origin, why, reaches, postDominates, controls ===== -/
/-- Y's searches after a slice -/
theorem ps_YHs {vc ll n : Nat} {K A B C K0 A0 B0 C0 code T : Nat → Int32} (l4 : vc ≤ 8) (l2 : ll ≤ 32) (l9 : n ≤ ll) (f2 : T 0 = nI n) (f4 : ps_CE K A B C code) (f5 : ps_VP vc ll n K A B C) (s3 : ∀ i, i < n → K i = K0 i ∧ A i = A0 i ∧ B i = B0 i ∧ C i = C0 i) : ps_YH vc ll n K0 A0 B0 C0 code T := by
  refine ⟨l4, l2, l9, f2, fun i hi => ?_, fun i hi => ?_⟩
  · obtain ⟨e1, e2, e3, e4⟩ := s3 i hi
    obtain ⟨g1, g2, g3, g4⟩ := f4 i
    exact ⟨g1.symm.trans e1, g2.symm.trans e2, g3.symm.trans e3, g4.symm.trans e4⟩
  · obtain ⟨e1, e2, e3, e4⟩ := s3 i hi
    rw [← e1, ← e2, ← e3, ← e4]
    exact f5 i hi
section
variable {fll fvc fil fmc fit fhs fcv : Int32} {fkp fdk fck : Int64} {fqs fhr : Int32} {K A B C T inp jf js rn us df : Nat → Int32} {ri pd co : Nat → Int64} {cl qu nw od rv rm rc rs rh rd ro rt : Nat → Int32}
variable {gcl gcv gsl gra : Int32} {code cT kep mk st tr res : Nat → Int32}
variable {vc ll n : Nat}
theorem ps_yor2 {post : Int32 → Prop} {x : Int32} (hs : ¬ gsl = 0) (hn : n ≤ 32) (hT : cT 0 = nI n) (h1 : ∀ m, m < n → kep m ≠ 0 → nI (ps_cn (ps_kb kep) m) = x → post (nI m)) (h0 : (∀ m, m < n → kep m ≠ 0 → ¬ nI (ps_cn (ps_kb kep) m) = x) → post (-1)) :
    ∀ d i, i + d = n → (∀ m, m < i → kep m ≠ 0 → ¬ nI (ps_cn (ps_kb kep) m) = x) → wY_origin_2 post x fll fvc fil fmc fit gcl gcv gsl gra code cT inp kep mk st tr res (d + 1) (nI i) := by
  intro d
  induction d with
  | zero =>
    intro i hd hN
    have e : i = n := by omega
    subst e
    exact br_f hs (br_t (by rw [hT]; exact nI_le (Nat.le_refl _) (by omega)) (h0 hN))
  | succ d ih =>
    intro i hd hN
    have hi : i < n := by omega
    have e : (nI i).toNatClampNeg = i := nI_clamp (by omega)
    refine br_f hs (br_f (by rw [hT]; exact nI_ge hi (by omega)) (And.intro (vp_in_nI (by omega) (by omega)) (br_c (fun c => nm_r (nI_1 i) ?_) (fun c => ps_ykb (by omega) (br_c (fun c2 => h1 i hi (by rw [e] at c; exact c) c2) (fun c2 => nm_r (nI_1 i) ?_))))))
    · rw [e] at c
      refine ih (i + 1) (by omega) (fun m hm hk => ?_)
      by_cases em : m = i
      · subst em; exact absurd c hk
      · exact hN m (by omega) hk
    · refine ih (i + 1) (by omega) (fun m hm hk => ?_)
      by_cases em : m = i
      · subst em; exact c2
      · exact hN m (by omega) hk
end
theorem i_vc_origin {k : Nat} {u : SX} {v : SY} (I : i_Rel k u v) (hk : k + 5 ≤ 2564) (v1 : Int32) : wpX_origin (fun r => wpY_origin (fun r' => r' = r ∧ i_Rel (k + 5) u v) v v1) u v1 := by
  refine ps_el (P := fun u v => wpX_origin (fun r => wpY_origin (fun r' => r' = r ∧ i_Rel (k + 5) u v) v v1) u v1) I ?_
  intro ll vc il mc it n k fhs fcv fkp fdk fck fqs fhr K A B C T inp jf js rn us df ri pd co cl qu nw od rv rm rc rs rh rd ro rt gcl gcv code kep mk st res hF
  have hF' := hF
  obtain ⟨⟨l1, l2, l3, l4, l5, l6, l7, l8, l9, l10⟩, f2, f3, f4, f5, f6, f7, f8, f9, f10⟩ := hF
  rcases f7 with c | ⟨c, hS⟩
  · exact br_t c (Exists.intro 1 (br_t c (And.intro rfl (ps_in hF'))))
  have c' : ¬ fhs = 0 := by rw [c]; decide
  obtain ⟨K0, A0, B0, C0, line, v, s1, s2, s3, s4, s5, s6, s7, s8, s9, s10, s11, s12⟩ := hS
  have hb : ∀ i, i < 32 → ps_tb fkp i = ps_kb kep i := by
    intro i hi
    rw [Bool.eq_iff_iff, ps_kb_t, s9.2.2.2.1 i, s12 i hi]
  have hcn : ∀ i, i ≤ 32 → ps_cn (ps_tb fkp) i = ps_cn (ps_kb kep) i := fun i hi => ps_cn_eq i (fun j hj => hb j (by omega))
  have yor : ∀ post : Int32 → Prop, (∀ m, m < n → kep m ≠ 0 → nI (ps_cn (ps_kb kep) m) = v1 → post (nI m)) → ((∀ m, m < n → kep m ≠ 0 → ¬ nI (ps_cn (ps_kb kep) m) = v1) → post (-1)) → wpY_origin post (nI ll, nI vc, nI il, nI mc, nI it, gcl, gcv, fhs, fhr, code, T, inp, kep, mk, st, rt, res) v1 :=
    fun post h1 h0 => Exists.intro (n + 1) (ps_yor2 c' (by omega) f2 h1 h0 n 0 (by omega) (fun m hm => absurd hm (Nat.not_lt_zero m)))
  have hle := ps_cn_le (ps_tb fkp) n
  have hlt : ∀ m, m < n → kep m ≠ 0 → ps_cn (ps_kb kep) m < k := by
    intro m hm hkm
    have h1 := ps_cn_mon (ps_kb kep) (show m + 1 ≤ n by omega)
    rw [ps_cn_t (ps_kb_t.mpr hkm), ← hcn n (by omega), ← s11] at h1
    omega
  have none' : (v1 < 0 ∨ nI k ≤ v1) → wpY_origin (fun r' => r' = -1 ∧ i_Rel (k + 5) (nI ll, nI vc, nI il, nI mc, nI it, fhs, fcv, fkp, fdk, fck, fqs, fhr, K, A, B, C, T, inp, jf, js, rn, us, df, ri, pd, co, cl, qu, nw, od, rv, rm, rc, rs, rh, rd, ro, rt) (nI ll, nI vc, nI il, nI mc, nI it, gcl, gcv, fhs, fhr, code, T, inp, kep, mk, st, rt, res)) (nI ll, nI vc, nI il, nI mc, nI it, gcl, gcv, fhs, fhr, code, T, inp, kep, mk, st, rt, res) v1 := by
    intro hv
    refine yor _ (fun m hm hkm e => ?_) (fun _ => And.intro rfl (ps_in hF'))
    exact absurd ⟨_, hlt m hm hkm, e.symm⟩ (ps_nl (by omega) hv)
  refine br_f c' ?_
  by_cases d : v1 < 0
  · exact br_t d (none' (Or.inl d))
  refine br_f d ?_
  rw [f3]
  obtain ⟨j, hj, rfl⟩ := nI_of d
  by_cases d2 : j < k
  · refine br_t (nI_lt d2 (by omega)) (And.intro (vp_in_nI (by omega) (by omega)) ?_)
    rw [nI_clamp (by omega)]
    obtain ⟨i, hi, hki, hci⟩ := ps_cn_ex (P := ps_tb fkp) n j (by omega)
    have ho := s10 i hi hki
    rw [hci] at ho
    rw [ho]
    refine yor _ (fun m hm hkm e => And.intro ?_ (ps_in hF')) (fun hN => ?_)
    · have hm32 : m < 32 := by omega
      have hlt' := hlt m hm hkm
      rw [nI_eq (by omega) (by omega), ← hcn m (by omega)] at e
      have hkt : ps_tb fkp m = true := by rw [hb m hm32]; exact ps_kb_t.mpr hkm
      rw [ps_cn_inj hkt hki (e.trans hci.symm)]
    · refine absurd ?_ (hN i hi (ps_kb_t.mp (by rw [← hb i (by omega)]; exact hki)))
      rw [← hcn i (by omega), hci]
  · exact br_f (nI_nlt (by omega) (by omega)) (none' (Or.inr (nI_le (by omega) hj)))
theorem ps_wx (a b : Bool) (x : Int32) {P Q : Prop} {post : Int32 → Prop} (h : post (x + (if a = true then 2 else 0) + (if b = true then 4 else 0))) (ha : a = true ↔ P) (hb : b = true ↔ Q) :
    (P → Q → post (x + 2 + 4)) ∧ (P → ¬ Q → post (x + 2)) ∧ (¬ P → Q → post (x + 4)) ∧ (¬ P → ¬ Q → post x) := by
  refine ⟨fun p q => ?_, fun p q => ?_, fun p q => ?_, fun p q => ?_⟩
  · rw [if_pos (ha.mpr p), if_pos (hb.mpr q)] at h; exact h
  · rw [if_pos (ha.mpr p), if_neg (fun z => q (hb.mp z)), Int32.add_zero] at h; exact h
  · rw [if_neg (fun z => p (ha.mp z)), if_pos (hb.mpr q), Int32.add_zero] at h; exact h
  · rw [if_neg (fun z => p (ha.mp z)), if_neg (fun z => q (hb.mp z)), Int32.add_zero, Int32.add_zero] at h; exact h
section
variable {fll fvc fil fmc fit fhs fcv : Int32} {fkp fdk fck : Int64} {fqs fhr : Int32} {K A B C T inp jf js rn us df : Nat → Int32} {ri pd co : Nat → Int64} {cl qu nw od rv rm rc rs rh rd ro rt : Nat → Int32}
variable {gcl gcv gsl gra : Int32} {code cT kep mk st tr res : Nat → Int32}
theorem ps_xw46 {post : Int32 → Prop} {i : Nat} {x : Int32} (hi : i < 64) (h : post (x + (if ps_tb fdk i = true then 2 else 0) + (if ps_tb fck i = true then 4 else 0))) : wX_why_46 post (nI i) x fll fvc fil fmc fit fhs fcv fkp fdk fck fqs fhr K A B C T inp jf js rn us df ri pd co cl qu nw od rv rm rc rs rh rd ro rt := by
  have hw := ps_wx (ps_tb fdk i) (ps_tb fck i) x h Iff.rfl Iff.rfl
  refine ps_xhb hi (fun a => br_f (by decide) (nm_e (ps_xhb hi (fun b => br_f (by decide) (nm_e (hw.1 a b))) (fun b => br_t rfl (hw.2.1 a b))))) (fun a => br_t rfl (ps_xhb hi (fun b => br_f (by decide) (nm_e (hw.2.2.1 a b))) (fun b => br_t rfl (hw.2.2.2 a b))))
end
theorem i_vc_why {k : Nat} {u : SX} {v : SY} (I : i_Rel k u v) (hk : k + 5 ≤ 2564) (v1 : Int32) : wpX_why (fun r => wpY_why (fun r' v' => r' = r ∧ i_Rel (k + 5) u v') v v1) u v1 := by
  refine ps_el (P := fun u v => wpX_why (fun r => wpY_why (fun r' v' => r' = r ∧ i_Rel (k + 5) u v') v v1) u v1) I ?_
  intro ll vc il mc it n k fhs fcv fkp fdk fck fqs fhr K A B C T inp jf js rn us df ri pd co cl qu nw od rv rm rc rs rh rd ro rt gcl gcv code kep mk st res hF
  have hF' := hF
  obtain ⟨⟨l1, l2, l3, l4, l5, l6, l7, l8, l9, l10⟩, f2, f3, f4, f5, f6, f7, f8, f9, f10⟩ := hF
  rcases f7 with c | ⟨c, hS⟩
  · exact br_t c (br_t c (And.intro rfl (ps_in hF')))
  have c' : ¬ fhs = 0 := by rw [c]; decide
  obtain ⟨K0, A0, B0, C0, line, v, s1, s2, s3, s4, s5, s6, s7, s8, s9, s10, s11, s12⟩ := hS
  have hY := ps_YHs l4 l2 l9 f2 f4 f5 s3
  refine br_f c' (ps_xil (by omega) f2 (fun d hd e => br_f (by decide) ?_) (fun hz => br_t rfl (br_f c' (br_c (fun _ => And.intro rfl (ps_in hF')) (fun h0 => br_f ?_ (And.intro rfl (ps_in hF')))))))
  · subst e
    have hd0 : ¬ nI d < 0 := nI_pos (by omega)
    have hdT : nI d < T 0 := by rw [f2]; exact nI_lt hd (by omega)
    have ed : (nI d).toNatClampNeg = d := nI_clamp (by omega)
    have hkk : ps_tb fkp d = true ↔ kep d ≠ 0 := by rw [s9.2.2.2.1 d, s12 d (by omega)]
    refine ps_xhb (by omega) (fun a => br_f (by decide) ?_) (fun a => br_t rfl (br_f c' (br_f hd0 (br_t hdT (And.intro (vp_in_nI (by omega) (by omega)) (br_t ?_ (And.intro rfl (ps_in hF'))))))))
    · -- kept
      have hDt : ps_Dt K0 A0 B0 C0 n line (nI v) kep d ↔ ps_tb fdk d = true := by
        rw [s9.2.2.2.2.1 d]
        unfold ps_Dt
        constructor
        · rintro (z | ⟨m, hm, hkm, z⟩)
          · exact Or.inl z
          · exact Or.inr ⟨m, (s12 m (by omega)).mp hkm, z⟩
        · rintro (z | ⟨m, hm, z⟩)
          · exact Or.inl z
          · have hmn := ps_Kp_lt s1 hm
            exact Or.inr ⟨m, hmn, (s12 m (by omega)).mpr hm, z⟩
      have hCq : ps_Cq K0 A0 B0 C0 n kep d ↔ ps_tb fck d = true := by
        rw [s9.2.2.2.2.2 d]
        unfold ps_Cq
        constructor
        · rintro ⟨m, hm, hkm, z⟩
          exact ⟨hd, m, (s12 m (by omega)).mp hkm, z⟩
        · rintro ⟨_, m, hm, z⟩
          have hmn := ps_Kp_lt s1 hm
          exact ⟨m, hmn, (s12 m (by omega)).mpr hm, z⟩
      have e2 : ps_b (ps_Dt K0 A0 B0 C0 n line (nI v) kep d) = ps_tb fdk d := by rw [Bool.eq_iff_iff, ps_b_iff]; exact hDt
      have e3 : ps_b (ps_Cq K0 A0 B0 C0 n kep d) = ps_tb fck d := by rw [Bool.eq_iff_iff, ps_b_iff]; exact hCq
      have yw : ∀ x : Int32, x = (if ps_b (d = line) = true then 1 else 0) → wpY_why (fun r' v' => r' = x + (if ps_tb fdk d = true then 2 else 0) + (if ps_tb fck d = true then 4 else 0) ∧ i_Rel (k + 5) (nI ll, nI vc, nI il, nI mc, nI it, fhs, fcv, fkp, fdk, fck, fqs, fhr, K, A, B, C, T, inp, jf, js, rn, us, df, ri, pd, co, cl, qu, nw, od, rv, rm, rc, rs, rh, rd, ro, rt) v') (nI ll, nI vc, nI il, nI mc, nI it, gcl, gcv, fhs, fhr, code, T, inp, kep, mk, st, rt, res) (nI d) := by
        intro x hx
        subst s5 s6
        refine br_f c' (br_f hd0 (br_t hdT (And.intro (vp_in_nI (by omega) (by omega)) (br_f (by rw [ed]; exact hkk.mp a) ?_))))
        refine ps_yrs hY hd s1 (fun mk' => And.intro ?_ (ps_in hF'))
        unfold ps_wv
        rw [e2, e3, hx]
      rw [s7]
      refine br_c (fun z => ?_) (fun z => ?_)
      · rw [nI_eq (by omega) (by omega)] at z
        refine nm_r (e' := 1) (by decide) (ps_xw46 (by omega) (yw 1 ?_))
        rw [if_pos (ps_b_iff.mpr z)]
      · rw [nI_eq (by omega) (by omega)] at z
        refine ps_xw46 (by omega) (yw 0 ?_)
        rw [if_neg (fun y => z (ps_b_iff.mp y))]
    · rw [ed]
      by_cases z : kep d = 0
      · exact z
      · exact absurd (hkk.mpr z) a
  · rw [f2]
    exact Int32.not_lt.mpr (hz.resolve_left h0)
end
section
/-! ===== reaches, postDominates, controls ===== -/
def ps_Vr (vc n : Nat) (x y z : Int32) : Prop := (∃ d, d < n ∧ x = nI d) ∧ (∃ r, (r < vc ∨ r = 8 ∨ r = 9) ∧ y = nI r) ∧ (∃ p, p ≤ n ∧ z = nI p)
theorem ps_nl1 {x : Int32} {n : Nat} (hn : n < 2 ^ 31 - 1) (h : x < 0 ∨ nI n < x) : ¬ ∃ j, j ≤ n ∧ x = nI j := by
  rintro ⟨j, hj, rfl⟩
  rcases h with h | h
  · exact nI_pos (by omega) h
  · rw [nI_ltI (by omega) (by omega)] at h; omega
section
variable {fll fvc fil fmc fit fhs fcv : Int32} {fkp fdk fck : Int64} {fqs fhr : Int32} {K A B C T inp jf js rn us df : Nat → Int32} {ri pd co : Nat → Int64} {cl qu nw od rv rm rc rs rh rd ro rt : Nat → Int32}
variable {gcl gcv gsl gra : Int32} {code cT kep mk st tr res : Nat → Int32}
variable {vc ll n : Nat}
theorem ps_xre {post : Int32 → Prop} {x y z : Int32} (hs : ¬ fhs = 0) (hv : vc ≤ 8) (hn : n ≤ 32) (hT : T 0 = nI n) (h1 : ps_Vr vc n x y z → wX_reaches_47 post x y z fll (nI vc) fil fmc fit fhs fcv fkp fdk fck fqs fhr K A B C T inp jf js rn us df ri pd co cl qu nw od rv rm rc rs rh rd ro rt) (h0 : ¬ ps_Vr vc n x y z → post (-1)) : wpX_reaches post (fll, nI vc, fil, fmc, fit, fhs, fcv, fkp, fdk, fck, fqs, fhr, K, A, B, C, T, inp, jf, js, rn, us, df, ri, pd, co, cl, qu, nw, od, rv, rm, rc, rs, rh, rd, ro, rt) x y z := by
  refine br_f hs (ps_xil (n := n) (by omega) hT (fun d hd ex => br_f (by decide) ?_) (fun c => br_t rfl (h0 (fun V => ps_nl (by omega) c V.1))))
  refine ps_xipl (n := n) (by omega) hT (fun p hp ez => br_f (by decide) ?_) (fun c => br_t rfl (h0 (fun V => ps_nl1 (by omega) c V.2.2)))
  refine ps_xiv (vc := vc) (by omega) (fun r hr ey => br_f (by decide) (h1 ⟨⟨d, hd, ex⟩, ⟨r, Or.inl hr, ey⟩, ⟨p, hp, ez⟩⟩)) (fun c => br_t rfl (br_c (fun c8 => h1 ⟨⟨d, hd, ex⟩, ⟨8, Or.inr (Or.inl rfl), c8⟩, ⟨p, hp, ez⟩⟩) (fun c8 => br_c (fun c9 => h1 ⟨⟨d, hd, ex⟩, ⟨9, Or.inr (Or.inr rfl), c9⟩, ⟨p, hp, ez⟩⟩) (fun c9 => h0 (fun V => ?_)))))
  obtain ⟨_, ⟨r, hr, ey⟩, _⟩ := V
  rcases hr with hr | hr | hr
  · exact ps_nl (by omega) c ⟨r, hr, ey⟩
  · subst hr; exact c8 ey
  · subst hr; exact c9 ey
theorem ps_yre {post : Int32 → SY → Prop} {x y z : Int32} (hs : ¬ gsl = 0) (hv : vc ≤ 8) (hn : n ≤ 32) (hT : cT 0 = nI n)
    (h1 : ps_Vr vc n x y z → wpY_reachesWith (fun r u => (r = 0 → post 0 u) ∧ (¬ r = 0 → post 1 u)) (fll, nI vc, fil, fmc, fit, gcl, gcv, gsl, gra, code, cT, inp, kep, mk, st, tr, res) x y z) (h0 : ¬ ps_Vr vc n x y z → post (-1) (fll, nI vc, fil, fmc, fit, gcl, gcv, gsl, gra, code, cT, inp, kep, mk, st, tr, res)) : wpY_reaches post (fll, nI vc, fil, fmc, fit, gcl, gcv, gsl, gra, code, cT, inp, kep, mk, st, tr, res) x y z := by
  have h49 : (∃ d, d < n ∧ x = nI d) → (∃ r, (r < vc ∨ r = 8 ∨ r = 9) ∧ y = nI r) → wY_reaches_49 post x y z fll (nI vc) fil fmc fit gcl gcv gsl gra code cT inp kep mk st tr res := by
    intro hx hy
    refine br_c (fun c => h0 (fun V => ps_nl1 (n := n) (by omega) (Or.inl c) V.2.2)) (fun c => ?_)
    rw [hT]
    refine br_c (fun c2 => ?_) (fun c2 => h0 (fun V => ps_nl1 (n := n) (by omega) (Or.inr (Int32.not_le.mp c2)) V.2.2))
    obtain ⟨p, hp, rfl⟩ := nI_of c
    rw [nI_leI hp (by omega)] at c2
    exact h1 ⟨hx, hy, ⟨p, c2, rfl⟩⟩
  have h35 : (∃ d, d < n ∧ x = nI d) → (y < 0 ∨ nI vc ≤ y) → wY_reaches_35 post x y z fll (nI vc) fil fmc fit gcl gcv gsl gra code cT inp kep mk st tr res := by
    intro hx hy
    refine br_c (fun c => h49 hx ⟨8, Or.inr (Or.inl rfl), c⟩) (fun c => br_c (fun c2 => h49 hx ⟨9, Or.inr (Or.inr rfl), c2⟩) (fun c2 => h0 (fun V => ?_)))
    obtain ⟨_, ⟨r, hr, ey⟩, _⟩ := V
    rcases hr with hr | hr | hr
    · exact ps_nl (by omega) hy ⟨r, hr, ey⟩
    · subst hr; exact c ey
    · subst hr; exact c2 ey
  refine br_f hs (br_c (fun c => h0 (fun V => ps_nl (by omega) (Or.inl c) V.1)) (fun c => ?_))
  rw [hT]
  refine br_c (fun c2 => ?_) (fun c2 => h0 (fun V => ps_nl (by omega) (Or.inr (Int32.not_lt.mp c2)) V.1))
  have hx : ∃ d, d < n ∧ x = nI d := by
    obtain ⟨d, hd, rfl⟩ := nI_of c
    rw [nI_ltI hd (by omega)] at c2
    exact ⟨d, c2, rfl⟩
  refine br_c (fun c3 => h35 hx (Or.inl c3)) (fun c3 => br_c (fun c4 => h49 hx ?_) (fun c4 => h35 hx (Or.inr (Int32.not_lt.mp c4))))
  obtain ⟨r, hr, rfl⟩ := nI_of c3
  rw [nI_ltI hr (by omega)] at c4
  exact ⟨r, Or.inl c4, rfl⟩
end
theorem i_vc_reaches {k : Nat} {u : SX} {v : SY} (I : i_Rel k u v) (hk : k + 5 ≤ 2564) (v1 : Int32) (v2 : Int32) (v3 : Int32) : wpX_reaches (fun r => wpY_reaches (fun r' v' => r' = r ∧ i_Rel (k + 5) u v') v v1 v2 v3) u v1 v2 v3 := by
  refine ps_el (P := fun u v => wpX_reaches (fun r => wpY_reaches (fun r' v' => r' = r ∧ i_Rel (k + 5) u v') v v1 v2 v3) u v1 v2 v3) I ?_
  intro ll vc il mc it n k fhs fcv fkp fdk fck fqs fhr K A B C T inp jf js rn us df ri pd co cl qu nw od rv rm rc rs rh rd ro rt gcl gcv code kep mk st res hF
  have hF' := hF
  obtain ⟨⟨l1, l2, l3, l4, l5, l6, l7, l8, l9, l10⟩, f2, f3, f4, f5, f6, f7, f8, f9, f10⟩ := hF
  rcases f7 with c | ⟨c, hS⟩
  · exact br_t c (br_t c (And.intro rfl (ps_in hF')))
  have c' : ¬ fhs = 0 := by rw [c]; decide
  obtain ⟨K0, A0, B0, C0, line, v, s1, s2, s3, s4, s5, s6, s7, s8, s9, s10, s11, s12⟩ := hS
  have hY := ps_YHs l4 l2 l9 f2 f4 f5 s3
  refine ps_xre c' l4 (by omega) f2 (fun V => ?_) (fun V => ps_yre c' l4 (by omega) f2 (fun V' => absurd V' V) (fun _ => And.intro rfl (ps_in hF')))
  have V' := V
  obtain ⟨⟨d, hd, e1⟩, ⟨r, hr, e2⟩, ⟨p, hp, e3⟩⟩ := V
  subst e1 e2 e3
  have ei : nI r * 33 + nI p = nI (33 * r + p) := by
    rw [show (33 : Int32) = nI 33 from rfl, pk_mul, nI_add, Nat.mul_comm]
  have hR := s9.1 r (by omega) p hp d
  have hix : vp_in (nI r * 33 + nI p) 330 := by rw [ei]; exact vp_in_nI (by omega) (by omega)
  have ec : (nI r * 33 + nI p).toNatClampNeg = 33 * r + p := by rw [ei]; exact nI_clamp (by omega)
  refine And.intro hix ?_
  rw [ec]
  refine ps_xhb (by omega) (fun a => br_f (by decide) (ps_yre c' l4 (by omega) f2 (fun _ => ?_) (fun V => absurd V' V))) (fun a => br_t rfl (ps_yre c' l4 (by omega) f2 (fun _ => ?_) (fun V => absurd V' V)))
  · exact ps_yrw hY hd hp (fun _ mk' => br_f (by decide) (And.intro rfl (ps_in hF'))) (fun z _ => absurd (hR.mp a) z)
  · exact ps_yrw hY hd hp (fun z _ => absurd (hR.mpr z) a) (fun _ mk' => br_t rfl (And.intro rfl (ps_in hF')))
theorem i_vc_postDominates {k : Nat} {u : SX} {v : SY} (I : i_Rel k u v) (hk : k + 5 ≤ 2564) (v1 : Int32) (v2 : Int32) : wpX_postDominates (fun r => wpY_postDominates (fun r' v' => r' = r ∧ i_Rel (k + 5) u v') v v1 v2) u v1 v2 := by
  refine ps_el (P := fun u v => wpX_postDominates (fun r => wpY_postDominates (fun r' v' => r' = r ∧ i_Rel (k + 5) u v') v v1 v2) u v1 v2) I ?_
  intro ll vc il mc it n k fhs fcv fkp fdk fck fqs fhr K A B C T inp jf js rn us df ri pd co cl qu nw od rv rm rc rs rh rd ro rt gcl gcv code kep mk st res hF
  have hF' := hF
  obtain ⟨⟨l1, l2, l3, l4, l5, l6, l7, l8, l9, l10⟩, f2, f3, f4, f5, f6, f7, f8, f9, f10⟩ := hF
  rcases f7 with c | ⟨c, hS⟩
  · exact br_t c (br_t c (And.intro rfl (ps_in hF')))
  have c' : ¬ fhs = 0 := by rw [c]; decide
  obtain ⟨K0, A0, B0, C0, line, v, s1, s2, s3, s4, s5, s6, s7, s8, s9, s10, s11, s12⟩ := hS
  have hY := ps_YHs l4 l2 l9 f2 f4 f5 s3
  have yp : ∀ post : Int32 → SY → Prop, ((∃ a, a ≤ n ∧ v1 = nI a) → (∃ b, b ≤ n ∧ v2 = nI b) → wpY_postDom (fun r u => (r = 0 → post 0 u) ∧ (¬ r = 0 → post 1 u)) (nI ll, nI vc, nI il, nI mc, nI it, gcl, gcv, fhs, fhr, code, T, inp, kep, mk, st, rt, res) v1 v2) → (¬ ((∃ a, a ≤ n ∧ v1 = nI a) ∧ (∃ b, b ≤ n ∧ v2 = nI b)) → post (-1) (nI ll, nI vc, nI il, nI mc, nI it, gcl, gcv, fhs, fhr, code, T, inp, kep, mk, st, rt, res)) → wpY_postDominates post (nI ll, nI vc, nI il, nI mc, nI it, gcl, gcv, fhs, fhr, code, T, inp, kep, mk, st, rt, res) v1 v2 := by
    intro post h1 h0
    refine br_f c' (br_c (fun c1 => h0 (fun V => ps_nl1 (n := n) (by omega) (Or.inl c1) V.1)) (fun c1 => ?_))
    rw [f2]
    refine br_c (fun c2 => h0 (fun V => ps_nl1 (n := n) (by omega) (Or.inr c2) V.1)) (fun c2 => br_c (fun c3 => h0 (fun V => ps_nl1 (n := n) (by omega) (Or.inl c3) V.2)) (fun c3 => br_c (fun c4 => ?_) (fun c4 => h0 (fun V => ps_nl1 (n := n) (by omega) (Or.inr (Int32.not_le.mp c4)) V.2))))
    refine h1 ?_ ?_
    · obtain ⟨a, ha, e⟩ := nI_of c1
      rw [e, nI_ltI (by omega) ha] at c2
      exact ⟨a, by omega, e⟩
    · obtain ⟨b, hb, e⟩ := nI_of c3
      rw [e, nI_leI hb (by omega)] at c4
      exact ⟨b, by omega, e⟩
  have no : ¬ ((∃ a, a ≤ n ∧ v1 = nI a) ∧ (∃ b, b ≤ n ∧ v2 = nI b)) → wpY_postDominates (fun r' v' => r' = -1 ∧ i_Rel (k + 5) (nI ll, nI vc, nI il, nI mc, nI it, fhs, fcv, fkp, fdk, fck, fqs, fhr, K, A, B, C, T, inp, jf, js, rn, us, df, ri, pd, co, cl, qu, nw, od, rv, rm, rc, rs, rh, rd, ro, rt) v') (nI ll, nI vc, nI il, nI mc, nI it, gcl, gcv, fhs, fhr, code, T, inp, kep, mk, st, rt, res) v1 v2 :=
    fun V => yp _ (fun h1 h2 => absurd ⟨h1, h2⟩ V) (fun _ => And.intro rfl (ps_in hF'))
  refine br_f c' (ps_xipl (n := n) (by omega) f2 (fun a ha e1 => br_f (by decide) ?_) (fun z => br_t rfl (no (fun V => ps_nl1 (n := n) (by omega) z V.1))))
  refine ps_xipl (n := n) (by omega) f2 (fun b hb e2 => br_f (by decide) ?_) (fun z => br_t rfl (no (fun V => ps_nl1 (n := n) (by omega) z V.2)))
  subst e1 e2
  have hP := s9.2.1 b hb a
  refine And.intro (vp_in_nI (by omega) (by omega)) ?_
  rw [nI_clamp (show b < 2 ^ 31 by omega)]
  refine ps_xhb (by omega) (fun t => br_f (by decide) (yp _ (fun _ _ => ?_) (fun V => absurd ⟨⟨a, ha, rfl⟩, ⟨b, hb, rfl⟩⟩ V))) (fun t => br_t rfl (yp _ (fun _ _ => ?_) (fun V => absurd ⟨⟨a, ha, rfl⟩, ⟨b, hb, rfl⟩⟩ V)))
  · exact ps_ypd hY ha hb (fun _ mk' => br_f (by decide) (And.intro rfl (ps_in hF'))) (fun z _ => absurd (hP.mp t) z)
  · exact ps_ypd hY ha hb (fun z _ => absurd (hP.mpr z) t) (fun _ mk' => br_t rfl (And.intro rfl (ps_in hF')))
theorem i_vc_controls {k : Nat} {u : SX} {v : SY} (I : i_Rel k u v) (hk : k + 5 ≤ 2564) (v1 : Int32) (v2 : Int32) : wpX_controls (fun r => wpY_controls (fun r' v' => r' = r ∧ i_Rel (k + 5) u v') v v1 v2) u v1 v2 := by
  refine ps_el (P := fun u v => wpX_controls (fun r => wpY_controls (fun r' v' => r' = r ∧ i_Rel (k + 5) u v') v v1 v2) u v1 v2) I ?_
  intro ll vc il mc it n k fhs fcv fkp fdk fck fqs fhr K A B C T inp jf js rn us df ri pd co cl qu nw od rv rm rc rs rh rd ro rt gcl gcv code kep mk st res hF
  have hF' := hF
  obtain ⟨⟨l1, l2, l3, l4, l5, l6, l7, l8, l9, l10⟩, f2, f3, f4, f5, f6, f7, f8, f9, f10⟩ := hF
  rcases f7 with c | ⟨c, hS⟩
  · exact br_t c (br_t c (And.intro rfl (ps_in hF')))
  have c' : ¬ fhs = 0 := by rw [c]; decide
  obtain ⟨K0, A0, B0, C0, line, v, s1, s2, s3, s4, s5, s6, s7, s8, s9, s10, s11, s12⟩ := hS
  have hY := ps_YHs l4 l2 l9 f2 f4 f5 s3
  have yp : ∀ post : Int32 → SY → Prop, ((∃ a, a < n ∧ v1 = nI a) → (∃ b, b < n ∧ v2 = nI b) → wpY_controlsLine (fun r u => (r = 0 → post 0 u) ∧ (¬ r = 0 → post 1 u)) (nI ll, nI vc, nI il, nI mc, nI it, gcl, gcv, fhs, fhr, code, T, inp, kep, mk, st, rt, res) v1 v2) → (¬ ((∃ a, a < n ∧ v1 = nI a) ∧ (∃ b, b < n ∧ v2 = nI b)) → post (-1) (nI ll, nI vc, nI il, nI mc, nI it, gcl, gcv, fhs, fhr, code, T, inp, kep, mk, st, rt, res)) → wpY_controls post (nI ll, nI vc, nI il, nI mc, nI it, gcl, gcv, fhs, fhr, code, T, inp, kep, mk, st, rt, res) v1 v2 := by
    intro post h1 h0
    refine br_f c' (br_c (fun c1 => h0 (fun V => ps_nl (n := n) (by omega) (Or.inl c1) V.1)) (fun c1 => ?_))
    rw [f2]
    refine br_c (fun c2 => h0 (fun V => ps_nl (n := n) (by omega) (Or.inr c2) V.1)) (fun c2 => br_c (fun c3 => h0 (fun V => ps_nl (n := n) (by omega) (Or.inl c3) V.2)) (fun c3 => br_c (fun c4 => ?_) (fun c4 => h0 (fun V => ps_nl (n := n) (by omega) (Or.inr (Int32.not_lt.mp c4)) V.2))))
    refine h1 ?_ ?_
    · obtain ⟨a, ha, e⟩ := nI_of c1
      rw [e, nI_leI (by omega) ha] at c2
      exact ⟨a, by omega, e⟩
    · obtain ⟨b, hb, e⟩ := nI_of c3
      rw [e, nI_ltI hb (by omega)] at c4
      exact ⟨b, by omega, e⟩
  have no : ¬ ((∃ a, a < n ∧ v1 = nI a) ∧ (∃ b, b < n ∧ v2 = nI b)) → wpY_controls (fun r' v' => r' = -1 ∧ i_Rel (k + 5) (nI ll, nI vc, nI il, nI mc, nI it, fhs, fcv, fkp, fdk, fck, fqs, fhr, K, A, B, C, T, inp, jf, js, rn, us, df, ri, pd, co, cl, qu, nw, od, rv, rm, rc, rs, rh, rd, ro, rt) v') (nI ll, nI vc, nI il, nI mc, nI it, gcl, gcv, fhs, fhr, code, T, inp, kep, mk, st, rt, res) v1 v2 :=
    fun V => yp _ (fun h1 h2 => absurd ⟨h1, h2⟩ V) (fun _ => And.intro rfl (ps_in hF'))
  refine br_f c' (ps_xil (n := n) (by omega) f2 (fun a ha e1 => br_f (by decide) ?_) (fun z => br_t rfl (no (fun V => ps_nl (n := n) (by omega) z V.1))))
  refine ps_xil (n := n) (by omega) f2 (fun b hb e2 => br_f (by decide) ?_) (fun z => br_t rfl (no (fun V => ps_nl (n := n) (by omega) z V.2)))
  subst e1 e2
  have hP := s9.2.2.1 b hb a
  refine And.intro (vp_in_nI (by omega) (by omega)) ?_
  rw [nI_clamp (show b < 2 ^ 31 by omega)]
  refine ps_xhb (by omega) (fun t => br_f (by decide) (yp _ (fun _ _ => ?_) (fun V => absurd ⟨⟨a, ha, rfl⟩, ⟨b, hb, rfl⟩⟩ V))) (fun t => br_t rfl (yp _ (fun _ _ => ?_) (fun V => absurd ⟨⟨a, ha, rfl⟩, ⟨b, hb, rfl⟩⟩ V)))
  · exact ps_ycl hY ha hb (fun _ mk' => br_f (by decide) (And.intro rfl (ps_in hF'))) (fun z _ => absurd (hP.mp t).2 z)
  · exact ps_ycl hY ha hb (fun z _ => absurd (hP.mpr ⟨ha, z⟩) t) (fun _ mk' => br_t rfl (And.intro rfl (ps_in hF')))
end
section
/-! ===== execute, both sides ===== -/
theorem ps_RS_v {rv rm rc st : Nat → Int32} {w a : Nat} {x : Int32} (h : ps_RS rv rm rc st) (hw : w < 2) (ha : a < 8) : ps_RS (upd rv (8 * w + a) x) rm rc (upd st (32 * w + a) x) := by
  intro w' hw'
  obtain ⟨h1, h2, h3⟩ := h w' hw'
  refine ⟨fun j hj => ?_, fun j hj => ?_, ?_⟩
  · by_cases e : 8 * w' + j = 8 * w + a
    · have e2 : 32 * w' + j = 32 * w + a := by omega
      rw [e, e2, pk_us, pk_us]
    · rw [pk_un e, pk_un (by omega)]; exact h1 j hj
  · rw [pk_un (by omega)]; exact h2 j hj
  · rw [pk_un (by omega)]; exact h3
theorem ps_RS_m {rv rm rc st : Nat → Int32} {w a : Nat} {x : Int32} (h : ps_RS rv rm rc st) (hw : w < 2) (ha : a < 16) : ps_RS rv (upd rm (16 * w + a) x) rc (upd st (32 * w + 16 + a) x) := by
  intro w' hw'
  obtain ⟨h1, h2, h3⟩ := h w' hw'
  refine ⟨fun j hj => ?_, fun j hj => ?_, ?_⟩
  · rw [pk_un (by omega)]; exact h1 j hj
  · by_cases e : 16 * w' + j = 16 * w + a
    · have e2 : 32 * w' + 16 + j = 32 * w + 16 + a := by omega
      rw [e, e2, pk_us, pk_us]
    · rw [pk_un e, pk_un (by omega)]; exact h2 j hj
  · rw [pk_un (by omega)]; exact h3
theorem ps_RS_c {rv rm rc st : Nat → Int32} {w : Nat} {x : Int32} (h : ps_RS rv rm rc st) (hw : w < 2) : ps_RS rv rm (upd rc w x) (upd st (32 * w + 8) x) := by
  intro w' hw'
  obtain ⟨h1, h2, h3⟩ := h w' hw'
  refine ⟨fun j hj => ?_, fun j hj => ?_, ?_⟩
  · rw [pk_un (by omega)]; exact h1 j hj
  · rw [pk_un (by omega)]; exact h2 j hj
  · by_cases e : w' = w
    · subst e; rw [pk_us, pk_us]
    · rw [pk_un e, pk_un (by omega)]; exact h3
/-- X's and Y's value of an operand -/
def ps_ov (vc w : Nat) (rv : Nat → Int32) (x : Int32) : Int32 := if 0 ≤ x then (if nI vc ≤ x then x - 100 else rv (8 * w + x.toNatClampNeg)) else x
def ps_yv (vc w : Nat) (st : Nat → Int32) (x : Int32) : Int32 := if 0 ≤ x then (if x < 100 then (if nI vc ≤ x then 0 else st (32 * w + x.toNatClampNeg)) else x - 100) else x
theorem ps_ov_yv {vc w : Nat} {rv rm rc st : Nat → Int32} {x : Int32} (hv : vc ≤ 8) (hw : w < 2) (h : ps_RS rv rm rc st) (hx : x < nI vc ∨ 100 ≤ x) : ps_yv vc w st x = ps_ov vc w rv x := by
  unfold ps_yv ps_ov
  by_cases c : 0 ≤ x
  · rw [if_pos c, if_pos c]
    obtain ⟨j, hj, rfl⟩ := nI_of (Int32.not_lt.mpr c)
    rw [show (100 : Int32) = nI 100 from rfl] at hx ⊢
    rw [nI_ltI hj (by omega), nI_leI (by omega) hj] at hx
    by_cases c2 : vc ≤ j
    · rw [if_neg (nI_nlt (by omega) (by omega)), if_pos (nI_le c2 hj)]
    · rw [if_pos (nI_lt (by omega) (by omega)), if_neg (nI_ge (by omega) (by omega)), if_neg (nI_ge (by omega) (by omega)), nI_clamp hj]
      exact ((h w hw).1 j (by omega)).symm
  · rw [if_neg c, if_neg c]
/-- what compute and compare give -/
def ps_cp (q : Nat) (x y : Int32) : Int32 := if q = 11 then x + y else if q = 12 then x - y else if q = 13 then x * y else if q = 16 then x &&& y else if y = 0 then 0 else if q = 14 then x / y else x - x / y * y
def ps_Hl (q : Nat) (x y : Int32) : Prop := (q = 7 ∧ x = y) ∨ (q = 8 ∧ ¬ x = y) ∨ (q = 9 ∧ x < y) ∨ (q = 10 ∧ ¬ y < x)
theorem ps_six {q : Nat} (h1 : 11 ≤ q) (h2 : q ≤ 16) : q = 11 ∨ q = 12 ∨ q = 13 ∨ q = 14 ∨ q = 15 ∨ q = 16 := by omega
section
variable {fll fvc fil fmc fit fhs fcv : Int32} {fkp fdk fck : Int64} {fqs fhr : Int32} {K A B C T inp jf js rn us df : Nat → Int32} {ri pd co : Nat → Int64} {cl qu nw od rv rm rc rs rh rd ro rt : Nat → Int32}
variable {gcl gcv gsl gra : Int32} {code cT kep mk st tr res : Nat → Int32}
variable {vc ll mc it w i : Nat}
theorem ps_xop {post : Int32 → Prop} {x : Int32} (hv : vc ≤ 8) (hw : w < 2) (h : post (ps_ov vc w rv x)) : wpX_operandValue post (fll, nI vc, fil, fmc, fit, fhs, fcv, fkp, fdk, fck, fqs, fhr, K, A, B, C, T, inp, jf, js, rn, us, df, ri, pd, co, cl, qu, nw, od, rv, rm, rc, rs, rh, rd, ro, rt) (nI w) x := by
  unfold ps_ov at h
  refine br_c (fun c => br_c (fun c2 => ?_) (fun c2 => ?_)) (fun c => ?_)
  · rw [if_pos c, if_pos c2] at h; exact h
  · rw [if_pos c, if_neg c2] at h
    obtain ⟨j, hj, rfl⟩ := nI_of (Int32.not_lt.mpr c)
    rw [nI_leI (by omega) hj] at c2
    have e : nI w * 8 + nI j = nI (8 * w + j) := by rw [show (8 : Int32) = nI 8 from rfl, pk_mul, nI_add, Nat.mul_comm]
    rw [e]
    refine And.intro (vp_in_nI (by omega) (by omega)) ?_
    rw [nI_clamp (by omega)]
    rw [nI_clamp hj] at h
    exact h
  · rw [if_neg c] at h; exact h
theorem ps_yop {post : Int32 → Prop} {x : Int32} (hv : vc ≤ 8) (hw : w < 2) (h : post (ps_yv vc w st x)) : wpY_value post (fll, nI vc, fil, fmc, fit, gcl, gcv, gsl, gra, code, cT, inp, kep, mk, st, tr, res) (nI w) x := by
  unfold ps_yv at h
  refine br_c (fun c => br_c (fun c1 => br_c (fun c2 => ?_) (fun c2 => ?_)) (fun c1 => ?_)) (fun c => ?_)
  · rw [if_pos c, if_pos c1, if_pos c2] at h; exact h
  · rw [if_pos c, if_pos c1, if_neg c2] at h
    obtain ⟨j, hj, rfl⟩ := nI_of (Int32.not_lt.mpr c)
    rw [nI_leI (by omega) hj] at c2
    have e : nI w * 32 + nI j = nI (32 * w + j) := by rw [show (32 : Int32) = nI 32 from rfl, pk_mul, nI_add, Nat.mul_comm]
    rw [e]
    refine And.intro (vp_in_nI (by omega) (by omega)) ?_
    rw [nI_clamp (by omega)]
    rw [nI_clamp hj] at h
    exact h
  · rw [if_pos c, if_neg c1] at h; exact h
  · rw [if_neg c] at h; exact h
theorem ps_xwc {post : Int32 → Prop} {x : Int32} (hm : 1 ≤ mc) (hm2 : mc ≤ 16) (h : post (fmv x (nI mc))) : wpX_wrapCell post (fll, fvc, fil, nI mc, fit, fhs, fcv, fkp, fdk, fck, fqs, fhr, K, A, B, C, T, inp, jf, js, rn, us, df, ri, pd, co, cl, qu, nw, od, rv, rm, rc, rs, rh, rd, ro, rt) x := by
  have h' : post (if 0 ≤ x - x / nI mc * nI mc then x - x / nI mc * nI mc else x - x / nI mc * nI mc + nI mc) := h
  exact And.intro (nI_ne0 (by omega) (by omega)) (nm_e (ps_bi post h' id id))
theorem ps_ywc {post : Int32 → Prop} {x : Int32} (hm : 1 ≤ mc) (hm2 : mc ≤ 16) (h : post (fmv x (nI mc))) : wpY_cell post (fll, fvc, fil, nI mc, fit, gcl, gcv, gsl, gra, code, cT, inp, kep, mk, st, tr, res) x := by
  have h' : post (if 0 ≤ x - x / nI mc * nI mc then x - x / nI mc * nI mc else x - x / nI mc * nI mc + nI mc) := h
  exact And.intro (nI_ne0 (by omega) (by omega)) (nm_e (ps_bi post h' id id))
theorem ps_xcp {post : Int32 → Prop} {q : Nat} {x y : Int32} (h1 : 11 ≤ q) (h2 : q ≤ 16) (h : post (ps_cp q x y)) : wpX_compute post (fll, fvc, fil, fmc, fit, fhs, fcv, fkp, fdk, fck, fqs, fhr, K, A, B, C, T, inp, jf, js, rn, us, df, ri, pd, co, cl, qu, nw, od, rv, rm, rc, rs, rh, rd, ro, rt) (nI q) x y := by
  rcases ps_six h1 h2 with rfl | rfl | rfl | rfl | rfl | rfl
  · exact br_f (by decide) (br_f (by decide) (br_t rfl h))
  · exact br_f (by decide) (br_f (by decide) (br_f (by decide) (br_t rfl h)))
  · exact br_f (by decide) (br_f (by decide) (br_f (by decide) (br_f (by decide) (br_t rfl h))))
  · have h' : post (if y = 0 then 0 else x / y) := h
    exact br_f (by decide) (br_f (by decide) (br_f (by decide) (br_f (by decide) (br_f (by decide) (br_t rfl (br_c (fun c => by rw [if_pos c] at h'; exact h') (fun c => And.intro c (by rw [if_neg c] at h'; exact h'))))))))
  · have h' : post (if y = 0 then 0 else x - x / y * y) := h
    exact br_f (by decide) (br_f (by decide) (br_f (by decide) (br_f (by decide) (br_f (by decide) (br_f (by decide) (br_t rfl (br_c (fun c => by rw [if_pos c] at h'; exact h') (fun c => And.intro c (by rw [if_neg c] at h'; exact h')))))))))
  · exact br_f (by decide) (br_t (by decide) h)
theorem ps_ycp {post : Int32 → Prop} {q : Nat} {x y : Int32} (h1 : 11 ≤ q) (h2 : q ≤ 16) (h : post (ps_cp q x y)) : wpY_compute post (fll, fvc, fil, fmc, fit, gcl, gcv, gsl, gra, code, cT, inp, kep, mk, st, tr, res) (nI q) x y := by
  rcases ps_six h1 h2 with rfl | rfl | rfl | rfl | rfl | rfl
  · exact br_t rfl h
  · exact br_f (by decide) (br_t rfl h)
  · exact br_f (by decide) (br_f (by decide) (br_t rfl h))
  · have h' : post (if y = 0 then 0 else x / y) := h
    exact br_f (by decide) (br_f (by decide) (br_f (by decide) (br_f (by decide) (br_c (fun c => by rw [if_pos c] at h'; exact h') (fun c => br_t rfl (And.intro c (by rw [if_neg c] at h'; exact h')))))))
  · have h' : post (if y = 0 then 0 else x - x / y * y) := h
    exact br_f (by decide) (br_f (by decide) (br_f (by decide) (br_f (by decide) (br_c (fun c => by rw [if_pos c] at h'; exact h') (fun c => br_f (by decide) (And.intro c (by rw [if_neg c] at h'; exact h')))))))
  · exact br_f (by decide) (br_f (by decide) (br_f (by decide) (br_t rfl h)))
theorem ps_xcm {post : Int32 → Prop} {q : Nat} {x y : Int32} (hq1 : 7 ≤ q) (hq2 : q ≤ 10) (h1 : ps_Hl q x y → post 1) (h0 : ¬ ps_Hl q x y → post 0) : wpX_compare post (fll, fvc, fil, fmc, fit, fhs, fcv, fkp, fdk, fck, fqs, fhr, K, A, B, C, T, inp, jf, js, rn, us, df, ri, pd, co, cl, qu, nw, od, rv, rm, rc, rs, rh, rd, ro, rt) (nI q) x y := by
  have h4 : q = 7 ∨ q = 8 ∨ q = 9 ∨ q = 10 := by omega
  rcases h4 with rfl | rfl | rfl | rfl
  · refine br_f (by decide) (br_f (by decide) (br_t rfl (br_c (fun c => h1 (Or.inl ⟨rfl, c⟩)) (fun c => h0 (fun z => ?_)))))
    rcases z with z | z | z | z
    · exact c z.2
    · omega
    · omega
    · omega
  · refine br_f (by decide) (br_f (by decide) (br_f (by decide) (br_t rfl (br_c (fun c => h0 (fun z => ?_)) (fun c => h1 (Or.inr (Or.inl ⟨rfl, c⟩)))))))
    rcases z with z | z | z | z
    · omega
    · exact z.2 c
    · omega
    · omega
  · refine br_f (by decide) (br_f (by decide) (br_f (by decide) (br_f (by decide) (br_t rfl (br_c (fun c => h0 (fun z => ?_)) (fun c => h1 (Or.inr (Or.inr (Or.inl ⟨rfl, Int32.not_le.mp c⟩)))))))))
    rcases z with z | z | z | z
    · omega
    · omega
    · exact (Int32.not_lt.mpr c) z.2
    · omega
  · refine br_f (by decide) (br_t (by decide) (br_c (fun c => h0 (fun z => ?_)) (fun c => h1 (Or.inr (Or.inr (Or.inr ⟨rfl, c⟩))))))
    rcases z with z | z | z | z
    · omega
    · omega
    · omega
    · exact z.2 c
theorem ps_yho {post : Int32 → Prop} {q : Nat} {x y : Int32} (hq : q ≤ 16) (h1 : ps_Hl q x y → post 1) (h0 : ¬ ps_Hl q x y → post 0) : wpY_holds post (fll, fvc, fil, fmc, fit, gcl, gcv, gsl, gra, code, cT, inp, kep, mk, st, tr, res) (nI q) x y := by
  have nq : ∀ a, a < 17 → (nI q = nI a ↔ q = a) := fun a ha => nI_eq (by omega) (by omega)
  have h33 : ¬ (q = 7 ∧ x = y) → ¬ (q = 8 ∧ ¬ x = y) → ¬ (q = 9 ∧ x < y) → wY_holds_33 post (nI q) x y fll fvc fil fmc fit gcl gcv gsl gra code cT inp kep mk st tr res := by
    intro n7 n8 n9
    refine br_c (fun c => ?_) (fun c => h0 (fun z => ?_))
    · have c' := (nq 10 (by omega)).mp c
      refine br_c (fun d => h0 (fun z => ?_)) (fun d => h1 (Or.inr (Or.inr (Or.inr ⟨c', d⟩))))
      rcases z with z | z | z | z
      · exact n7 z
      · exact n8 z
      · exact n9 z
      · exact z.2 d
    · rcases z with z | z | z | z
      · exact n7 z
      · exact n8 z
      · exact n9 z
      · exact c ((nq 10 (by omega)).mpr z.1)
  have h22 : ¬ (q = 7 ∧ x = y) → ¬ (q = 8 ∧ ¬ x = y) → wY_holds_22 post (nI q) x y fll fvc fil fmc fit gcl gcv gsl gra code cT inp kep mk st tr res := by
    intro n7 n8
    refine br_c (fun c => ?_) (fun c => h33 n7 n8 (fun z => c ((nq 9 (by omega)).mpr z.1)))
    have c' := (nq 9 (by omega)).mp c
    exact br_c (fun d => h1 (Or.inr (Or.inr (Or.inl ⟨c', d⟩)))) (fun d => h33 n7 n8 (fun z => d z.2))
  have h11 : ¬ (q = 7 ∧ x = y) → wY_holds_11 post (nI q) x y fll fvc fil fmc fit gcl gcv gsl gra code cT inp kep mk st tr res := by
    intro n7
    refine br_c (fun c => ?_) (fun c => h22 n7 (fun z => c ((nq 8 (by omega)).mpr z.1)))
    have c' := (nq 8 (by omega)).mp c
    exact br_c (fun d => h22 n7 (fun z => z.2 d)) (fun d => h1 (Or.inr (Or.inl ⟨c', d⟩)))
  refine br_c (fun c => ?_) (fun c => h11 (fun z => c ((nq 7 (by omega)).mpr z.1)))
  have c' := (nq 7 (by omega)).mp c
  exact br_c (fun d => h1 (Or.inl ⟨c', d⟩)) (fun d => h11 (fun z => d z.2))
end
end
section
/-! ===== execute: one line on both sides ===== -/
noncomputable def ps_nx (q t i : Nat) (a b c xa xb : Int32) : Int32 := if q = 1 then nI t else if q = 2 then a else if q = 3 then (if xa = 0 then b else if xa = 1 then c else nI (i + 1)) else if ps_b (ps_Hl q xa xb) = true then c else nI (i + 1)
theorem ps_T_suc {i t : Nat} (hi : i < t) (ht : t ≤ 32) : ps_T (nI (i + 1)) t = i + 1 := by
  unfold ps_T
  by_cases c : t ≤ i + 1
  · rw [if_pos (nI_le c (by omega))]; omega
  · rw [if_neg (nI_ge (by omega) (by omega)), nI_clamp (by omega)]
theorem ps_T_self {t : Nat} (ht : t ≤ 32) : ps_T (nI t) t = t := by
  unfold ps_T
  rw [if_pos (nI_le (Nat.le_refl _) (by omega))]
/-- the fields that are targets are numbers -/
theorem ps_nx_nI {vc ll q t i : Nat} {a b c xa xb : Int32} (hq : q ≤ 16) (ht : t ≤ 32) (hl : ll ≤ 32) (hi : i < t) (ha : ps_FV vc ll (ps_srt q 1) a) (hb : ps_FV vc ll (ps_srt q 2) b) (hc : ps_FV vc ll (ps_srt q 3) c) : ∃ j, j < 2 ^ 31 ∧ ps_nx q t i a b c xa xb = nI j := by
  unfold ps_nx
  by_cases c1 : q = 1
  · rw [if_pos c1]; exact ⟨t, by omega, rfl⟩
  rw [if_neg c1]
  by_cases c2 : q = 2
  · rw [if_pos c2]
    obtain ⟨j, hj, e⟩ := ha.2.2 (by subst c2; rfl)
    exact ⟨j, by omega, e⟩
  rw [if_neg c2]
  by_cases c3 : q = 3
  · rw [if_pos c3]
    obtain ⟨j, hj, e⟩ := hb.2.2 (by subst c3; rfl)
    obtain ⟨j2, hj2, e2⟩ := hc.2.2 (by subst c3; rfl)
    by_cases d0 : xa = 0
    · rw [if_pos d0]; exact ⟨j, by omega, e⟩
    · rw [if_neg d0]
      by_cases d1 : xa = 1
      · rw [if_pos d1]; exact ⟨j2, by omega, e2⟩
      · rw [if_neg d1]; exact ⟨i + 1, by omega, rfl⟩
  rw [if_neg c3]
  by_cases c4 : ps_b (ps_Hl q xa xb) = true
  · rw [if_pos c4]
    have hH := ps_b_iff.mp c4
    have hs : ps_srt q 3 = 3 := by
      unfold ps_srt
      rw [if_neg (by omega), if_neg (by omega), if_pos rfl, if_pos (Or.inr (by
        rcases hH with z | z | z | z
        · omega
        · omega
        · omega
        · omega))]
    obtain ⟨j, hj, e⟩ := hc.2.2 hs
    exact ⟨j, by omega, e⟩
  · rw [if_neg c4]; exact ⟨i + 1, by omega, rfl⟩
section
variable {fll fvc fil fmc fit fhs fcv : Int32} {fkp fdk fck : Int64} {fqs fhr : Int32} {K A B C T inp jf js rn us df : Nat → Int32} {ri pd co : Nat → Int64} {cl qu nw od rv rm rc rs rh rd ro rt : Nat → Int32}
variable {gcl gcv gsl gra : Int32} {code cT kep mk st tr res : Nat → Int32}
variable {vc ll mc it w i t q : Nat}
/-- X: lines that change nothing -/
theorem ps_xflow {post : Int32 → SX → Prop} (hv : vc ≤ 8) (hl : ll ≤ 32) (hw : w < 2) (ht : t ≤ 32) (hi : i < t) (hT : T w = nI t) (hk : K (32 * w + i) = nI q) (hq : q ≤ 3 ∨ (7 ≤ q ∧ q ≤ 10))
    (ha : ps_FV vc ll (ps_srt q 1) (A (32 * w + i))) (hb : ps_FV vc ll (ps_srt q 2) (B (32 * w + i))) (hc : ps_FV vc ll (ps_srt q 3) (C (32 * w + i)))
    (h : post (nI (ps_T (ps_nx q t i (A (32 * w + i)) (B (32 * w + i)) (C (32 * w + i)) (ps_ov vc w rv (A (32 * w + i))) (ps_ov vc w rv (B (32 * w + i)))) t)) (fll, nI vc, fil, fmc, fit, fhs, fcv, fkp, fdk, fck, fqs, fhr, K, A, B, C, T, inp, jf, js, rn, us, df, ri, pd, co, cl, qu, nw, od, rv, rm, rc, rs, rh, rd, ro, rt)) : wpX_execute post (fll, nI vc, fil, fmc, fit, fhs, fcv, fkp, fdk, fck, fqs, fhr, K, A, B, C, T, inp, jf, js, rn, us, df, ri, pd, co, cl, qu, nw, od, rv, rm, rc, rs, rh, rd, ro, rt) (nI w) (nI i) := by
  have e : nI w * 32 + nI i = nI (32 * w + i) := by rw [show (32 : Int32) = nI 32 from rfl, pk_mul, nI_add, Nat.mul_comm]
  have ec : (nI (32 * w + i)).toNatClampNeg = 32 * w + i := nI_clamp (by omega)
  have ew : (nI w).toNatClampNeg = w := nI_clamp (by omega)
  have hin : vp_in (nI (32 * w + i)) 64 := vp_in_nI (by omega) (by omega)
  refine nm_r e (And.intro hin (nm_r (e' := nI q) (by rw [ec]; exact hk) (And.intro (vp_in_nI hw (by omega)) (nm_r (e' := nI t) (by rw [ew]; exact hT) (nm_r (nI_1 i) ?_)))))
  unfold ps_nx at h
  by_cases c1 : q = 1
  · subst c1
    rw [if_pos rfl, ps_T_self ht] at h
    exact br_t rfl h
  rw [if_neg c1] at h
  have n1 : ¬ nI q = 1 := fun z => c1 ((nI_eq (b := 1) (by omega) (by omega)).mp z)
  refine br_f n1 ?_
  by_cases c2 : q = 2
  · subst c2
    rw [if_pos rfl] at h
    obtain ⟨j, hj, hx⟩ := ha.2.2 rfl
    refine br_t rfl (And.intro hin ?_)
    rw [ec]
    exact ps_xrt (j := j) (by omega) hx h
  rw [if_neg c2] at h
  have n2 : ¬ nI q = 2 := fun z => c2 ((nI_eq (b := 2) (by omega) (by omega)).mp z)
  refine br_f n2 ?_
  by_cases c3 : q = 3
  · subst c3
    rw [if_pos rfl] at h
    obtain ⟨j, hj, hx⟩ := hb.2.2 rfl
    obtain ⟨j2, hj2, hx2⟩ := hc.2.2 rfl
    refine br_t rfl (And.intro hin ?_)
    rw [ec]
    refine ps_xop hv hw (br_c (fun d => And.intro hin ?_) (fun d => br_c (fun d2 => And.intro hin ?_) (fun d2 => ?_)))
    · rw [if_pos d] at h
      exact ps_xrt (j := j) (by omega) hx h
    · rw [if_neg d, if_pos d2] at h
      exact ps_xrt (j := j2) (by omega) hx2 h
    · rw [if_neg d, if_neg d2, ps_T_suc hi ht] at h
      exact h
  rw [if_neg c3] at h
  have n3 : ¬ nI q = 3 := fun z => c3 ((nI_eq (b := 3) (by omega) (by omega)).mp z)
  refine br_f n3 (ps_xic (fun d => br_f (by decide) (And.intro hin ?_)) (fun d => br_t rfl ?_))
  · rw [ps_cmp_nI (by omega)] at d
    have hs : ps_srt q 3 = 3 := by
      unfold ps_srt
      rw [if_neg (by omega), if_neg (by omega), if_pos rfl, if_pos (Or.inr d)]
    obtain ⟨j, hj, hx⟩ := hc.2.2 hs
    rw [ec]
    refine ps_xop hv hw (And.intro hin (ps_xop hv hw (ps_xcm d.1 d.2 (fun z => br_f (by decide) (And.intro hin ?_)) (fun z => br_t rfl ?_))))
    · rw [if_pos (ps_b_iff.mpr z)] at h
      exact ps_xrt (j := j) (by omega) hx h
    · rw [if_neg (fun y => z (ps_b_iff.mp y)), ps_T_suc hi ht] at h
      exact h
  · rw [ps_cmp_nI (by omega)] at d
    have q0 : q = 0 := by omega
    subst q0
    refine br_t rfl ?_
    rw [if_neg (fun y => by
      rcases ps_b_iff.mp y with z | z | z | z
      · omega
      · omega
      · omega
      · omega), ps_T_suc hi ht] at h
    exact h
/-- X: lines that change something -/
theorem ps_xchg {post : Int32 → SX → Prop} {rv' rm' rc' : Nat → Int32} (hw : w < 2) (ht : t ≤ 32) (hi : i < t) (hT : T w = nI t) (hk : K (32 * w + i) = nI q) (hq : q = 4 ∨ q = 5 ∨ q = 6 ∨ (11 ≤ q ∧ q ≤ 16))
    (hc : ∀ P : SX → Prop, P (fll, fvc, fil, fmc, fit, fhs, fcv, fkp, fdk, fck, fqs, fhr, K, A, B, C, T, inp, jf, js, rn, us, df, ri, pd, co, cl, qu, nw, od, rv', rm', rc', rs, rh, rd, ro, rt) → wpX_executeChange P (fll, fvc, fil, fmc, fit, fhs, fcv, fkp, fdk, fck, fqs, fhr, K, A, B, C, T, inp, jf, js, rn, us, df, ri, pd, co, cl, qu, nw, od, rv, rm, rc, rs, rh, rd, ro, rt) (nI w) (nI (32 * w + i)))
    (h : post (nI (i + 1)) (fll, fvc, fil, fmc, fit, fhs, fcv, fkp, fdk, fck, fqs, fhr, K, A, B, C, T, inp, jf, js, rn, us, df, ri, pd, co, cl, qu, nw, od, rv', rm', rc', rs, rh, rd, ro, rt)) : wpX_execute post (fll, fvc, fil, fmc, fit, fhs, fcv, fkp, fdk, fck, fqs, fhr, K, A, B, C, T, inp, jf, js, rn, us, df, ri, pd, co, cl, qu, nw, od, rv, rm, rc, rs, rh, rd, ro, rt) (nI w) (nI i) := by
  have e : nI w * 32 + nI i = nI (32 * w + i) := by rw [show (32 : Int32) = nI 32 from rfl, pk_mul, nI_add, Nat.mul_comm]
  have ec : (nI (32 * w + i)).toNatClampNeg = 32 * w + i := nI_clamp (by omega)
  have ew : (nI w).toNatClampNeg = w := nI_clamp (by omega)
  have hin : vp_in (nI (32 * w + i)) 64 := vp_in_nI (by omega) (by omega)
  have ne : ∀ b, b < 17 → q ≠ b → ¬ nI q = nI b := fun b hb hne z => hne ((nI_eq (by omega) (by omega)).mp z)
  refine nm_r e (And.intro hin (nm_r (e' := nI q) (by rw [ec]; exact hk) (And.intro (vp_in_nI hw (by omega)) (nm_r (e' := nI t) (by rw [ew]; exact hT) (nm_r (nI_1 i) ?_)))))
  refine br_f (ne 1 (by omega) (by omega)) (br_f (ne 2 (by omega) (by omega)) (br_f (ne 3 (by omega) (by omega)) (ps_xic (fun d => ?_) (fun d => br_t rfl (br_f (ne 0 (by omega) (by omega)) ?_)))))
  · rw [ps_cmp_nI (by omega)] at d
    omega
  · exact hc _ h
theorem ps_x157 {P : SX → Prop} {x : Int32} {n j : Nat} (hw : w < 2) (hn : n < 64) (hj : j < 8) (ha : A n = nI j) (h : P (fll, fvc, fil, fmc, fit, fhs, fcv, fkp, fdk, fck, fqs, fhr, K, A, B, C, T, inp, jf, js, rn, us, df, ri, pd, co, cl, qu, nw, od, upd rv (8 * w + j) x, rm, rc, rs, rh, rd, ro, rt)) : wX_executeChange_157 P (nI w) (nI n) x fll fvc fil fmc fit fhs fcv fkp fdk fck fqs fhr K A B C T inp jf js rn us df ri pd co cl qu nw od rv rm rc rs rh rd ro rt := by
  have ec : (nI n).toNatClampNeg = n := nI_clamp (by omega)
  have e : nI w * 8 + A (nI n).toNatClampNeg = nI (8 * w + j) := by rw [ec, ha, show (8 : Int32) = nI 8 from rfl, pk_mul, nI_add, Nat.mul_comm]
  refine And.intro (vp_in_nI hn (by omega)) ?_
  rw [e]
  exact And.intro (vp_in_nI (by omega) (by omega)) (nm_r (e' := upd rv (8 * w + j) x) (by rw [nI_clamp (by omega)]) h)
theorem ps_xec6 {P : SX → Prop} {n c : Nat} (hv : vc ≤ 8) (hm : 1 ≤ mc) (hm2 : mc ≤ 16) (hw : w < 2) (hn : n < 64) (hk : K n = nI 6) (hc : c < 16) (hcc : fmv (ps_ov vc w rv (A n)) (nI mc) = nI c)
    (h : P (fll, nI vc, fil, nI mc, fit, fhs, fcv, fkp, fdk, fck, fqs, fhr, K, A, B, C, T, inp, jf, js, rn, us, df, ri, pd, co, cl, qu, nw, od, rv, upd rm (16 * w + c) (ps_ov vc w rv (B n)), rc, rs, rh, rd, ro, rt)) : wpX_executeChange P (fll, nI vc, fil, nI mc, fit, fhs, fcv, fkp, fdk, fck, fqs, fhr, K, A, B, C, T, inp, jf, js, rn, us, df, ri, pd, co, cl, qu, nw, od, rv, rm, rc, rs, rh, rd, ro, rt) (nI w) (nI n) := by
  have ec : (nI n).toNatClampNeg = n := nI_clamp (by omega)
  have hin : vp_in (nI n) 64 := vp_in_nI hn (by omega)
  have e : nI w * 16 + nI c = nI (16 * w + c) := by rw [show (16 : Int32) = nI 16 from rfl, pk_mul, nI_add, Nat.mul_comm]
  refine And.intro hin (nm_r (e' := nI 6) (by rw [ec]; exact hk) (br_t rfl (And.intro hin ?_)))
  rw [ec]
  refine ps_xop hv hw (And.intro hin (ps_xop hv hw (ps_xwc hm hm2 ?_)))
  rw [hcc, e]
  exact And.intro (vp_in_nI (by omega) (by omega)) (nm_r (e' := upd rm (16 * w + c) (ps_ov vc w rv (B n))) (by rw [nI_clamp (by omega)]) h)
theorem ps_xec5 {P : SX → Prop} {n c j : Nat} (hv : vc ≤ 8) (hm : 1 ≤ mc) (hm2 : mc ≤ 16) (hw : w < 2) (hn : n < 64) (hk : K n = nI 5) (hc : c < 16) (hj : j < 8) (ha : A n = nI j) (hcc : fmv (ps_ov vc w rv (B n)) (nI mc) = nI c)
    (h : P (fll, nI vc, fil, nI mc, fit, fhs, fcv, fkp, fdk, fck, fqs, fhr, K, A, B, C, T, inp, jf, js, rn, us, df, ri, pd, co, cl, qu, nw, od, upd rv (8 * w + j) (rm (16 * w + c)), rm, rc, rs, rh, rd, ro, rt)) : wpX_executeChange P (fll, nI vc, fil, nI mc, fit, fhs, fcv, fkp, fdk, fck, fqs, fhr, K, A, B, C, T, inp, jf, js, rn, us, df, ri, pd, co, cl, qu, nw, od, rv, rm, rc, rs, rh, rd, ro, rt) (nI w) (nI n) := by
  have ec : (nI n).toNatClampNeg = n := nI_clamp (by omega)
  have hin : vp_in (nI n) 64 := vp_in_nI hn (by omega)
  have e : nI w * 16 + nI c = nI (16 * w + c) := by rw [show (16 : Int32) = nI 16 from rfl, pk_mul, nI_add, Nat.mul_comm]
  refine And.intro hin (nm_r (e' := nI 5) (by rw [ec]; exact hk) (br_f (by decide) (br_f (by decide) (br_t rfl (And.intro hin ?_)))))
  rw [ec]
  refine ps_xop hv hw (ps_xwc hm hm2 ?_)
  rw [hcc, e]
  exact And.intro (vp_in_nI (by omega) (by omega)) (nm_r (e' := rm (16 * w + c)) (by rw [nI_clamp (by omega)]) (ps_x157 hw hn hj ha h))
theorem ps_xec11 {P : SX → Prop} {n j : Nat} (hv : vc ≤ 8) (hw : w < 2) (hn : n < 64) (hk : K n = nI q) (hq : 11 ≤ q) (hq2 : q ≤ 16) (hj : j < 8) (ha : A n = nI j)
    (h : P (fll, nI vc, fil, fmc, fit, fhs, fcv, fkp, fdk, fck, fqs, fhr, K, A, B, C, T, inp, jf, js, rn, us, df, ri, pd, co, cl, qu, nw, od, upd rv (8 * w + j) (ps_cp q (ps_ov vc w rv (B n)) (ps_ov vc w rv (C n))), rm, rc, rs, rh, rd, ro, rt)) : wpX_executeChange P (fll, nI vc, fil, fmc, fit, fhs, fcv, fkp, fdk, fck, fqs, fhr, K, A, B, C, T, inp, jf, js, rn, us, df, ri, pd, co, cl, qu, nw, od, rv, rm, rc, rs, rh, rd, ro, rt) (nI w) (nI n) := by
  have ec : (nI n).toNatClampNeg = n := nI_clamp (by omega)
  have hin : vp_in (nI n) 64 := vp_in_nI hn (by omega)
  have ne : ∀ b, b < 11 → ¬ nI q = nI b := fun b hb z => by
    have := (nI_eq (by omega) (by omega)).mp z
    omega
  refine And.intro hin (nm_r (e' := nI q) (by rw [ec]; exact hk) (br_f (ne 6 (by omega)) (br_f (ne 4 (by omega)) (br_f (ne 5 (by omega)) (And.intro hin ?_)))))
  rw [ec]
  exact ps_xop hv hw (And.intro hin (ps_xop hv hw (ps_xcp hq hq2 (ps_x157 hw hn hj ha h))))
theorem ps_xec4 {P : SX → Prop} {n j cu : Nat} (hw : w < 2) (hn : n < 64) (hk : K n = nI 4) (hj : j < 8) (ha : A n = nI j) (hcu : cu < 2 ^ 30) (hit : it ≤ 16) (hrc : rc w = nI cu)
    (h : P (fll, fvc, fil, fmc, nI it, fhs, fcv, fkp, fdk, fck, fqs, fhr, K, A, B, C, T, inp, jf, js, rn, us, df, ri, pd, co, cl, qu, nw, od, upd rv (8 * w + j) (if it ≤ cu then 0 else inp cu), rm, upd rc w (nI (cu + 1)), rs, rh, rd, ro, rt)) : wpX_executeChange P (fll, fvc, fil, fmc, nI it, fhs, fcv, fkp, fdk, fck, fqs, fhr, K, A, B, C, T, inp, jf, js, rn, us, df, ri, pd, co, cl, qu, nw, od, rv, rm, rc, rs, rh, rd, ro, rt) (nI w) (nI n) := by
  have ec : (nI n).toNatClampNeg = n := nI_clamp (by omega)
  have ew : (nI w).toNatClampNeg = w := nI_clamp (by omega)
  have hin : vp_in (nI n) 64 := vp_in_nI hn (by omega)
  have hinw : vp_in (nI w) 2 := vp_in_nI hw (by omega)
  refine And.intro hin (nm_r (e' := nI 4) (by rw [ec]; exact hk) (br_f (by decide) (br_t rfl ?_)))
  refine And.intro hinw (nm_r (e' := nI cu) (by rw [ew]; exact hrc) (And.intro hinw (nm_r (e' := upd rc w (nI (cu + 1))) (by rw [ew, nI_1]) (br_f (nI_pos (by omega)) ?_))))
  by_cases c : it ≤ cu
  · rw [if_pos c] at h
    exact br_t (nI_le c (by omega)) (ps_x157 hw hn hj ha h)
  · rw [if_neg c] at h
    refine br_f (nI_ge (by omega) (by omega)) (And.intro (vp_in_nI (by omega) (by omega)) ?_)
    rw [nI_clamp (by omega)]
    exact ps_x157 hw hn hj ha h
/-! Y -/
theorem ps_yfw {post : Int32 → Prop} {p : Nat} (hw : w < 2) (ht : t ≤ 32) (hi : i < t) (hT : cT w = nI t) (hp : p ≤ 3) (h : post (code (4 * (32 * w + i) + p))) : wpY_field post (fll, fvc, fil, fmc, fit, gcl, gcv, gsl, gra, code, cT, inp, kep, mk, st, tr, res) (nI w) (nI i) (nI p) := by
  have hin : vp_in (nI w) 2 := vp_in_nI hw (by omega)
  have ew : (nI w).toNatClampNeg = w := nI_clamp (by omega)
  have yl : ∀ post : Int32 → Prop, post (nI t) → wpY_lineCount post (fll, fvc, fil, fmc, fit, gcl, gcv, gsl, gra, code, cT, inp, kep, mk, st, tr, res) (nI w) := by
    intro post hp
    rw [← hT] at hp
    have h2 : w = 0 ∨ w = 1 := by omega
    rcases h2 with rfl | rfl
    · exact br_t rfl (And.intro hin hp)
    · exact br_f (by decide) (br_t rfl (And.intro hin hp))
  have ej : (nI w * 128 + nI i * 4) + nI p = nI (4 * (32 * w + i) + p) := by
    rw [show (4 : Int32) = nI 4 from rfl, show (128 : Int32) = nI 128 from rfl, pk_mul, pk_mul, nI_add, nI_add]
    exact congrArg nI (by omega)
  refine br_f (nI_pos (by omega)) (yl _ (br_f (nI_ge hi (by omega)) (br_f (nI_pos (n := p) (by omega)) (br_t (nI_le (b := 3) hp (by omega)) ?_))))
  rw [ej]
  refine And.intro (vp_in_nI (by omega) (by omega)) ?_
  rw [nI_clamp (by omega)]; exact h
theorem ps_yhd {post : Int32 → SY → Prop} {a b c : Int32} (hv : vc ≤ 8) (hw : w < 2) (ht : t ≤ 32) (hi : i < t) (hT : cT w = nI t) (hq : q ≤ 16) (h0 : code (4 * (32 * w + i)) = nI q) (h1 : code (4 * (32 * w + i) + 1) = a) (h2 : code (4 * (32 * w + i) + 2) = b) (h3 : code (4 * (32 * w + i) + 3) = c)
    (h : wY_execute_145 post (nI w) (nI (32 * w)) (nI q) a (ps_yv vc w st a) (ps_yv vc w st b) (ps_yv vc w st c) (ps_nx q t i a b c (ps_yv vc w st a) (ps_yv vc w st b)) fll (nI vc) fil fmc fit gcl gcv gsl gra code cT inp kep mk st tr res) : wpY_execute post (fll, nI vc, fil, fmc, fit, gcl, gcv, gsl, gra, code, cT, inp, kep, mk, st, tr, res) (nI w) (nI i) := by
  have ew : (nI w).toNatClampNeg = w := nI_clamp (by omega)
  have e3 : nI w * 32 = nI (32 * w) := by rw [show (32 : Int32) = nI 32 from rfl, pk_mul, Nat.mul_comm]
  refine nm_r e3 ?_
  refine ps_yfw (p := 0) hw ht hi hT (by omega) ?_
  refine ps_yfw (p := 1) hw ht hi hT (by omega) ?_
  refine ps_yfw (p := 2) hw ht hi hT (by omega) ?_
  refine ps_yfw (p := 3) hw ht hi hT (by omega) ?_
  rw [h1, h2, h3, Nat.add_zero, h0]
  refine ps_yop hv hw (ps_yop hv hw (ps_yop hv hw (nm_r (nI_1 i) ?_)))
  unfold ps_nx at h
  have ne : ∀ b, b < 17 → q ≠ b → ¬ nI q = nI b := fun b hb hne z => hne ((nI_eq (by omega) (by omega)).mp z)
  -- from the compare on
  have h128 : ∀ x11 : Int32, (¬ ps_Hl q (ps_yv vc w st a) (ps_yv vc w st b) → wY_execute_145 post (nI w) (nI (32 * w)) (nI q) a (ps_yv vc w st a) (ps_yv vc w st b) (ps_yv vc w st c) x11 fll (nI vc) fil fmc fit gcl gcv gsl gra code cT inp kep mk st tr res) → (ps_Hl q (ps_yv vc w st a) (ps_yv vc w st b) → wY_execute_145 post (nI w) (nI (32 * w)) (nI q) a (ps_yv vc w st a) (ps_yv vc w st b) (ps_yv vc w st c) c fll (nI vc) fil fmc fit gcl gcv gsl gra code cT inp kep mk st tr res) →
      wY_execute_128 post (nI w) (nI (32 * w)) (nI q) a c (ps_yv vc w st a) (ps_yv vc w st b) (ps_yv vc w st c) x11 fll (nI vc) fil fmc fit gcl gcv gsl gra code cT inp kep mk st tr res := by
    intro x11 g0 g1
    unfold wY_execute_128
    exact ps_yho hq (fun z => br_f (by decide) (g1 z)) (fun z => br_t rfl (g0 z))
  have nH : ¬ (7 ≤ q ∧ q ≤ 10) → ¬ ps_Hl q (ps_yv vc w st a) (ps_yv vc w st b) := by
    intro hn z
    rcases z with z | z | z | z
    · omega
    · omega
    · omega
    · omega
  by_cases c1 : q = 1
  · subst c1
    rw [if_pos rfl] at h
    refine br_t rfl (And.intro (vp_in_nI hw (by omega)) (nm_r (e' := nI t) (by rw [ew]; exact hT) ?_))
    exact br_f (by decide) (br_f (by decide) (br_f (by decide) (h128 _ (fun _ => h) (fun z => absurd z (nH (by omega))))))
  rw [if_neg c1] at h
  refine br_f (ne 1 (by omega) c1) ?_
  by_cases c2 : q = 2
  · subst c2
    rw [if_pos rfl] at h
    exact br_t rfl (br_f (by decide) (br_f (by decide) (h128 _ (fun _ => h) (fun z => absurd z (nH (by omega))))))
  rw [if_neg c2] at h
  refine br_f (ne 2 (by omega) c2) ?_
  by_cases c3 : q = 3
  · subst c3
    rw [if_pos rfl] at h
    refine br_t rfl (br_c (fun d => ?_) (fun d => ?_))
    · rw [if_pos d] at h
      exact br_t rfl (br_f (by rw [d]; decide) (h128 _ (fun _ => h) (fun z => absurd z (nH (by omega)))))
    · rw [if_neg d] at h
      refine br_t rfl (br_c (fun d2 => ?_) (fun d2 => ?_))
      · rw [if_pos d2] at h
        exact h128 _ (fun _ => h) (fun z => absurd z (nH (by omega)))
      · rw [if_neg d2] at h
        exact h128 _ (fun _ => h) (fun z => absurd z (nH (by omega)))
  rw [if_neg c3] at h
  refine br_f (ne 3 (by omega) c3) (br_f (ne 3 (by omega) c3) (h128 _ (fun z => ?_) (fun z => ?_)))
  · rw [if_neg (fun y => z (ps_b_iff.mp y))] at h; exact h
  · rw [if_pos (ps_b_iff.mpr z)] at h; exact h
theorem ps_y286 {post : Int32 → SY → Prop} {x : Int32} (hw : w < 2) (ht : t ≤ 32) (hT : cT w = nI t) (hx : ∃ j, j < 2 ^ 31 ∧ x = nI j) (h : post (nI (ps_T x t)) (fll, fvc, fil, fmc, fit, gcl, gcv, gsl, gra, code, cT, inp, kep, mk, st, tr, res)) : wY_execute_286 post (nI w) x fll fvc fil fmc fit gcl gcv gsl gra code cT inp kep mk st tr res := by
  have ew : (nI w).toNatClampNeg = w := nI_clamp (by omega)
  have hin : vp_in (nI w) 2 := vp_in_nI hw (by omega)
  obtain ⟨j, hj, e⟩ := hx
  refine And.intro hin ?_
  rw [ew, hT]
  refine br_c (fun c => And.intro hin ?_) (fun c => ?_)
  · unfold ps_T at h; rw [if_pos c] at h; exact h
  · rw [ps_T_nI hj e c] at h; exact h
theorem ps_y260s {post : Int32 → SY → Prop} {x x5 x9 x10 : Int32} (hq : q < 11) (h : wY_execute_286 post (nI w) x fll fvc fil fmc fit gcl gcv gsl gra code cT inp kep mk st tr res) : wY_execute_260 post (nI w) (nI (32 * w)) (nI q) x5 x9 x10 x fll fvc fil fmc fit gcl gcv gsl gra code cT inp kep mk st tr res :=
  br_t (nI_lt (b := 11) hq (by omega)) h
theorem ps_y235s {post : Int32 → SY → Prop} {x x5 x8 x9 x10 : Int32} (hq : q ≤ 16) (h6 : q ≠ 6) (h : wY_execute_260 post (nI w) (nI (32 * w)) (nI q) x5 x9 x10 x fll fvc fil fmc fit gcl gcv gsl gra code cT inp kep mk st tr res) : wY_execute_235 post (nI w) (nI (32 * w)) (nI q) x5 x8 x9 x10 x fll fvc fil fmc fit gcl gcv gsl gra code cT inp kep mk st tr res :=
  br_f (fun z => h6 ((nI_eq (b := 6) (by omega) (by omega)).mp z)) h
theorem ps_y204s {post : Int32 → SY → Prop} {x x5 x8 x9 x10 : Int32} (hq : q ≤ 16) (h5 : q ≠ 5) (h : wY_execute_235 post (nI w) (nI (32 * w)) (nI q) x5 x8 x9 x10 x fll fvc fil fmc fit gcl gcv gsl gra code cT inp kep mk st tr res) : wY_execute_204 post (nI w) (nI (32 * w)) (nI q) x5 x8 x9 x10 x fll fvc fil fmc fit gcl gcv gsl gra code cT inp kep mk st tr res :=
  br_f (fun z => h5 ((nI_eq (b := 5) (by omega) (by omega)).mp z)) h
theorem ps_y145s {post : Int32 → SY → Prop} {x x5 x8 x9 x10 : Int32} (hq : q ≤ 16) (h4 : q ≠ 4) (h : wY_execute_204 post (nI w) (nI (32 * w)) (nI q) x5 x8 x9 x10 x fll fvc fil fmc fit gcl gcv gsl gra code cT inp kep mk st tr res) : wY_execute_145 post (nI w) (nI (32 * w)) (nI q) x5 x8 x9 x10 x fll fvc fil fmc fit gcl gcv gsl gra code cT inp kep mk st tr res :=
  br_f (fun z => h4 ((nI_eq (b := 4) (by omega) (by omega)).mp z)) h
end
end
section
/-! ===== execute in lockstep ===== -/
theorem ps_nx_eq {q t i : Nat} {a b c xa xb xa' xb' : Int32} (hA : (q = 3 ∨ (7 ≤ q ∧ q ≤ 10)) → xa = xa') (hB : (7 ≤ q ∧ q ≤ 10) → xb = xb') : ps_nx q t i a b c xa xb = ps_nx q t i a b c xa' xb' := by
  by_cases h : q = 3 ∨ (7 ≤ q ∧ q ≤ 10)
  · rw [hA h]
    by_cases h2 : 7 ≤ q ∧ q ≤ 10
    · rw [hB h2]
    · unfold ps_nx
      have h3 : q = 3 := by omega
      subst h3
      rfl
  · unfold ps_nx
    have nH : ∀ x y : Int32, ¬ ps_b (ps_Hl q x y) = true := by
      intro x y z
      rcases ps_b_iff.mp z with z | z | z | z
      · omega
      · omega
      · omega
      · omega
    rw [if_neg (nH xa xb), if_neg (nH xa' xb')]
    by_cases c1 : q = 1
    · rw [if_pos c1, if_pos c1]
    · rw [if_neg c1, if_neg c1]
      by_cases c2 : q = 2
      · rw [if_pos c2, if_pos c2]
      · rw [if_neg c2, if_neg c2, if_neg (by omega), if_neg (by omega)]
theorem ps_nx_chg {q t i : Nat} {a b c xa xb : Int32} (h : q = 4 ∨ q = 5 ∨ q = 6 ∨ 11 ≤ q) : ps_nx q t i a b c xa xb = nI (i + 1) := by
  unfold ps_nx
  rw [if_neg (by omega), if_neg (by omega), if_neg (by omega), if_neg]
  intro z
  rcases ps_b_iff.mp z with z | z | z | z
  · omega
  · omega
  · omega
  · omega
theorem ps_fmv {mc : Nat} (x : Int32) (h1 : 1 ≤ mc) (h2 : mc ≤ 16) : ∃ c, c < mc ∧ fmv x (nI mc) = nI c := by
  obtain ⟨c, e, hc⟩ := fmv_nat (a := x) (m := nI mc) (by rw [nI_toInt (by omega)]; omega)
  rw [nI_toInt (by omega)] at hc
  exact ⟨c, by omega, e⟩
section
variable {fll fvc fil fmc fit fhs fcv : Int32} {fkp fdk fck : Int64} {fqs fhr : Int32} {K A B C T inp jf js rn us df : Nat → Int32} {ri pd co : Nat → Int64} {cl qu nw od rv rm rc rs rh rd ro rt : Nat → Int32}
variable {gcl gcv gsl gra : Int32} {code cT kep mk st tr res : Nat → Int32}
variable {ll vc il mc it w i t cu : Nat}
theorem ps_exec (l4 : vc ≤ 8) (l2 : ll ≤ 32) (l6 : 1 ≤ mc) (l7 : mc ≤ 16) (l8 : it ≤ 16) (hw : w < 2) (ht : t ≤ 32) (hi : i < t) (hT : T w = nI t) (hC : ps_CE K A B C code)
    (hV : ps_VL vc ll (K (32 * w + i)) (A (32 * w + i)) (B (32 * w + i)) (C (32 * w + i))) (hR : ps_RS rv rm rc st) (hcu : rc w = nI cu) (hcb : cu < 2 ^ 30) :
    ∃ (p : Nat) (rv' rm' rc' st' : Nat → Int32) (cu' : Nat), p ≤ t ∧ ps_RS rv' rm' rc' st' ∧ rc' w = nI cu' ∧ cu' ≤ cu + 1 ∧
      (∀ post : Int32 → SX → Prop, post (nI p) (nI ll, nI vc, nI il, nI mc, nI it, fhs, fcv, fkp, fdk, fck, fqs, fhr, K, A, B, C, T, inp, jf, js, rn, us, df, ri, pd, co, cl, qu, nw, od, rv', rm', rc', rs, rh, rd, ro, rt) → wpX_execute post (nI ll, nI vc, nI il, nI mc, nI it, fhs, fcv, fkp, fdk, fck, fqs, fhr, K, A, B, C, T, inp, jf, js, rn, us, df, ri, pd, co, cl, qu, nw, od, rv, rm, rc, rs, rh, rd, ro, rt) (nI w) (nI i)) ∧
      (∀ post : Int32 → SY → Prop, post (nI p) (nI ll, nI vc, nI il, nI mc, nI it, gcl, gcv, fhs, fhr, code, T, inp, kep, mk, st', rt, res) → wpY_execute post (nI ll, nI vc, nI il, nI mc, nI it, gcl, gcv, fhs, fhr, code, T, inp, kep, mk, st, rt, res) (nI w) (nI i)) := by
  obtain ⟨q, hq, hk, ha, hb, hc⟩ := hV
  obtain ⟨g0, g1, g2, g3⟩ := hC (32 * w + i)
  have g0' : code (4 * (32 * w + i)) = nI q := g0.symm.trans hk
  have hnx := ps_nx_nI (xa := ps_yv vc w st (A (32 * w + i))) (xb := ps_yv vc w st (B (32 * w + i))) hq ht l2 hi ha hb hc
  have oA : (q = 3 ∨ q = 6 ∨ (7 ≤ q ∧ q ≤ 10)) → ps_yv vc w st (A (32 * w + i)) = ps_ov vc w rv (A (32 * w + i)) := by
    intro h
    have hs : ps_srt q 1 = 2 := by
      unfold ps_srt
      rw [if_pos rfl, if_neg (by omega), if_neg (by omega), if_pos h]
    exact ps_ov_yv l4 hw hR (ha.2.1 hs)
  have oB : 5 ≤ q → ps_yv vc w st (B (32 * w + i)) = ps_ov vc w rv (B (32 * w + i)) := by
    intro h
    have hs : ps_srt q 2 = 2 := by
      unfold ps_srt
      rw [if_neg (by omega), if_pos rfl, if_neg (by omega), if_pos h]
    exact ps_ov_yv l4 hw hR (hb.2.1 hs)
  have oC : 11 ≤ q → ps_yv vc w st (C (32 * w + i)) = ps_ov vc w rv (C (32 * w + i)) := by
    intro h
    have hs : ps_srt q 3 = 2 := by
      unfold ps_srt
      rw [if_neg (by omega), if_neg (by omega), if_pos rfl, if_neg (by omega), if_pos h]
    exact ps_ov_yv l4 hw hR (hc.2.1 hs)
  have vA : (q = 4 ∨ q = 5 ∨ 11 ≤ q) → ∃ j, j < vc ∧ A (32 * w + i) = nI j := by
    intro h
    have hs : ps_srt q 1 = 1 := by
      unfold ps_srt
      rw [if_pos rfl, if_neg (by omega), if_neg (by omega), if_neg (by omega)]
    exact ha.1 hs
  by_cases hf : q ≤ 3 ∨ (7 ≤ q ∧ q ≤ 10)
  · have enx := ps_nx_eq (t := t) (i := i) (q := q) (a := A (32 * w + i)) (b := B (32 * w + i)) (c := C (32 * w + i)) (xa := ps_yv vc w st (A (32 * w + i))) (xb := ps_yv vc w st (B (32 * w + i))) (xa' := ps_ov vc w rv (A (32 * w + i))) (xb' := ps_ov vc w rv (B (32 * w + i))) (fun h => oA (by omega)) (fun h => oB (by omega))
    refine ⟨ps_T (ps_nx q t i (A (32 * w + i)) (B (32 * w + i)) (C (32 * w + i)) (ps_ov vc w rv (A (32 * w + i))) (ps_ov vc w rv (B (32 * w + i)))) t, rv, rm, rc, st, cu, ps_T_le _ (by omega), hR, hcu, by omega, fun post h => ?_, fun post h => ?_⟩
    · exact ps_xflow l4 l2 hw ht hi hT hk hf ha hb hc h
    · refine ps_yhd l4 hw ht hi hT hq g0' g1.symm g2.symm g3.symm ?_
      refine ps_y145s hq (by omega) (ps_y204s hq (by omega) (ps_y235s hq (by omega) (ps_y260s (by omega) (ps_y286 hw ht hT hnx ?_))))
      rw [enx]; exact h
  · have hch : q = 4 ∨ q = 5 ∨ q = 6 ∨ (11 ≤ q ∧ q ≤ 16) := by omega
    have enx : ps_nx q t i (A (32 * w + i)) (B (32 * w + i)) (C (32 * w + i)) (ps_yv vc w st (A (32 * w + i))) (ps_yv vc w st (B (32 * w + i))) = nI (i + 1) := ps_nx_chg (by omega)
    have eTs := ps_T_suc hi ht
    have fin : ∀ (post : Int32 → SY → Prop) (st' : Nat → Int32), post (nI (i + 1)) (nI ll, nI vc, nI il, nI mc, nI it, gcl, gcv, fhs, fhr, code, T, inp, kep, mk, st', rt, res) → wY_execute_286 post (nI w) (nI (i + 1)) (nI ll) (nI vc) (nI il) (nI mc) (nI it) gcl gcv fhs fhr code T inp kep mk st' rt res := by
      intro post st' h
      refine ps_y286 hw ht hT ⟨i + 1, by omega, rfl⟩ ?_
      rw [eTs]; exact h
    rcases hch with h4 | h5 | h6 | h11
    · -- READ
      subst h4
      obtain ⟨j, hj, hA⟩ := vA (Or.inl rfl)
      refine ⟨i + 1, upd rv (8 * w + j) (if it ≤ cu then 0 else inp cu), rm, upd rc w (nI (cu + 1)), upd (upd st (32 * w + j) (if it ≤ cu then 0 else inp cu)) (32 * w + 8) (nI (cu + 1)), cu + 1, by omega, ps_RS_c (ps_RS_v hR hw (by omega)) hw, pk_us, by omega, fun post h => ?_, fun post h => ?_⟩
      · exact ps_xchg hw ht hi hT hk (Or.inl rfl) (fun P hP => ps_xec4 hw (by omega) hk (by omega) hA hcb l8 hcu hP) h
      · refine ps_yhd l4 hw ht hi hT hq g0' g1.symm g2.symm g3.symm ?_
        rw [enx, hA]
        have e8 : nI (32 * w) + 8 = nI (32 * w + 8) := by rw [show (8 : Int32) = nI 8 from rfl, nI_add]
        have ej : nI (32 * w) + nI j = nI (32 * w + j) := nI_add _ _
        have hst : st (32 * w + 8) = nI cu := by rw [← (hR w hw).2.2]; exact hcu
        have hin8 : vp_in (nI (32 * w) + 8) 64 := by rw [e8]; exact vp_in_nI (by omega) (by omega)
        have ec8 : (nI (32 * w) + 8).toNatClampNeg = 32 * w + 8 := by rw [e8]; exact nI_clamp (by omega)
        have hinj : vp_in (nI (32 * w) + nI j) 64 := by rw [ej]; exact vp_in_nI (by omega) (by omega)
        have ecj : (nI (32 * w) + nI j).toNatClampNeg = 32 * w + j := by rw [ej]; exact nI_clamp (by omega)
        have h190 : ∀ x8 x9 x10 : Int32, wY_execute_190 post (nI w) (nI (32 * w)) (nI 4) (nI j) x8 x9 x10 (nI (i + 1)) (nI cu) (if it ≤ cu then 0 else inp cu) (nI (32 * w) + nI j) (nI ll) (nI vc) (nI il) (nI mc) (nI it) gcl gcv fhs fhr code T inp kep mk st rt res := by
          intro x8 x9 x10
          refine And.intro hinj (nm_r (e' := upd st (32 * w + j) (if it ≤ cu then 0 else inp cu)) (by rw [ecj]) (And.intro hin8 (nm_r (e' := upd (upd st (32 * w + j) (if it ≤ cu then 0 else inp cu)) (32 * w + 8) (nI (cu + 1))) (by rw [ec8, nI_1]) ?_)))
          exact ps_y204s (by omega) (by omega) (ps_y235s (by omega) (by omega) (ps_y260s (by omega) (fin post _ h)))
        refine br_t rfl (And.intro hin8 (nm_r (e' := nI cu) (by rw [ec8]; exact hst) ?_))
        by_cases c : it ≤ cu
        · have h190' := h190 (ps_yv vc w st (nI j)) (ps_yv vc w st (B (32 * w + i))) (ps_yv vc w st (C (32 * w + i)))
          rw [if_pos c] at h190'
          exact br_t (nI_le c (by omega)) h190'
        · have h190' := h190 (ps_yv vc w st (nI j)) (ps_yv vc w st (B (32 * w + i))) (ps_yv vc w st (C (32 * w + i)))
          rw [if_neg c] at h190'
          refine br_f (nI_ge (by omega) (by omega)) (And.intro (vp_in_nI (by omega) (by omega)) ?_)
          rw [nI_clamp (show cu < 2 ^ 31 by omega)]
          exact h190'
    · -- LOAD
      subst h5
      obtain ⟨j, hj, hA⟩ := vA (Or.inr (Or.inl rfl))
      obtain ⟨c, hc16, hcc⟩ := ps_fmv (ps_ov vc w rv (B (32 * w + i))) l6 l7
      refine ⟨i + 1, upd rv (8 * w + j) (rm (16 * w + c)), rm, rc, upd st (32 * w + j) (st (32 * w + 16 + c)), cu, by omega, ?_, hcu, by omega, fun post h => ?_, fun post h => ?_⟩
      · rw [(hR w hw).2.1 c (by omega)]
        exact ps_RS_v hR hw (by omega)
      · exact ps_xchg hw ht hi hT hk (Or.inr (Or.inl rfl)) (fun P hP => ps_xec5 l4 l6 l7 hw (by omega) hk (by omega) (by omega) hA hcc hP) h
      · refine ps_yhd l4 hw ht hi hT hq g0' g1.symm g2.symm g3.symm ?_
        rw [enx, hA]
        have ej : nI (32 * w) + nI j = nI (32 * w + j) := nI_add _ _
        have hinj : vp_in (nI (32 * w) + nI j) 64 := by rw [ej]; exact vp_in_nI (by omega) (by omega)
        have ecj : (nI (32 * w) + nI j).toNatClampNeg = 32 * w + j := by rw [ej]; exact nI_clamp (by omega)
        have e16 : (nI (32 * w) + 16) + nI c = nI (32 * w + 16 + c) := by rw [show (16 : Int32) = nI 16 from rfl, nI_add, nI_add]
        refine ps_y145s hq (by omega) (br_t rfl ?_)
        rw [oB (by omega)]
        refine ps_ywc l6 l7 ?_
        rw [hcc, e16]
        refine And.intro (vp_in_nI (by omega) (by omega)) (And.intro hinj (nm_r (e' := upd st (32 * w + j) (st (32 * w + 16 + c))) (by rw [ecj, nI_clamp (by omega)]) ?_))
        exact ps_y235s hq (by omega) (ps_y260s (by omega) (fin post _ h))
    · -- STORE
      subst h6
      obtain ⟨c, hc16, hcc⟩ := ps_fmv (ps_ov vc w rv (A (32 * w + i))) l6 l7
      refine ⟨i + 1, rv, upd rm (16 * w + c) (ps_ov vc w rv (B (32 * w + i))), rc, upd st (32 * w + 16 + c) (ps_ov vc w rv (B (32 * w + i))), cu, by omega, ps_RS_m hR hw (by omega), hcu, by omega, fun post h => ?_, fun post h => ?_⟩
      · exact ps_xchg hw ht hi hT hk (Or.inr (Or.inr (Or.inl rfl))) (fun P hP => ps_xec6 l4 l6 l7 hw (by omega) hk (by omega) hcc hP) h
      · refine ps_yhd l4 hw ht hi hT hq g0' g1.symm g2.symm g3.symm ?_
        rw [enx]
        have e16 : (nI (32 * w) + 16) + nI c = nI (32 * w + 16 + c) := by rw [show (16 : Int32) = nI 16 from rfl, nI_add, nI_add]
        refine ps_y145s hq (by omega) (ps_y204s hq (by omega) (br_t rfl ?_))
        rw [oA (by omega), oB (by omega)]
        refine ps_ywc l6 l7 ?_
        rw [hcc, e16]
        refine And.intro (vp_in_nI (by omega) (by omega)) (nm_r (e' := upd st (32 * w + 16 + c) (ps_ov vc w rv (B (32 * w + i)))) (by rw [nI_clamp (by omega)]) ?_)
        exact ps_y260s (by omega) (fin post _ h)
    · -- ADD .. AND
      obtain ⟨j, hj, hA⟩ := vA (Or.inr (Or.inr h11.1))
      refine ⟨i + 1, upd rv (8 * w + j) (ps_cp q (ps_ov vc w rv (B (32 * w + i))) (ps_ov vc w rv (C (32 * w + i)))), rm, rc, upd st (32 * w + j) (ps_cp q (ps_ov vc w rv (B (32 * w + i))) (ps_ov vc w rv (C (32 * w + i)))), cu, by omega, ps_RS_v hR hw (by omega), hcu, by omega, fun post h => ?_, fun post h => ?_⟩
      · exact ps_xchg hw ht hi hT hk (Or.inr (Or.inr (Or.inr h11))) (fun P hP => ps_xec11 l4 hw (by omega) hk h11.1 h11.2 (by omega) hA hP) h
      · refine ps_yhd l4 hw ht hi hT hq g0' g1.symm g2.symm g3.symm ?_
        rw [enx, hA]
        have ej : nI (32 * w) + nI j = nI (32 * w + j) := nI_add _ _
        have hinj : vp_in (nI (32 * w) + nI j) 64 := by rw [ej]; exact vp_in_nI (by omega) (by omega)
        have ecj : (nI (32 * w) + nI j).toNatClampNeg = 32 * w + j := by rw [ej]; exact nI_clamp (by omega)
        refine ps_y145s hq (by omega) (ps_y204s hq (by omega) (ps_y235s hq (by omega) (br_f (nI_nlt (b := 11) h11.1 (by omega)) ?_)))
        rw [oB (by omega), oC (by omega)]
        refine ps_ycp h11.1 h11.2 (And.intro hinj (nm_r (e' := upd st (32 * w + j) (ps_cp q (ps_ov vc w rv (B (32 * w + i))) (ps_ov vc w rv (C (32 * w + i))))) (by rw [ecj]) ?_))
        exact fin post _ h
end
end
section
/-! ===== run in lockstep ===== -/
/-- within the run of program w, s lines taken -/
def ps_LI (w s cu h : Nat) (rc rs rh rd ro res : Nat → Int32) : Prop :=
  rc w = nI cu ∧ cu ≤ s ∧ rh w = nI h ∧ h ≤ s ∧ res (4 * w + 1) = nI s ∧ res (4 * w + 2) = rh w ∧ res (4 * w + 3) = rd w ∧
  (∀ v, v < 2 → v ≠ w → ro v = res (4 * v) ∧ rs v = res (4 * v + 1) ∧ rh v = res (4 * v + 2) ∧ rd v = res (4 * v + 3))
theorem ps_LI_go {w s cu cu' h : Nat} {rc rc' rs rh rd ro res : Nat → Int32} (hI : ps_LI w s cu h rc rs rh rd ro res) (hc : rc' w = nI cu') (hc2 : cu' ≤ cu + 1) :
    ps_LI w (s + 1) cu' h rc' rs rh rd ro (upd (upd res (4 * w) 2) (4 * w + 1) (nI (s + 1))) := by
  obtain ⟨h1, h2, h3, h4, h5, h6, h7, h8⟩ := hI
  refine ⟨hc, by omega, h3, by omega, pk_us, ?_, ?_, fun v hv hne => ?_⟩
  · rw [pk_un (by omega), pk_un (by omega)]; exact h6
  · rw [pk_un (by omega), pk_un (by omega)]; exact h7
  · obtain ⟨a1, a2, a3, a4⟩ := h8 v hv hne
    rw [pk_un (by omega), pk_un (by omega), pk_un (by omega), pk_un (by omega), pk_un (by omega), pk_un (by omega), pk_un (by omega), pk_un (by omega)]
    exact ⟨a1, a2, a3, a4⟩
theorem ps_LI_hit {w s cu h : Nat} {x : Int32} {rc rs rh rd ro res : Nat → Int32} (hI : ps_LI w s cu h rc rs rh rd ro res) (hh : h + 1 ≤ s) :
    ps_LI w s cu (h + 1) rc rs (upd rh w (nI (h + 1))) (upd rd w (rd w * 31 + x)) ro (upd (upd res (4 * w + 3) (rd w * 31 + x)) (4 * w + 2) (nI (h + 1))) := by
  obtain ⟨h1, h2, h3, h4, h5, h6, h7, h8⟩ := hI
  refine ⟨h1, h2, pk_us, hh, ?_, ?_, ?_, fun v hv hne => ?_⟩
  · rw [pk_un (by omega), pk_un (by omega)]; exact h5
  · rw [pk_us, pk_us]
  · rw [pk_un (by omega), pk_us, pk_us]
  · obtain ⟨a1, a2, a3, a4⟩ := h8 v hv hne
    rw [pk_un (show v ≠ w from hne), pk_un (show v ≠ w from hne), pk_un (by omega), pk_un (by omega), pk_un (by omega), pk_un (by omega), pk_un (by omega), pk_un (by omega), pk_un (by omega), pk_un (by omega)]
    exact ⟨a1, a2, a3, a4⟩
theorem ps_LI_end {w s cu h : Nat} {o : Int32} {rc rs rh rd ro res : Nat → Int32} (hI : ps_LI w s cu h rc rs rh rd ro res) : ps_RO (upd ro w o) (upd rs w (nI s)) rh rd (upd res (4 * w) o) := by
  obtain ⟨h1, h2, h3, h4, h5, h6, h7, h8⟩ := hI
  intro v hv
  by_cases e : v = w
  · subst e
    rw [pk_us, pk_us, pk_us, pk_un (by omega), pk_un (by omega), pk_un (by omega)]
    exact ⟨rfl, h5.symm, h6.symm, h7.symm⟩
  · obtain ⟨a1, a2, a3, a4⟩ := h8 v hv e
    rw [pk_un e, pk_un e, pk_un (by omega), pk_un (by omega), pk_un (by omega), pk_un (by omega)]
    exact ⟨a1, a2, a3, a4⟩
/-- the trace behind a hit -/
def ps_tr (w h : Nat) (rt : Nat → Int32) (x : Int32) : Nat → Int32 := if 256 ≤ h then rt else upd rt (256 * w + h) x
section
variable {fll fvc fil fmc fit fhs fcv : Int32} {fkp fdk fck : Int64} {fqs fhr : Int32} {K A B C T inp jf js rn us df : Nat → Int32} {ri pd co : Nat → Int64} {cl qu nw od rv rm rc rs rh rd ro rt : Nat → Int32}
variable {gcl gcv gsl gra : Int32} {code cT kep mk st tr res : Nat → Int32}
variable {ll vc il mc it w t cu : Nat}
theorem ps_xhit {post : SX → Prop} {v h : Nat} (hw : w < 2) (hv : v < 8) (hh : h < 2 ^ 30) (hrh : rh w = nI h)
    (hp : post (fll, fvc, fil, fmc, fit, fhs, nI v, fkp, fdk, fck, fqs, fhr, K, A, B, C, T, inp, jf, js, rn, us, df, ri, pd, co, cl, qu, nw, od, rv, rm, rc, rs, upd rh w (nI (h + 1)), upd rd w (rd w * 31 + rv (8 * w + v)), ro, ps_tr w h rt (rv (8 * w + v)))) : wpX_recordHit post (fll, fvc, fil, fmc, fit, fhs, nI v, fkp, fdk, fck, fqs, fhr, K, A, B, C, T, inp, jf, js, rn, us, df, ri, pd, co, cl, qu, nw, od, rv, rm, rc, rs, rh, rd, ro, rt) (nI w) := by
  have ew : (nI w).toNatClampNeg = w := nI_clamp (by omega)
  have hin : vp_in (nI w) 2 := vp_in_nI hw (by omega)
  have e8 : nI w * 8 + nI v = nI (8 * w + v) := by rw [show (8 : Int32) = nI 8 from rfl, pk_mul, nI_add, Nat.mul_comm]
  have h42 : ∀ rt', post (fll, fvc, fil, fmc, fit, fhs, nI v, fkp, fdk, fck, fqs, fhr, K, A, B, C, T, inp, jf, js, rn, us, df, ri, pd, co, cl, qu, nw, od, rv, rm, rc, rs, upd rh w (nI (h + 1)), upd rd w (rd w * 31 + rv (8 * w + v)), ro, rt') → wX_recordHit_42 post (nI w) (rv (8 * w + v)) (nI h) fll fvc fil fmc fit fhs (nI v) fkp fdk fck fqs fhr K A B C T inp jf js rn us df ri pd co cl qu nw od rv rm rc rs rh rd ro rt' := by
    intro rt' hp'
    exact And.intro hin (And.intro hin (nm_r (e' := upd rd w (rd w * 31 + rv (8 * w + v))) (by rw [ew]) (And.intro hin (nm_r (e' := upd rh w (nI (h + 1))) (by rw [ew, nI_1]) hp'))))
  refine And.intro (by rw [e8]; exact vp_in_nI (by omega) (by omega)) (nm_r (e' := rv (8 * w + v)) (by rw [e8, nI_clamp (by omega)]) (And.intro hin (nm_r (e' := nI h) (by rw [ew]; exact hrh) ?_)))
  unfold ps_tr at hp
  by_cases c : 256 ≤ h
  · rw [if_pos c] at hp
    exact br_t (nI_le (a := 256) c (by omega)) (h42 _ hp)
  · rw [if_neg c] at hp
    have e256 : nI w * 256 + nI h = nI (256 * w + h) := by rw [show (256 : Int32) = nI 256 from rfl, pk_mul, nI_add, Nat.mul_comm]
    refine br_f (nI_ge (b := 256) (by omega) (by omega)) (And.intro (by rw [e256]; exact vp_in_nI (by omega) (by omega)) (nm_r (e' := upd rt (256 * w + h) (rv (8 * w + v))) (by rw [e256, nI_clamp (by omega)]) (h42 _ hp)))
/-- Y: a step that is taken -/
theorem ps_y94 {post : SY → Prop} {J66 : Int32 → Int32 → Int32 → Int32 → Int32 → Int32 → Int32 → Int32 → Int32 → Int32 → Int32 → (Nat → Int32) → (Nat → Int32) → (Nat → Int32) → (Nat → Int32) → (Nat → Int32) → (Nat → Int32) → (Nat → Int32) → (Nat → Int32) → Prop}
    {v h s p bud wl : Nat} {xs : Int32} (hw : w < 2) (hv : v < 8) (hh : h < 2 ^ 30) (ht : t ≤ 32) (hT : cT w = nI t) (hp : p < t) (hwl : wl ≤ 32) (hs : s < bud) (hb : bud ≤ 1000) (h1 : res (4 * w + 1) = nI s) (h2 : res (4 * w + 2) = nI h) (h3 : res (4 * w + 3) = xs)
    (hy : p = wl → wY_runOne_222 post J66 (nI w) (nI bud) (nI wl) (nI (4 * w)) (nI p) (nI s) fll fvc fil fmc fit gcl (nI v) gsl gra code cT inp kep mk st (ps_tr w h tr (st (32 * w + v))) (upd (upd (upd (upd res (4 * w) 2) (4 * w + 1) (nI (s + 1))) (4 * w + 3) (xs * 31 + st (32 * w + v))) (4 * w + 2) (nI (h + 1))))
    (hn : p ≠ wl → wY_runOne_222 post J66 (nI w) (nI bud) (nI wl) (nI (4 * w)) (nI p) (nI s) fll fvc fil fmc fit gcl (nI v) gsl gra code cT inp kep mk st tr (upd (upd res (4 * w) 2) (4 * w + 1) (nI (s + 1)))) :
    wY_runOne_94 post J66 (nI w) (nI bud) (nI wl) (nI (4 * w)) (nI p) (nI s) 2 (nI (4 * w)) fll fvc fil fmc fit gcl (nI v) gsl gra code cT inp kep mk st tr res := by
  have ew : (nI w).toNatClampNeg = w := nI_clamp (by omega)
  have hin : vp_in (nI w) 2 := vp_in_nI hw (by omega)
  have e1 : nI (4 * w) + 1 = nI (4 * w + 1) := nI_1 _
  have e2 : nI (4 * w) + 2 = nI (4 * w + 2) := by rw [show (2 : Int32) = nI 2 from rfl, nI_add]
  have e3 : nI (4 * w) + 3 = nI (4 * w + 3) := by rw [show (3 : Int32) = nI 3 from rfl, nI_add]
  have i1 : vp_in (nI (4 * w + 1)) 8 := vp_in_nI (by omega) (by omega)
  have i2 : vp_in (nI (4 * w + 2)) 8 := vp_in_nI (by omega) (by omega)
  have i3 : vp_in (nI (4 * w + 3)) 8 := vp_in_nI (by omega) (by omega)
  have k1 : (nI (4 * w + 1)).toNatClampNeg = 4 * w + 1 := nI_clamp (by omega)
  have k2 : (nI (4 * w + 2)).toNatClampNeg = 4 * w + 2 := nI_clamp (by omega)
  have k3 : (nI (4 * w + 3)).toNatClampNeg = 4 * w + 3 := nI_clamp (by omega)
  have r2 : (upd (upd res (4 * w) 2) (4 * w + 1) (nI (s + 1))) (4 * w + 2) = nI h := by rw [pk_un (by omega), pk_un (by omega)]; exact h2
  have r3 : (upd (upd res (4 * w) 2) (4 * w + 1) (nI (s + 1))) (4 * w + 3) = xs := by rw [pk_un (by omega), pk_un (by omega)]; exact h3
  refine And.intro (vp_in_nI (by omega) (by omega)) (nm_r (e' := upd res (4 * w) 2) (by rw [nI_clamp (by omega)]) (And.intro hin ?_))
  rw [ew, hT]
  refine br_f (nI_ge hp (by omega)) (br_f (fun z => by have := (nI_eq (by omega) (by omega)).mp z; omega) ?_)
  rw [e1, k1]
  refine And.intro i1 (And.intro i1 (nm_r (e' := upd (upd res (4 * w) 2) (4 * w + 1) (nI (s + 1))) (by rw [pk_un (by omega), h1, nI_1]) ?_))
  refine br_c (fun c => ?_) (fun c => hn (fun z => c (by rw [z])))
  have c' := (nI_eq (by omega) (by omega)).mp c
  have e32 : nI w * 32 + nI v = nI (32 * w + v) := by rw [show (32 : Int32) = nI 32 from rfl, pk_mul, nI_add, Nat.mul_comm]
  refine And.intro (by rw [e32]; exact vp_in_nI (by omega) (by omega)) (nm_r (e' := st (32 * w + v)) (by rw [e32, nI_clamp (by omega)]) ?_)
  rw [e2, k2, r2]
  refine And.intro i2 ?_
  have h185 : ∀ tr', wY_runOne_222 post J66 (nI w) (nI bud) (nI wl) (nI (4 * w)) (nI p) (nI s) fll fvc fil fmc fit gcl (nI v) gsl gra code cT inp kep mk st tr' (upd (upd (upd (upd res (4 * w) 2) (4 * w + 1) (nI (s + 1))) (4 * w + 3) (xs * 31 + st (32 * w + v))) (4 * w + 2) (nI (h + 1))) →
      wY_runOne_185 post J66 (nI w) (nI bud) (nI wl) (nI (4 * w)) (nI p) (nI s) (st (32 * w + v)) fll fvc fil fmc fit gcl (nI v) gsl gra code cT inp kep mk st tr' (upd (upd res (4 * w) 2) (4 * w + 1) (nI (s + 1))) := by
    intro tr' g
    unfold wY_runOne_185
    rw [e3, k3, e2, k2]
    refine And.intro i3 (And.intro i3 (nm_r (e' := upd (upd (upd res (4 * w) 2) (4 * w + 1) (nI (s + 1))) (4 * w + 3) (xs * 31 + st (32 * w + v))) (by rw [r3]) (And.intro i2 (And.intro i2 (nm_r (e' := upd (upd (upd (upd res (4 * w) 2) (4 * w + 1) (nI (s + 1))) (4 * w + 3) (xs * 31 + st (32 * w + v))) (4 * w + 2) (nI (h + 1))) ?_ g)))))
    rw [pk_un (by omega), r2, nI_1]
  have hy' := hy c'
  unfold ps_tr at hy'
  by_cases d : 256 ≤ h
  · rw [if_pos d] at hy'
    exact br_t (nI_le (a := 256) d (by omega)) (h185 _ hy')
  · rw [if_neg d] at hy'
    have e256 : nI w * 256 + nI h = nI (256 * w + h) := by rw [show (256 : Int32) = nI 256 from rfl, pk_mul, nI_add, Nat.mul_comm]
    refine br_f (nI_ge (b := 256) (by omega) (by omega)) (And.intro i2 ?_)
    rw [e256]
    exact And.intro (vp_in_nI (by omega) (by omega)) (nm_r (e' := upd tr (256 * w + h) (st (32 * w + v))) (by rw [nI_clamp (by omega)]) (h185 _ hy'))
/-- Y: the last step -/
theorem ps_y94e {post : SY → Prop} {J66 : Int32 → Int32 → Int32 → Int32 → Int32 → Int32 → Int32 → Int32 → Int32 → Int32 → Int32 → (Nat → Int32) → (Nat → Int32) → (Nat → Int32) → (Nat → Int32) → (Nat → Int32) → (Nat → Int32) → (Nat → Int32) → (Nat → Int32) → Prop}
    {s p bud : Nat} {o x3 : Int32} (hw : w < 2) (ht : t ≤ 32) (hT : cT w = nI t) (hp : p ≤ t) (hs : t ≤ p ∨ s = bud) (hb : bud ≤ 1000)
    (h : post (fll, fvc, fil, fmc, fit, gcl, gcv, gsl, gra, code, cT, inp, kep, mk, st, tr, upd res (4 * w) o)) : wY_runOne_94 post J66 (nI w) (nI bud) x3 (nI (4 * w)) (nI p) (nI s) o (nI (4 * w)) fll fvc fil fmc fit gcl gcv gsl gra code cT inp kep mk st tr res := by
  have ew : (nI w).toNatClampNeg = w := nI_clamp (by omega)
  have hin : vp_in (nI w) 2 := vp_in_nI hw (by omega)
  refine And.intro (vp_in_nI (by omega) (by omega)) (nm_r (e' := upd res (4 * w) o) (by rw [nI_clamp (by omega)]) (And.intro hin ?_))
  rw [ew, hT]
  by_cases c : t ≤ p
  · exact br_t (nI_le c (by omega)) h
  · have e := hs.resolve_left c
    exact br_f (nI_ge (by omega) (by omega)) (br_t (by rw [e]) h)
theorem ps_loop {v wl bud : Nat} (l4 : vc ≤ 8) (l2 : ll ≤ 32) (l6 : 1 ≤ mc) (l7 : mc ≤ 16) (l8 : it ≤ 16) (hw : w < 2) (ht : t ≤ 32) (hv : v < vc) (hwl : wl ≤ 32) (hb : bud ≤ 1000) (hT : T w = nI t) (hC : ps_CE K A B C code)
    (hV : ∀ i, i < t → ps_VL vc ll (K (32 * w + i)) (A (32 * w + i)) (B (32 * w + i)) (C (32 * w + i))) :
    ∀ d s p cu h rv rm rc rh rd rt st res, s + d = bud → p ≤ t → ps_RS rv rm rc st → ps_LI w s cu h rc rs rh rd ro res →
      ∃ (rv' rm' rc' rs' rh' rd' ro' rt' st' res' : Nat → Int32), ps_RS rv' rm' rc' st' ∧ ps_RO ro' rs' rh' rd' res' ∧
        (∀ post : SX → Prop, post (nI ll, nI vc, nI il, nI mc, nI it, fhs, nI v, fkp, fdk, fck, fqs, fhr, K, A, B, C, T, inp, jf, js, rn, us, df, ri, pd, co, cl, qu, nw, od, rv', rm', rc', rs', rh', rd', ro', rt') → wX_runProgram_26 post (nI w) (nI bud) (nI t) (nI wl) (d + 1) (nI p) (nI s) (nI ll) (nI vc) (nI il) (nI mc) (nI it) fhs (nI v) fkp fdk fck fqs fhr K A B C T inp jf js rn us df ri pd co cl qu nw od rv rm rc rs rh rd ro rt) ∧
        (∀ post : SY → Prop, post (nI ll, nI vc, nI il, nI mc, nI it, gcl, nI v, fhs, fhr, code, T, inp, kep, mk, st', rt', res') → wY_runOne_66 post (nI w) (nI bud) (nI wl) (nI (4 * w)) (d + 1) (nI p) (nI s) (nI ll) (nI vc) (nI il) (nI mc) (nI it) gcl (nI v) fhs fhr code T inp kep mk st rt res) := by
  have ew : (nI w).toNatClampNeg = w := nI_clamp (by omega)
  have hin : vp_in (nI w) 2 := vp_in_nI hw (by omega)
  have stop : ∀ d s p cu h rv rm rc rh rd rt st res, s + d = bud → (t ≤ p ∨ s = bud) → p ≤ t → ps_RS rv rm rc st → ps_LI w s cu h rc rs rh rd ro res →
      ∃ (rv' rm' rc' rs' rh' rd' ro' rt' st' res' : Nat → Int32), ps_RS rv' rm' rc' st' ∧ ps_RO ro' rs' rh' rd' res' ∧
        (∀ post : SX → Prop, post (nI ll, nI vc, nI il, nI mc, nI it, fhs, nI v, fkp, fdk, fck, fqs, fhr, K, A, B, C, T, inp, jf, js, rn, us, df, ri, pd, co, cl, qu, nw, od, rv', rm', rc', rs', rh', rd', ro', rt') → wX_runProgram_26 post (nI w) (nI bud) (nI t) (nI wl) (d + 1) (nI p) (nI s) (nI ll) (nI vc) (nI il) (nI mc) (nI it) fhs (nI v) fkp fdk fck fqs fhr K A B C T inp jf js rn us df ri pd co cl qu nw od rv rm rc rs rh rd ro rt) ∧
        (∀ post : SY → Prop, post (nI ll, nI vc, nI il, nI mc, nI it, gcl, nI v, fhs, fhr, code, T, inp, kep, mk, st', rt', res') → wY_runOne_66 post (nI w) (nI bud) (nI wl) (nI (4 * w)) (d + 1) (nI p) (nI s) (nI ll) (nI vc) (nI il) (nI mc) (nI it) gcl (nI v) fhs fhr code T inp kep mk st rt res) := by
    intro d s p cu h rv rm rc rh rd rt st res hd hst hp hR hI
    have key : ∀ o : Int32, (p < t → o = 2) → (t ≤ p → o = 1) → ps_RO (upd ro w o) (upd rs w (nI s)) rh rd (upd res (4 * w) o) := fun o _ _ => ps_LI_end hI
    have fin : ∀ o : Int32, (p < t → o = 2) → (t ≤ p → o = 1) → ∃ (rv' rm' rc' rs' rh' rd' ro' rt' st' res' : Nat → Int32), ps_RS rv' rm' rc' st' ∧ ps_RO ro' rs' rh' rd' res' ∧
        (∀ post : SX → Prop, post (nI ll, nI vc, nI il, nI mc, nI it, fhs, nI v, fkp, fdk, fck, fqs, fhr, K, A, B, C, T, inp, jf, js, rn, us, df, ri, pd, co, cl, qu, nw, od, rv', rm', rc', rs', rh', rd', ro', rt') → wX_runProgram_26 post (nI w) (nI bud) (nI t) (nI wl) (d + 1) (nI p) (nI s) (nI ll) (nI vc) (nI il) (nI mc) (nI it) fhs (nI v) fkp fdk fck fqs fhr K A B C T inp jf js rn us df ri pd co cl qu nw od rv rm rc rs rh rd ro rt) ∧
        (∀ post : SY → Prop, post (nI ll, nI vc, nI il, nI mc, nI it, gcl, nI v, fhs, fhr, code, T, inp, kep, mk, st', rt', res') → wY_runOne_66 post (nI w) (nI bud) (nI wl) (nI (4 * w)) (d + 1) (nI p) (nI s) (nI ll) (nI vc) (nI il) (nI mc) (nI it) gcl (nI v) fhs fhr code T inp kep mk st rt res) := by
      intro o o2 o1
      refine ⟨rv, rm, rc, upd rs w (nI s), rh, rd, upd ro w o, rt, st, upd res (4 * w) o, hR, key o o2 o1, fun post hP => ?_, fun post hP => ?_⟩
      · have h65 : wX_runProgram_65 post (nI w) (nI t) (nI p) (nI s) (nI ll) (nI vc) (nI il) (nI mc) (nI it) fhs (nI v) fkp fdk fck fqs fhr K A B C T inp jf js rn us df ri pd co cl qu nw od rv rm rc rs rh rd ro rt := by
          refine And.intro hin (nm_r (e' := upd rs w (nI s)) (by rw [ew]) ?_)
          by_cases c : p < t
          · refine br_t (nI_lt c (by omega)) (And.intro hin (nm_r (e' := upd ro w o) (by rw [ew, o2 c]) hP))
          · refine br_f (nI_nlt (by omega) (by omega)) (And.intro hin (nm_r (e' := upd ro w o) (by rw [ew, o1 (by omega)]) hP))
        by_cases c : bud ≤ s
        · exact br_t (nI_le c (by omega)) h65
        · exact br_f (nI_ge (by omega) (by omega)) (br_t (nI_le (hst.resolve_right (by omega)) (by omega)) h65)
      · refine br_f (nI_nlt (by omega) (by omega)) (And.intro hin ?_)
        rw [ew, hT]
        by_cases c : p < t
        · have h94 := ps_y94e (fll := nI ll) (fvc := nI vc) (fil := nI il) (fmc := nI mc) (fit := nI it) (gcl := gcl) (gcv := nI v) (gsl := fhs) (gra := fhr) (code := code) (cT := T) (inp := inp) (kep := kep) (mk := mk) (st := st) (tr := rt) (res := res) (post := post) (J66 := wY_runOne_66 post (nI w) (nI bud) (nI wl) (nI (4 * w)) d) (o := o) (x3 := nI wl) (s := s) (p := p) (bud := bud) hw ht hT hp hst hb hP
          rw [o2 c] at h94
          exact br_t (nI_lt c (by omega)) h94
        · have h94 := ps_y94e (fll := nI ll) (fvc := nI vc) (fil := nI il) (fmc := nI mc) (fit := nI it) (gcl := gcl) (gcv := nI v) (gsl := fhs) (gra := fhr) (code := code) (cT := T) (inp := inp) (kep := kep) (mk := mk) (st := st) (tr := rt) (res := res) (post := post) (J66 := wY_runOne_66 post (nI w) (nI bud) (nI wl) (nI (4 * w)) d) (o := o) (x3 := nI wl) (s := s) (p := p) (bud := bud) hw ht hT hp hst hb hP
          rw [o1 (by omega)] at h94
          exact br_f (nI_nlt (by omega) (by omega)) h94
    by_cases c : p < t
    · exact fin 2 (fun _ => rfl) (fun z => by omega)
    · exact fin 1 (fun z => by omega) (fun _ => rfl)
  intro d
  induction d with
  | zero =>
    intro s p cu h rv rm rc rh rd rt st res hd hp hR hI
    exact stop 0 s p cu h rv rm rc rh rd rt st res hd (Or.inr (by omega)) hp hR hI
  | succ d ih =>
    intro s p cu h rv rm rc rh rd rt st res hd hp hR hI
    by_cases c : t ≤ p
    · exact stop (d + 1) s p cu h rv rm rc rh rd rt st res hd (Or.inl c) hp hR hI
    have hpt : p < t := by omega
    have hI' := hI
    obtain ⟨h1, h2, h3, h4, h5, h6, h7, h8⟩ := hI
    have hsv : rv (8 * w + v) = st (32 * w + v) := (hR w hw).1 v (by omega)
    obtain ⟨p', rv1, rm1, rc1, st1, cu1, hp', hR1, hc1, hcle, eX, eY⟩ := ps_exec (ll := ll) (vc := vc) (il := il) (mc := mc) (it := it) (w := w) (i := p) (t := t) (cu := cu) (fhs := fhs) (fcv := nI v) (fkp := fkp) (fdk := fdk) (fck := fck) (fqs := fqs) (fhr := fhr) (K := K) (A := A) (B := B) (C := C) (T := T) (inp := inp) (jf := jf) (js := js) (rn := rn) (us := us) (df := df) (ri := ri) (pd := pd) (co := co) (cl := cl) (qu := qu) (nw := nw) (od := od) (rv := rv) (rm := rm) (rc := rc) (rs := rs) (rh := if p = wl then upd rh w (nI (h + 1)) else rh) (rd := if p = wl then upd rd w (rd w * 31 + rv (8 * w + v)) else rd) (ro := ro) (rt := if p = wl then ps_tr w h rt (rv (8 * w + v)) else rt) (gcl := gcl) (gcv := nI v) (code := code) (kep := kep) (mk := mk) (st := st) (res := if p = wl then upd (upd (upd (upd res (4 * w) 2) (4 * w + 1) (nI (s + 1))) (4 * w + 3) (rd w * 31 + st (32 * w + v))) (4 * w + 2) (nI (h + 1)) else upd (upd res (4 * w) 2) (4 * w + 1) (nI (s + 1)))
      l4 l2 l6 l7 l8 hw ht hpt hT hC (hV p hpt) hR h1 (by omega)
    have hgo := ps_LI_go hI' hc1 hcle
    by_cases e : p = wl
    · rw [if_pos e, if_pos e, if_pos e] at eX
      rw [if_pos e, if_pos e] at eY
      have hhit := ps_LI_hit (x := rv (8 * w + v)) hgo (by omega)
      rw [show (st (32 * w + v)) = rv (8 * w + v) from hsv.symm] at eY
      obtain ⟨rv', rm', rc', rs', rh', rd', ro', rt', st', res', k1, k2, k3, k4⟩ := ih (s + 1) p' cu1 (h + 1) rv1 rm1 rc1 _ _ (ps_tr w h rt (rv (8 * w + v))) st1 _ (by omega) hp' hR1 hhit
      refine ⟨rv', rm', rc', rs', rh', rd', ro', rt', st', res', k1, k2, fun post hP => ?_, fun post hP => ?_⟩
      · refine br_f (nI_ge (by omega) (by omega)) (br_f (nI_ge hpt (by omega)) (nm_r (nI_1 s) (br_t (by rw [e]) ?_)))
        refine ps_xhit hw (by omega) (show h < 2 ^ 30 by omega) h3 ?_
        exact eX _ (k3 post hP)
      · refine br_f (nI_nlt (by omega) (by omega)) (And.intro hin ?_)
        rw [ew, hT]
        refine br_t (nI_lt hpt (by omega)) ?_
        refine ps_y94 (xs := rd w) hw (by omega) (show h < 2 ^ 30 by omega) ht hT hpt hwl (by omega) hb h5 (h6.trans h3) h7 (fun _ => ?_) (fun z => absurd e z)
        rw [show (st (32 * w + v)) = rv (8 * w + v) from hsv.symm]
        unfold wY_runOne_222
        refine eY _ (nm_r (nI_1 s) ?_)
        exact k4 post hP
    · rw [if_neg e, if_neg e, if_neg e] at eX
      rw [if_neg e, if_neg e] at eY
      obtain ⟨rv', rm', rc', rs', rh', rd', ro', rt', st', res', k1, k2, k3, k4⟩ := ih (s + 1) p' cu1 h rv1 rm1 rc1 _ _ rt st1 _ (by omega) hp' hR1 hgo
      have ne : ¬ nI p = nI wl := fun z => e ((nI_eq (by omega) (by omega)).mp z)
      refine ⟨rv', rm', rc', rs', rh', rd', ro', rt', st', res', k1, k2, fun post hP => ?_, fun post hP => ?_⟩
      · refine br_f (nI_ge (by omega) (by omega)) (br_f (nI_ge hpt (by omega)) (nm_r (nI_1 s) (br_f ne ?_)))
        unfold wX_runProgram_53
        exact eX _ (k3 post hP)
      · refine br_f (nI_nlt (by omega) (by omega)) (And.intro hin ?_)
        rw [ew, hT]
        refine br_t (nI_lt hpt (by omega)) ?_
        refine ps_y94 (xs := rd w) hw (by omega) (show h < 2 ^ 30 by omega) ht hT hpt hwl (by omega) hb h5 (h6.trans h3) h7 (fun z => absurd z e) (fun _ => ?_)
        unfold wY_runOne_222
        refine eY _ (nm_r (nI_1 s) ?_)
        exact k4 post hP
end
end
section
/-! ===== reset, runProgram, runOne, run ===== -/
/-- b times: the cells from m on are 0, the others as before -/
def ps_ZR (m b : Nat) (f0 f : Nat → Int32) : Prop := (∀ j, j < b → f (m + j) = 0)
def ps_ZF (m b : Nat) (f0 f : Nat → Int32) : Prop := ∀ q, (q < m ∨ m + b ≤ q) → f q = f0 q
section
variable {fll fvc fil fmc fit fhs fcv : Int32} {fkp fdk fck : Int64} {fqs fhr : Int32} {K A B C T inp jf js rn us df : Nat → Int32} {ri pd co : Nat → Int64} {cl qu nw od rv rm rc rs rh rd ro rt : Nat → Int32}
variable {gcl gcv gsl gra : Int32} {code cT kep mk st tr res : Nat → Int32}
variable {w : Nat}
theorem ps_xrs28 {post : SX → Prop} {rm0 : Nat → Int32} (hw : w < 2)
    (hp : ∀ rm', ps_ZR (16 * w) 16 rm0 rm' → ps_ZF (16 * w) 16 rm0 rm' → post (fll, fvc, fil, fmc, fit, fhs, fcv, fkp, fdk, fck, fqs, fhr, K, A, B, C, T, inp, jf, js, rn, us, df, ri, pd, co, cl, qu, nw, od, rv, rm', upd rc w 0, upd rs w 0, upd rh w 0, upd rd w 0, ro, rt)) :
    ∀ d j rm, j + d = 16 → ps_ZR (16 * w) j rm0 rm → ps_ZF (16 * w) 16 rm0 rm → wX_resetRun_28 post (nI w) fll fvc fil fmc fit fhs fcv fkp fdk fck fqs fhr (d + 1) (nI j) K A B C T inp jf js rn us df ri pd co cl qu nw od rv rm rc rs rh rd ro rt := by
  have ew : (nI w).toNatClampNeg = w := nI_clamp (by omega)
  have hin : vp_in (nI w) 2 := vp_in_nI hw (by omega)
  intro d
  induction d with
  | zero =>
    intro j rm hd h1 h2
    have e : j = 16 := by omega
    subst e
    refine br_t (nI_le (a := 16) (Nat.le_refl _) (by omega)) ?_
    exact And.intro hin (nm_r (e' := upd rc w 0) (by rw [ew]) (And.intro hin (nm_r (e' := upd rs w 0) (by rw [ew]) (And.intro hin (nm_r (e' := upd rh w 0) (by rw [ew]) (And.intro hin (nm_r (e' := upd rd w 0) (by rw [ew]) (hp rm h1 h2))))))))
  | succ d ih =>
    intro j rm hd h1 h2
    have e : nI w * 16 + nI j = nI (16 * w + j) := by rw [show (16 : Int32) = nI 16 from rfl, pk_mul, nI_add, Nat.mul_comm]
    refine br_f (nI_ge (b := 16) (by omega) (by omega)) (And.intro (by rw [e]; exact vp_in_nI (by omega) (by omega)) (nm_r (e' := upd rm (16 * w + j) 0) (by rw [e, nI_clamp (by omega)]) (nm_r (nI_1 j) ?_)))
    refine ih (j + 1) _ (by omega) (fun i hi => ?_) (fun q hq => ?_)
    · by_cases ei : i = j
      · subst ei; exact pk_us
      · rw [pk_un (by omega)]; exact h1 i (by omega)
    · rw [pk_un (by omega)]; exact h2 q hq
theorem ps_xrs2 {post : SX → Prop} {rv0 : Nat → Int32} (hw : w < 2)
    (hp : ∀ rv' rm', ps_ZR (8 * w) 8 rv0 rv' → ps_ZF (8 * w) 8 rv0 rv' → ps_ZR (16 * w) 16 rm rm' → ps_ZF (16 * w) 16 rm rm' → post (fll, fvc, fil, fmc, fit, fhs, fcv, fkp, fdk, fck, fqs, fhr, K, A, B, C, T, inp, jf, js, rn, us, df, ri, pd, co, cl, qu, nw, od, rv', rm', upd rc w 0, upd rs w 0, upd rh w 0, upd rd w 0, ro, rt)) :
    ∀ d j rv, j + d = 8 → ps_ZR (8 * w) j rv0 rv → ps_ZF (8 * w) 8 rv0 rv → wX_resetRun_2 post (nI w) fll fvc fil fmc fit fhs fcv fkp fdk fck fqs fhr (d + 1) (nI j) K A B C T inp jf js rn us df ri pd co cl qu nw od rv rm rc rs rh rd ro rt := by
  intro d
  induction d with
  | zero =>
    intro j rv hd h1 h2
    have e : j = 8 := by omega
    subst e
    refine br_t (nI_le (a := 8) (Nat.le_refl _) (by omega)) (Exists.intro 17 ?_)
    exact ps_xrs28 (rm0 := rm) hw (fun rm' h3 h4 => hp rv rm' h1 h2 h3 h4) 16 0 rm (by omega) (fun j hj => absurd hj (Nat.not_lt_zero j)) (fun q _ => rfl)
  | succ d ih =>
    intro j rv hd h1 h2
    have e : nI w * 8 + nI j = nI (8 * w + j) := by rw [show (8 : Int32) = nI 8 from rfl, pk_mul, nI_add, Nat.mul_comm]
    refine br_f (nI_ge (b := 8) (by omega) (by omega)) (And.intro (by rw [e]; exact vp_in_nI (by omega) (by omega)) (nm_r (e' := upd rv (8 * w + j) 0) (by rw [e, nI_clamp (by omega)]) (nm_r (nI_1 j) ?_)))
    refine ih (j + 1) _ (by omega) (fun i hi => ?_) (fun q hq => ?_)
    · by_cases ei : i = j
      · subst ei; exact pk_us
      · rw [pk_un (by omega)]; exact h1 i (by omega)
    · rw [pk_un (by omega)]; exact h2 q hq
theorem ps_yr37 {post : SY → Prop} {x2 x3 : Int32} {res0 : Nat → Int32} (hw : w < 2)
    (hp : ∀ res', ps_ZR (4 * w) 4 res0 res' → ps_ZF (4 * w) 4 res0 res' → ∃ n66, wY_runOne_66 post (nI w) x2 x3 (nI (4 * w)) n66 0 0 fll fvc fil fmc fit gcl gcv gsl gra code cT inp kep mk st tr res') :
    ∀ d j res, j + d = 4 → ps_ZR (4 * w) j res0 res → ps_ZF (4 * w) 4 res0 res → wY_runOne_37 post (nI w) x2 x3 (nI (4 * w)) fll fvc fil fmc fit gcl gcv gsl gra (d + 1) (nI j) code cT inp kep mk st tr res := by
  intro d
  induction d with
  | zero =>
    intro j res hd h1 h2
    have e : j = 4 := by omega
    subst e
    exact br_t (nI_le (a := 4) (Nat.le_refl _) (by omega)) (hp res h1 h2)
  | succ d ih =>
    intro j res hd h1 h2
    have e : nI (4 * w) + nI j = nI (4 * w + j) := nI_add _ _
    refine br_f (nI_ge (b := 4) (by omega) (by omega)) (And.intro (by rw [e]; exact vp_in_nI (by omega) (by omega)) (nm_r (e' := upd res (4 * w + j) 0) (by rw [e, nI_clamp (by omega)]) (nm_r (nI_1 j) ?_)))
    refine ih (j + 1) _ (by omega) (fun i hi => ?_) (fun q hq => ?_)
    · by_cases ei : i = j
      · subst ei; exact pk_us
      · rw [pk_un (by omega)]; exact h1 i (by omega)
    · rw [pk_un (by omega)]; exact h2 q hq
theorem ps_yr8 {post : SY → Prop} {x2 x3 : Int32} {st0 : Nat → Int32} (hw : w < 2)
    (hp : ∀ st' res', ps_ZR (32 * w) 32 st0 st' → ps_ZF (32 * w) 32 st0 st' → ps_ZR (4 * w) 4 res res' → ps_ZF (4 * w) 4 res res' → ∃ n66, wY_runOne_66 post (nI w) x2 x3 (nI (4 * w)) n66 0 0 fll fvc fil fmc fit gcl gcv gsl gra code cT inp kep mk st' tr res') :
    ∀ d j st, j + d = 32 → ps_ZR (32 * w) j st0 st → ps_ZF (32 * w) 32 st0 st → wY_runOne_8 post (nI w) x2 x3 (nI (4 * w)) fll fvc fil fmc fit gcl gcv gsl gra (d + 1) (nI j) code cT inp kep mk st tr res := by
  intro d
  induction d with
  | zero =>
    intro j st hd h1 h2
    have e : j = 32 := by omega
    subst e
    refine br_t (nI_le (a := 32) (Nat.le_refl _) (by omega)) (Exists.intro 5 ?_)
    exact ps_yr37 (res0 := res) hw (fun res' h3 h4 => hp st res' h1 h2 h3 h4) 4 0 res (by omega) (fun j hj => absurd hj (Nat.not_lt_zero j)) (fun q _ => rfl)
  | succ d ih =>
    intro j st hd h1 h2
    have e : nI w * 32 + nI j = nI (32 * w + j) := by rw [show (32 : Int32) = nI 32 from rfl, pk_mul, nI_add, Nat.mul_comm]
    refine br_f (nI_ge (b := 32) (by omega) (by omega)) (And.intro (by rw [e]; exact vp_in_nI (by omega) (by omega)) (nm_r (e' := upd st (32 * w + j) 0) (by rw [e, nI_clamp (by omega)]) (nm_r (nI_1 j) ?_)))
    refine ih (j + 1) _ (by omega) (fun i hi => ?_) (fun q hq => ?_)
    · by_cases ei : i = j
      · subst ei; exact pk_us
      · rw [pk_un (by omega)]; exact h1 i (by omega)
    · rw [pk_un (by omega)]; exact h2 q hq
end
theorem ps_RS_z {w : Nat} {rv rm rc st rv' rm' st' : Nat → Int32} (hw : w < 2) (h : ps_RS rv rm rc st) (v1 : ps_ZR (8 * w) 8 rv rv') (v2 : ps_ZF (8 * w) 8 rv rv') (m1 : ps_ZR (16 * w) 16 rm rm') (m2 : ps_ZF (16 * w) 16 rm rm') (s1 : ps_ZR (32 * w) 32 st st') (s2 : ps_ZF (32 * w) 32 st st') : ps_RS rv' rm' (upd rc w 0) st' := by
  intro v hv
  obtain ⟨h1, h2, h3⟩ := h v hv
  by_cases e : v = w
  · subst e
    refine ⟨fun j hj => ?_, fun j hj => ?_, ?_⟩
    · rw [v1 j hj, s1 j (by omega)]
    · rw [m1 j hj, Nat.add_assoc, s1 (16 + j) (by omega)]
    · rw [pk_us, s1 8 (by omega)]
  · refine ⟨fun j hj => ?_, fun j hj => ?_, ?_⟩
    · rw [v2 _ (by omega), s2 _ (by omega)]; exact h1 j hj
    · rw [m2 _ (by omega), s2 _ (by omega)]; exact h2 j hj
    · rw [pk_un e, s2 _ (by omega)]; exact h3
theorem ps_LI_z {w : Nat} {rc rs rh rd ro res res' : Nat → Int32} (hw : w < 2) (h : ps_RO ro rs rh rd res) (z1 : ps_ZR (4 * w) 4 res res') (z2 : ps_ZF (4 * w) 4 res res') : ps_LI w 0 0 0 (upd rc w 0) (upd rs w 0) (upd rh w 0) (upd rd w 0) ro res' := by
  refine ⟨pk_us, by omega, pk_us, by omega, z1 1 (by omega), ?_, ?_, fun v hv hne => ?_⟩
  · rw [z1 2 (by omega), pk_us]
  · rw [z1 3 (by omega), pk_us]
  · obtain ⟨a1, a2, a3, a4⟩ := h v hv
    rw [pk_un hne, pk_un hne, pk_un hne, z2 (4 * v) (by omega), z2 (4 * v + 1) (by omega), z2 (4 * v + 2) (by omega), z2 (4 * v + 3) (by omega)]
    exact ⟨a1, a2, a3, a4⟩
section
variable {fll fvc fil fmc fit fhs fcv : Int32} {fkp fdk fck : Int64} {fqs fhr : Int32} {K A B C T inp jf js rn us df : Nat → Int32} {ri pd co : Nat → Int64} {cl qu nw od rv rm rc rs rh rd ro rt : Nat → Int32}
variable {gcl gcv gsl gra : Int32} {code cT kep mk st tr res : Nat → Int32}
variable {ll vc il mc it w t : Nat}
theorem ps_runP {v wl bud : Nat} (l4 : vc ≤ 8) (l2 : ll ≤ 32) (l6 : 1 ≤ mc) (l7 : mc ≤ 16) (l8 : it ≤ 16) (hw : w < 2) (ht : t ≤ 32) (hv : v < vc) (hwl : wl ≤ 32) (hb : bud ≤ 1000) (hT : T w = nI t) (hcl : cl w = nI wl) (hC : ps_CE K A B C code)
    (hV : ∀ i, i < t → ps_VL vc ll (K (32 * w + i)) (A (32 * w + i)) (B (32 * w + i)) (C (32 * w + i))) (hR : ps_RS rv rm rc st) (hO : ps_RO ro rs rh rd res) :
    ∃ (rv' rm' rc' rs' rh' rd' ro' rt' st' res' : Nat → Int32), ps_RS rv' rm' rc' st' ∧ ps_RO ro' rs' rh' rd' res' ∧
      (∀ post : SX → Prop, post (nI ll, nI vc, nI il, nI mc, nI it, fhs, nI v, fkp, fdk, fck, fqs, fhr, K, A, B, C, T, inp, jf, js, rn, us, df, ri, pd, co, cl, qu, nw, od, rv', rm', rc', rs', rh', rd', ro', rt') → wpX_runProgram post (nI ll, nI vc, nI il, nI mc, nI it, fhs, nI v, fkp, fdk, fck, fqs, fhr, K, A, B, C, T, inp, jf, js, rn, us, df, ri, pd, co, cl, qu, nw, od, rv, rm, rc, rs, rh, rd, ro, rt) (nI w) (nI bud)) ∧
      (∀ post : SY → Prop, post (nI ll, nI vc, nI il, nI mc, nI it, gcl, nI v, fhs, fhr, code, T, inp, kep, mk, st', rt', res') → wpY_runOne post (nI ll, nI vc, nI il, nI mc, nI it, gcl, nI v, fhs, fhr, code, T, inp, kep, mk, st, rt, res) (nI w) (nI bud) (nI wl)) := by
  have ew : (nI w).toNatClampNeg = w := nI_clamp (by omega)
  have hin : vp_in (nI w) 2 := vp_in_nI hw (by omega)
  have e4 : nI w * 4 = nI (4 * w) := by rw [show (4 : Int32) = nI 4 from rfl, pk_mul, Nat.mul_comm]
  -- the zeroed arrays, named once for both sides
  have zz : ∀ (m b : Nat) (f0 f g : Nat → Int32), ps_ZR m b f0 f → ps_ZF m b f0 f → ps_ZR m b f0 g → ps_ZF m b f0 g → f = g := by
    intro m b f0 f g a1 a2 b1 b2
    funext q
    by_cases c : q < m ∨ m + b ≤ q
    · rw [a2 q c, b2 q c]
    · have e : q = m + (q - m) := by omega
      rw [e, a1 _ (by omega), b1 _ (by omega)]
  have ex : ∀ (m b : Nat) (f0 : Nat → Int32), ∃ f, ps_ZR m b f0 f ∧ ps_ZF m b f0 f := by
    intro m b f0
    refine ⟨fun q => if m ≤ q ∧ q < m + b then 0 else f0 q, fun j hj => ?_, fun q hq => ?_⟩
    · exact if_pos (by omega)
    · exact if_neg (by omega)
  obtain ⟨rv1, v1, v2⟩ := ex (8 * w) 8 rv
  obtain ⟨rm1, m1, m2⟩ := ex (16 * w) 16 rm
  obtain ⟨st1, s1, s2⟩ := ex (32 * w) 32 st
  obtain ⟨res1, z1, z2⟩ := ex (4 * w) 4 res
  obtain ⟨rv', rm', rc', rs', rh', rd', ro', rt', st', res', k1, k2, k3, k4⟩ := ps_loop (ll := ll) (vc := vc) (il := il) (mc := mc) (it := it) (fhs := fhs) (fkp := fkp) (fdk := fdk) (fck := fck) (fqs := fqs) (fhr := fhr) (K := K) (A := A) (B := B) (C := C) (T := T) (inp := inp) (jf := jf) (js := js) (rn := rn) (us := us) (df := df) (ri := ri) (pd := pd) (co := co) (cl := cl) (qu := qu) (nw := nw) (od := od) (rs := upd rs w 0) (ro := ro) (gcl := gcl) (code := code) (kep := kep) (mk := mk) l4 l2 l6 l7 l8 hw ht hv hwl hb hT hC hV bud 0 0 0 0 rv1 rm1 (upd rc w 0) (upd rh w 0) (upd rd w 0) rt st1 res1 (by omega) (by omega) (ps_RS_z hw hR v1 v2 m1 m2 s1 s2) (ps_LI_z hw hO z1 z2)
  refine ⟨rv', rm', rc', rs', rh', rd', ro', rt', st', res', k1, k2, fun post hP => ?_, fun post hP => ?_⟩
  · unfold wpX_runProgram
    refine Exists.intro 9 (ps_xrs2 (rv0 := rv) hw (fun rv2 rm2 a1 a2 a3 a4 => ?_) 8 0 rv (by omega) (fun j hj => absurd hj (Nat.not_lt_zero j)) (fun q _ => rfl))
    have q1 := zz _ _ _ _ _ a1 a2 v1 v2
    have q2 := zz _ _ _ _ _ a3 a4 m1 m2
    subst q1 q2
    exact And.intro hin (nm_r (e' := nI t) (by rw [ew]; exact hT) (And.intro hin (nm_r (e' := nI wl) (by rw [ew]; exact hcl) (Exists.intro (bud + 1) (k3 post hP)))))
  · refine nm_r e4 (Exists.intro 33 (ps_yr8 (st0 := st) hw (fun st2 res2 a1 a2 a3 a4 => ?_) 32 0 st (by omega) (fun j hj => absurd hj (Nat.not_lt_zero j)) (fun q _ => rfl)))
    have q1 := zz _ _ _ _ _ a1 a2 s1 s2
    have q2 := zz _ _ _ _ _ a3 a4 z1 z2
    subst q1 q2
    exact Exists.intro (bud + 1) (k4 post hP)
end
theorem i_vc_run {k : Nat} {u : SX} {v : SY} (I : i_Rel k u v) (hk : k + 5 ≤ 2564) (v1 : Int32) : wpX_run (fun r u' => wpY_run (fun r' v' => r' = r ∧ i_Rel (k + 5) u' v') v v1) u v1 := by
  refine ps_el (P := fun u v => wpX_run (fun r u' => wpY_run (fun r' v' => r' = r ∧ i_Rel (k + 5) u' v') v v1) u v1) I ?_
  intro ll vc il mc it n k fhs fcv fkp fdk fck fqs fhr K A B C T inp jf js rn us df ri pd co cl qu nw od rv rm rc rs rh rd ro rt gcl gcv code kep mk st res hF
  have hF' := hF
  obtain ⟨⟨l1, l2, l3, l4, l5, l6, l7, l8, l9, l10⟩, f2, f3, f4, f5, f6, f7, f8, f9, f10⟩ := hF
  rcases f7 with c | ⟨c, hS⟩
  · exact br_t c (br_t c (And.intro rfl (ps_in hF')))
  have c' : ¬ fhs = 0 := by rw [c]; decide
  have hS' := hS
  obtain ⟨K0, A0, B0, C0, line, v, s1, s2, s3, s4, s5, s6, s7, s8, s9, s10, s11, s12⟩ := hS
  subst s4 s5 s6
  have hcn : ps_cn (ps_tb fkp) line = ps_cn (ps_kb kep) line := ps_cn_eq line (fun j hj => by
    rw [Bool.eq_iff_iff, ps_kb_t, s9.2.2.2.1 j, s12 j (by omega)])
  have hcle := ps_cn_le (ps_kb kep) line
  rw [hcn] at s8
  have hbud := ps_clv_rng (lo := 1) (hi := 1000) (x := v1) (by omega) (by omega)
  obtain ⟨rv1, rm1, rc1, rs1, rh1, rd1, ro1, rt1, st1, res1, a1, a2, a3, a4⟩ := ps_runP (ll := ll) (vc := vc) (il := il) (mc := mc) (it := it) (w := 0) (t := n) (v := v) (wl := line) (bud := ps_clv 1 1000 v1) (fhs := fhs) (fkp := fkp) (fdk := fdk) (fck := fck) (fqs := fqs) (fhr := fhr) (K := K) (A := A) (B := B) (C := C) (T := T) (inp := inp) (jf := jf) (js := js) (rn := rn) (us := us) (df := df) (ri := ri) (pd := pd) (co := co) (cl := cl) (qu := qu) (nw := nw) (od := od) (rv := rv) (rm := rm) (rc := rc) (rs := rs) (rh := rh) (rd := rd) (ro := ro) (rt := rt) (gcl := nI line) (code := code) (kep := kep) (mk := mk) (st := st) (res := res) l4 l2 l6 l7 (by omega) (by omega) (by omega) s2 (by omega) hbud.2 f2 s7 f4 (fun i hi => by rw [Nat.mul_zero, Nat.zero_add]; exact f5 i hi) f9 f10
  obtain ⟨rv2, rm2, rc2, rs2, rh2, rd2, ro2, rt2, st2, res2, b1, b2, b3, b4⟩ := ps_runP (ll := ll) (vc := vc) (il := il) (mc := mc) (it := it) (w := 1) (t := k) (v := v) (wl := ps_cn (ps_kb kep) line) (bud := ps_clv 1 1000 v1) (fhs := fhs) (fkp := fkp) (fdk := fdk) (fck := fck) (fqs := fqs) (fhr := fhr) (K := K) (A := A) (B := B) (C := C) (T := T) (inp := inp) (jf := jf) (js := js) (rn := rn) (us := us) (df := df) (ri := ri) (pd := pd) (co := co) (cl := cl) (qu := qu) (nw := nw) (od := od) (rv := rv1) (rm := rm1) (rc := rc1) (rs := rs1) (rh := rh1) (rd := rd1) (ro := ro1) (rt := rt1) (gcl := nI line) (code := code) (kep := kep) (mk := mk) (st := st1) (res := res1) l4 l2 l6 l7 (by omega) (by omega) (by omega) s2 (by omega) hbud.2 f3 s8 f4 (fun i hi => f6 i hi) a1 a2
  refine br_f c' (ps_xcl 1 1000 (by omega) (by omega) ?_)
  refine a3 _ (b3 _ ?_)
  refine br_f c' (ps_ycv 1 1000 (by omega) (by omega) (ps_ykb (by omega) ?_))
  refine a4 _ (b4 _ ?_)
  exact And.intro (b2 0 (by omega)).1.symm (ps_in ⟨⟨l1, l2, l3, l4, l5, l6, l7, l8, l9, l10⟩, f2, f3, f4, f5, f6, Or.inr ⟨c, hS'⟩, Or.inr rfl, b1, b2⟩)
end
