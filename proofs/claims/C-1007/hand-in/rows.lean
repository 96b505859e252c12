section
/-! pure rows to paste: stores, nI and lN arithmetic, masks, shifts, narrowing, branches by naturals (pk_le, pk_lt, pk_eq), loops (lp1 .. lp16: the measure of the state; rp1 ..: recursion), negatives. Take what you need -/
theorem pk_us {f : Nat → Int32} {k : Nat} {x : Int32} : upd f k x k = x := if_pos rfl
theorem pk_un {f : Nat → Int32} {k j : Nat} {x : Int32} (h : j ≠ k) : upd f k x j = f j := if_neg h
theorem pk_uLs {f : Nat → Int64} {k : Nat} {x : Int64} : vp_updL f k x k = x := if_pos rfl
theorem pk_uLn {f : Nat → Int64} {k j : Nat} {x : Int64} (h : j ≠ k) : vp_updL f k x j = f j := if_neg h
theorem pk_sub {a b : Nat} (h : b ≤ a) : nI a - nI b = nI (a - b) := by
  obtain ⟨c, rfl⟩ : ∃ c, a = c + b := ⟨a - b, by omega⟩
  rw [← nI_add, Int32.add_sub_cancel, Nat.add_sub_cancel]
theorem pk_m1 (n : Nat) : nI (n + 1) + (-1) = nI n := by
  rw [← nI_1, Int32.add_assoc, show (1 : Int32) + (-1) = 0 from rfl, Int32.add_zero]
theorem pk_mul (a b : Nat) : nI a * nI b = nI (a * b) := (Int32.ofNat_mul a b).symm
theorem pk_div {a d : Nat} (ha : a < 2 ^ 31) (h0 : 0 < d) (hd : d < 2 ^ 31) : nI a / nI d = nI (a / d) := by
  apply Int32.toInt_inj.mp
  rw [lg_idiv_nonneg (by rw [nI_toInt ha]; omega) (by rw [nI_toInt hd]; omega), nI_toInt ha, nI_toInt hd, nI_toInt (Nat.lt_of_le_of_lt (Nat.div_le_self a d) ha)]
  first | rfl | exact (Int.natCast_ediv _ _).symm
theorem pk_rem {a d : Nat} (ha : a < 2 ^ 31) (h0 : 0 < d) (hd : d < 2 ^ 31) : nI a - nI a / nI d * nI d = nI (a % d) := by
  rw [pk_div ha h0 hd, pk_mul, pk_sub (Nat.div_mul_le_self a d)]
  exact congrArg nI (by have := Nat.div_add_mod' a d; omega)
theorem pk_sub_toInt {a b : Nat} (ha : a < 2 ^ 30) (hb : b < 2 ^ 30) : (nI a - nI b).toInt = (a : Int) - b := by
  rw [Int32.toInt_sub, nI_toInt (by omega), nI_toInt (by omega)]
  exact Int.bmod_eq_of_le (by omega) (by omega)
theorem pk_sneg {a b : Nat} (hb : b < 2 ^ 30) (h : a < b) : nI a - nI b < 0 := by
  rw [Int32.lt_iff_toInt_lt, pk_sub_toInt (by omega) hb, show (0 : Int32).toInt = 0 from by decide]
  omega
theorem pk_ix (x : Int32) {n : Nat} (hn : n < 2 ^ 31) : x < 0 ∨ nI n ≤ x ∨ ∃ j : Nat, j < n ∧ x = nI j := by
  by_cases h : x < 0
  · exact Or.inl h
  · obtain ⟨j, hj, rfl⟩ := nI_of h
    by_cases h2 : j < n
    · exact Or.inr (Or.inr ⟨j, h2, rfl⟩)
    · exact Or.inr (Or.inl (nI_le (by omega) hj))
theorem pk_le {x y : Int32} {A B : Prop} (a b : Nat) (f : a ≤ b → A) (g : b < a → B) (hx : x = nI a := by rfl) (hy : y = nI b := by rfl) (ha : a < 2 ^ 31 := by omega) (hb : b < 2 ^ 31 := by omega) : (x ≤ y → A) ∧ (¬ x ≤ y → B) := by
  subst hx hy
  rw [nI_leI ha hb]
  exact ⟨f, fun z => g (by omega)⟩
theorem pk_lt {x y : Int32} {A B : Prop} (a b : Nat) (f : a < b → A) (g : b ≤ a → B) (hx : x = nI a := by rfl) (hy : y = nI b := by rfl) (ha : a < 2 ^ 31 := by omega) (hb : b < 2 ^ 31 := by omega) : (x < y → A) ∧ (¬ x < y → B) := by
  subst hx hy
  rw [nI_ltI ha hb]
  exact ⟨f, fun z => g (by omega)⟩
theorem pk_eq {x y : Int32} {A B : Prop} (a b : Nat) (f : a = b → A) (g : a ≠ b → B) (hx : x = nI a := by rfl) (hy : y = nI b := by rfl) (ha : a < 2 ^ 31 := by omega) (hb : b < 2 ^ 31 := by omega) : (x = y → A) ∧ (¬ x = y → B) := by
  subst hx hy
  rw [nI_eq ha hb]
  exact ⟨f, g⟩
theorem pk_in {x : Int32} (n N : Nat) (h : n < N) (hx : x = nI n := by rfl) (hN : N < 2 ^ 31 := by omega) : vp_in x N := by
  subst hx
  exact vp_in_nI h hN
theorem pk_cl {x : Int32} (n : Nat) (hx : x = nI n := by rfl) (h : n < 2 ^ 31 := by omega) : x.toNatClampNeg = n := by
  subst hx
  exact nI_clamp h
theorem pk_tn {n : Nat} (h : n < 2 ^ 32) : (nI n).toBitVec.toNat = n := Nat.mod_eq_of_lt h
theorem pk_and (x : Int32) {m : Int32} (k : Nat) (hm : m.toBitVec.toNat = 2 ^ k - 1) : x &&& m = nI (x.toBitVec.toNat % 2 ^ k) := by
  apply Int32.toBitVec_inj.mp
  apply BitVec.eq_of_toNat_eq
  rw [Int32.toBitVec_and, BitVec.toNat_and, hm, Nat.and_two_pow_sub_one_eq_mod]
  show _ = (BitVec.ofNat 32 _).toNat
  rw [BitVec.toNat_ofNat]
  exact (Nat.mod_eq_of_lt (Nat.lt_of_le_of_lt (Nat.mod_le _ _) x.toBitVec.isLt)).symm
theorem pk_andN {n : Nat} (h : n < 2 ^ 32) {m : Int32} (k : Nat) (hm : m.toBitVec.toNat = 2 ^ k - 1) : nI n &&& m = nI (n % 2 ^ k) := by
  rw [pk_and _ k hm, pk_tn h]
theorem pk_andE (x : Int32) {m : Int32} (k : Nat) (hm : m.toBitVec.toNat = 2 ^ k - 1) : ∃ j : Nat, j < 2 ^ k ∧ x &&& m = nI j := ⟨_, Nat.mod_lt _ (Nat.two_pow_pos k), pk_and x k hm⟩
theorem pk_andIn (x : Int32) {m : Int32} (k : Nat) (hm : m.toBitVec.toNat = 2 ^ k - 1) (hk : k ≤ 30) : vp_in (x &&& m) (2 ^ k) := by
  obtain ⟨j, hj, e⟩ := pk_andE x k hm
  rw [e]
  exact vp_in_nI hj (Nat.lt_of_le_of_lt (Nat.pow_le_pow_right (by decide) hk) (by decide))
theorem pk_shl (a s : Int32) (k : Nat) (hs : (s.toBitVec.smod 32).toNat = k) : (a <<< s).toBitVec.toNat = a.toBitVec.toNat * 2 ^ k % 2 ^ 32 := by
  show (a.toBitVec <<< (s.toBitVec.smod 32).toNat).toNat = _
  rw [hs, BitVec.toNat_shiftLeft, Nat.shiftLeft_eq]
theorem pk_shlN {n : Nat} (s : Int32) (k : Nat) (hs : (s.toBitVec.smod 32).toNat = k) (h : n * 2 ^ k < 2 ^ 32) : nI n <<< s = nI (n * 2 ^ k) := by
  apply Int32.toBitVec_inj.mp
  apply BitVec.eq_of_toNat_eq
  have hn : n < 2 ^ 32 := Nat.lt_of_le_of_lt (Nat.le_mul_of_pos_right n (Nat.two_pow_pos k)) h
  rw [pk_shl _ _ k hs, pk_tn hn, pk_tn h, Nat.mod_eq_of_lt h]
theorem pk_shr (a s : Int32) (k : Nat) (hs : (s.toBitVec.smod 32).toNat = k) : (a >>> s).toInt = a.toInt >>> k := by
  show (a.toBitVec.sshiftRight (s.toBitVec.smod 32).toNat).toInt = _
  rw [hs, BitVec.toInt_sshiftRight]
  rfl
theorem pk_shrN {n : Nat} (h : n < 2 ^ 31) (s : Int32) (k : Nat) (hs : (s.toBitVec.smod 32).toNat = k) : nI n >>> s = nI (n / 2 ^ k) := by
  apply Int32.toInt_inj.mp
  have h2 : n / 2 ^ k ≤ n := Nat.div_le_self _ _
  rw [pk_shr _ _ k hs, nI_toInt h, nI_toInt (by omega), Int.shiftRight_eq_div_pow]
  rfl
theorem pk_ushr (x s : Int32) (k : Nat) (hs : ((s.toUInt32 &&& Int32.toUInt32 31).toBitVec % 32).toNat = k) : (x.toUInt32 >>> (s.toUInt32 &&& Int32.toUInt32 31)).toInt32.toBitVec.toNat = x.toBitVec.toNat / 2 ^ k := by
  have e : (x.toUInt32 >>> (s.toUInt32 &&& Int32.toUInt32 31)).toInt32.toBitVec = x.toBitVec >>> k := by
    rw [← hs]
    exact UInt32.toBitVec_shiftRight _ _
  rw [e, BitVec.toNat_ushiftRight, Nat.shiftRight_eq_div_pow]
theorem pk_ushrN {n : Nat} (hn : n < 2 ^ 32) (s : Int32) (k : Nat) (hs : ((s.toUInt32 &&& Int32.toUInt32 31).toBitVec % 32).toNat = k) : ((nI n).toUInt32 >>> (s.toUInt32 &&& Int32.toUInt32 31)).toInt32 = nI (n / 2 ^ k) := by
  apply Int32.toBitVec_inj.mp
  apply BitVec.eq_of_toNat_eq
  rw [pk_ushr _ s k hs, pk_tn hn, pk_tn (Nat.lt_of_le_of_lt (Nat.div_le_self _ _) hn)]
theorem pk_nb (z : Int32) : narrow .byte (.int z.toInt8.toInt32) = .int z.toInt8.toInt32 := congrArg Value.int (by simp)
theorem pk_ns (z : Int32) : narrow .short (.int z.toInt16.toInt32) = .int z.toInt16.toInt32 := congrArg Value.int (by simp)
theorem pk_fb (r : Int32) : fits .byte (.int r.toInt8.toInt32) = true := by
  have ⟨a, b⟩ := lg_i2b_range r
  have h1 : (-128 : Int32).toInt = -128 := by decide
  have h2 : (127 : Int32).toInt = 127 := by decide
  simp only [fits, Bool.and_eq_true, decide_eq_true_eq, Int32.le_iff_toInt_le, h1, h2]
  omega
theorem pk_fs (r : Int32) : fits .short (.int r.toInt16.toInt32) = true := by
  have ⟨a, b⟩ := lg_i2s_range r
  have h1 : (-32768 : Int32).toInt = -32768 := by decide
  have h2 : (32767 : Int32).toInt = 32767 := by decide
  simp only [fits, Bool.and_eq_true, decide_eq_true_eq, Int32.le_iff_toInt_le, h1, h2]
  omega
theorem pk_charN {q : Nat} (hq : q < 65536) : narrow .char (.int (nI q)) = .int (nI q) ∧ fits .char (.int (nI q)) = true := by
  constructor
  · have e : (nI q).toUInt32.toUInt16.toUInt32.toInt32 = nI q := by
      apply Int32.toBitVec_inj.mp
      apply BitVec.eq_of_toNat_eq
      show (nI q).toUInt32.toUInt16.toUInt32.toNat = q % 2 ^ 32
      rw [UInt16.toNat_toUInt32, UInt32.toNat_toUInt16, show (nI q).toUInt32.toNat = q % 2 ^ 32 from rfl]
      omega
    exact congrArg Value.int e
  · have a : (0 : Int32) ≤ nI q := nI_pos' (by omega)
    have b : nI q ≤ 65535 := nI_le (b := 65535) (by omega) (by decide)
    show (decide ((0 : Int32) ≤ nI q) && decide (nI q ≤ 65535)) = true
    rw [decide_eq_true a, decide_eq_true b]
    rfl
theorem pk_char (x : Int32) : (x.toUInt32 % 65536).toInt32 = nI (x.toBitVec.toNat % 65536) := by
  apply Int32.toBitVec_inj.mp
  apply BitVec.eq_of_toNat_eq
  rw [pk_tn (by omega)]
  show (x.toUInt32 % 65536).toNat = _
  rw [UInt32.toNat_mod]
  rfl
theorem pk_nc (x : Int32) : narrow .char (.int (x.toUInt32 % 65536).toInt32) = .int (x.toUInt32 % 65536).toInt32 := by
  rw [pk_char]
  exact (pk_charN (Nat.mod_lt _ (by decide))).1
theorem pk_fc (x : Int32) : fits .char (.int (x.toUInt32 % 65536).toInt32) = true := by
  rw [pk_char]
  exact (pk_charN (Nat.mod_lt _ (by decide))).2
theorem pk_vb (z : Int32) : vp_nar .byte z.toInt8.toInt32 = z.toInt8.toInt32 := by rw [vp_nar_byte]; simp
theorem pk_vs (z : Int32) : vp_nar .short z.toInt16.toInt32 = z.toInt16.toInt32 := by rw [vp_nar_short]; simp
theorem pk_vc (z : Int32) : vp_nar .char (z.toUInt32 % 65536).toInt32 = (z.toUInt32 % 65536).toInt32 := Value.int.inj (pk_nc z)
theorem pk_lT {n : Nat} (h : n < 2 ^ 63) : (lN n).toInt = (n : Int) := lg_ofNat_toInt h
theorem pk_lLT {a b : Nat} (ha : a < 2 ^ 63) (hb : b < 2 ^ 63) : lN a < lN b ↔ a < b := by
  rw [Int64.lt_iff_toInt_lt, pk_lT ha, pk_lT hb]; omega
theorem pk_lLE {a b : Nat} (ha : a < 2 ^ 63) (hb : b < 2 ^ 63) : lN a ≤ lN b ↔ a ≤ b := by
  rw [Int64.le_iff_toInt_le, pk_lT ha, pk_lT hb]; omega
theorem pk_lEQ {a b : Nat} (ha : a < 2 ^ 63) (hb : b < 2 ^ 63) : lN a = lN b ↔ a = b := by
  rw [← Int64.toInt_inj, pk_lT ha, pk_lT hb]; omega
theorem pk_lOf {x : Int64} (h : ¬ x < 0) : ∃ k : Nat, k < 2 ^ 63 ∧ x = lN k := by
  rw [Int64.lt_iff_toInt_lt] at h
  have h0 : (0 : Int64).toInt = 0 := by decide
  have hx := Int64.toInt_lt x
  refine ⟨x.toInt.toNat, by omega, Int64.toInt_inj.mp ?_⟩
  rw [pk_lT (by omega)]
  omega
theorem pk_lDiv {a b : Nat} (ha : a < 2 ^ 63) (h0 : 0 < b) (hb : b < 2 ^ 63) : lN a / lN b = lN (a / b) := by
  apply Int64.toInt_inj.mp
  rw [lg_ldiv_nonneg (by rw [pk_lT ha]; omega) (by rw [pk_lT hb]; omega), pk_lT ha, pk_lT hb, pk_lT (Nat.lt_of_le_of_lt (Nat.div_le_self a b) ha)]
  rfl
theorem pk_lRem {a b : Nat} (ha : a < 2 ^ 63) (h0 : 0 < b) (hb : b < 2 ^ 63) : lN a - lN a / lN b * lN b = lN (a % b) := by
  rw [pk_lDiv ha h0 hb, lN_mul, lN_sub (Nat.div_mul_le_self a b)]
  exact congrArg lN (by have := Nat.div_add_mod' a b; omega)
theorem pk_loop {σ : Type} (W : Nat → Nat → σ → Prop) (I : Nat → σ → Prop) (e i0 : Nat) (s : σ) (hi : i0 ≤ e) (h0 : I i0 s) (hx : ∀ n s, I e s → W (n + 1) e s)
    (hs : ∀ n i s, i < e → I i s → (∀ s', I (i + 1) s' → W n (i + 1) s') → W (n + 1) i s) : ∃ n, W n i0 s :=
  ⟨e + 1, loop_i W I e hx hs (e + 1) i0 s hi (by omega) h0⟩
theorem pk_loopD {σ : Type} (W : Nat → Nat → σ → Prop) (I : Nat → σ → Prop) (hx : ∀ n s, I 0 s → W (n + 1) 0 s)
    (hs : ∀ n i s, I (i + 1) s → (∀ s', I i s' → W n i s') → W (n + 1) (i + 1) s) : ∀ (e : Nat) (s : σ), I e s → W (e + 1) e s := by
  intro e
  induction e with
  | zero => exact fun s h => hx 0 s h
  | succ e ih => exact fun s h => hs (e + 1) e s h (fun s' h' => ih s' h')
theorem lp1 {A1 : Type} (W : Nat → A1 → Prop) (I : A1 → Prop) (μ : A1 → Nat) (hs : ∀ (n : Nat) (a1 : A1), I a1 → (∀ (b1 : A1), I b1 → μ b1 < μ a1 → W n b1) → W (n + 1) a1) (a1 : A1) (h : I a1) : ∃ n, W n a1 :=
  loop_m (σ := A1) (fun n s => W n s) (fun s => I s) (fun s => μ s) (fun n s hI hk => hs n s hI (fun b1 h9 hm => hk b1 h9 hm)) a1 h
theorem lp2 {A1 A2 : Type} (W : Nat → A1 → A2 → Prop) (I : A1 → A2 → Prop) (μ : A1 → A2 → Nat) (hs : ∀ (n : Nat) (a1 : A1) (a2 : A2), I a1 a2 → (∀ (b1 : A1) (b2 : A2), I b1 b2 → μ b1 b2 < μ a1 a2 → W n b1 b2) → W (n + 1) a1 a2) (a1 : A1) (a2 : A2) (h : I a1 a2) : ∃ n, W n a1 a2 :=
  loop_m (σ := A1 × A2) (fun n s => W n s.1 s.2) (fun s => I s.1 s.2) (fun s => μ s.1 s.2) (fun n s hI hk => hs n s.1 s.2 hI (fun b1 b2 h9 hm => hk (b1, b2) h9 hm)) (a1, a2) h
theorem lp3 {A1 A2 A3 : Type} (W : Nat → A1 → A2 → A3 → Prop) (I : A1 → A2 → A3 → Prop) (μ : A1 → A2 → A3 → Nat) (hs : ∀ (n : Nat) (a1 : A1) (a2 : A2) (a3 : A3), I a1 a2 a3 → (∀ (b1 : A1) (b2 : A2) (b3 : A3), I b1 b2 b3 → μ b1 b2 b3 < μ a1 a2 a3 → W n b1 b2 b3) → W (n + 1) a1 a2 a3) (a1 : A1) (a2 : A2) (a3 : A3) (h : I a1 a2 a3) : ∃ n, W n a1 a2 a3 :=
  loop_m (σ := A1 × A2 × A3) (fun n s => W n s.1 s.2.1 s.2.2) (fun s => I s.1 s.2.1 s.2.2) (fun s => μ s.1 s.2.1 s.2.2) (fun n s hI hk => hs n s.1 s.2.1 s.2.2 hI (fun b1 b2 b3 h9 hm => hk (b1, b2, b3) h9 hm)) (a1, a2, a3) h
theorem lp4 {A1 A2 A3 A4 : Type} (W : Nat → A1 → A2 → A3 → A4 → Prop) (I : A1 → A2 → A3 → A4 → Prop) (μ : A1 → A2 → A3 → A4 → Nat) (hs : ∀ (n : Nat) (a1 : A1) (a2 : A2) (a3 : A3) (a4 : A4), I a1 a2 a3 a4 → (∀ (b1 : A1) (b2 : A2) (b3 : A3) (b4 : A4), I b1 b2 b3 b4 → μ b1 b2 b3 b4 < μ a1 a2 a3 a4 → W n b1 b2 b3 b4) → W (n + 1) a1 a2 a3 a4) (a1 : A1) (a2 : A2) (a3 : A3) (a4 : A4) (h : I a1 a2 a3 a4) : ∃ n, W n a1 a2 a3 a4 :=
  loop_m (σ := A1 × A2 × A3 × A4) (fun n s => W n s.1 s.2.1 s.2.2.1 s.2.2.2) (fun s => I s.1 s.2.1 s.2.2.1 s.2.2.2) (fun s => μ s.1 s.2.1 s.2.2.1 s.2.2.2) (fun n s hI hk => hs n s.1 s.2.1 s.2.2.1 s.2.2.2 hI (fun b1 b2 b3 b4 h9 hm => hk (b1, b2, b3, b4) h9 hm)) (a1, a2, a3, a4) h
theorem lp5 {A1 A2 A3 A4 A5 : Type} (W : Nat → A1 → A2 → A3 → A4 → A5 → Prop) (I : A1 → A2 → A3 → A4 → A5 → Prop) (μ : A1 → A2 → A3 → A4 → A5 → Nat) (hs : ∀ (n : Nat) (a1 : A1) (a2 : A2) (a3 : A3) (a4 : A4) (a5 : A5), I a1 a2 a3 a4 a5 → (∀ (b1 : A1) (b2 : A2) (b3 : A3) (b4 : A4) (b5 : A5), I b1 b2 b3 b4 b5 → μ b1 b2 b3 b4 b5 < μ a1 a2 a3 a4 a5 → W n b1 b2 b3 b4 b5) → W (n + 1) a1 a2 a3 a4 a5) (a1 : A1) (a2 : A2) (a3 : A3) (a4 : A4) (a5 : A5) (h : I a1 a2 a3 a4 a5) : ∃ n, W n a1 a2 a3 a4 a5 :=
  loop_m (σ := A1 × A2 × A3 × A4 × A5) (fun n s => W n s.1 s.2.1 s.2.2.1 s.2.2.2.1 s.2.2.2.2) (fun s => I s.1 s.2.1 s.2.2.1 s.2.2.2.1 s.2.2.2.2) (fun s => μ s.1 s.2.1 s.2.2.1 s.2.2.2.1 s.2.2.2.2) (fun n s hI hk => hs n s.1 s.2.1 s.2.2.1 s.2.2.2.1 s.2.2.2.2 hI (fun b1 b2 b3 b4 b5 h9 hm => hk (b1, b2, b3, b4, b5) h9 hm)) (a1, a2, a3, a4, a5) h
theorem lp6 {A1 A2 A3 A4 A5 A6 : Type} (W : Nat → A1 → A2 → A3 → A4 → A5 → A6 → Prop) (I : A1 → A2 → A3 → A4 → A5 → A6 → Prop) (μ : A1 → A2 → A3 → A4 → A5 → A6 → Nat) (hs : ∀ (n : Nat) (a1 : A1) (a2 : A2) (a3 : A3) (a4 : A4) (a5 : A5) (a6 : A6), I a1 a2 a3 a4 a5 a6 → (∀ (b1 : A1) (b2 : A2) (b3 : A3) (b4 : A4) (b5 : A5) (b6 : A6), I b1 b2 b3 b4 b5 b6 → μ b1 b2 b3 b4 b5 b6 < μ a1 a2 a3 a4 a5 a6 → W n b1 b2 b3 b4 b5 b6) → W (n + 1) a1 a2 a3 a4 a5 a6) (a1 : A1) (a2 : A2) (a3 : A3) (a4 : A4) (a5 : A5) (a6 : A6) (h : I a1 a2 a3 a4 a5 a6) : ∃ n, W n a1 a2 a3 a4 a5 a6 :=
  loop_m (σ := A1 × A2 × A3 × A4 × A5 × A6) (fun n s => W n s.1 s.2.1 s.2.2.1 s.2.2.2.1 s.2.2.2.2.1 s.2.2.2.2.2) (fun s => I s.1 s.2.1 s.2.2.1 s.2.2.2.1 s.2.2.2.2.1 s.2.2.2.2.2) (fun s => μ s.1 s.2.1 s.2.2.1 s.2.2.2.1 s.2.2.2.2.1 s.2.2.2.2.2) (fun n s hI hk => hs n s.1 s.2.1 s.2.2.1 s.2.2.2.1 s.2.2.2.2.1 s.2.2.2.2.2 hI (fun b1 b2 b3 b4 b5 b6 h9 hm => hk (b1, b2, b3, b4, b5, b6) h9 hm)) (a1, a2, a3, a4, a5, a6) h
theorem lp7 {A1 A2 A3 A4 A5 A6 A7 : Type} (W : Nat → A1 → A2 → A3 → A4 → A5 → A6 → A7 → Prop) (I : A1 → A2 → A3 → A4 → A5 → A6 → A7 → Prop) (μ : A1 → A2 → A3 → A4 → A5 → A6 → A7 → Nat) (hs : ∀ (n : Nat) (a1 : A1) (a2 : A2) (a3 : A3) (a4 : A4) (a5 : A5) (a6 : A6) (a7 : A7), I a1 a2 a3 a4 a5 a6 a7 → (∀ (b1 : A1) (b2 : A2) (b3 : A3) (b4 : A4) (b5 : A5) (b6 : A6) (b7 : A7), I b1 b2 b3 b4 b5 b6 b7 → μ b1 b2 b3 b4 b5 b6 b7 < μ a1 a2 a3 a4 a5 a6 a7 → W n b1 b2 b3 b4 b5 b6 b7) → W (n + 1) a1 a2 a3 a4 a5 a6 a7) (a1 : A1) (a2 : A2) (a3 : A3) (a4 : A4) (a5 : A5) (a6 : A6) (a7 : A7) (h : I a1 a2 a3 a4 a5 a6 a7) : ∃ n, W n a1 a2 a3 a4 a5 a6 a7 :=
  loop_m (σ := A1 × A2 × A3 × A4 × A5 × A6 × A7) (fun n s => W n s.1 s.2.1 s.2.2.1 s.2.2.2.1 s.2.2.2.2.1 s.2.2.2.2.2.1 s.2.2.2.2.2.2) (fun s => I s.1 s.2.1 s.2.2.1 s.2.2.2.1 s.2.2.2.2.1 s.2.2.2.2.2.1 s.2.2.2.2.2.2) (fun s => μ s.1 s.2.1 s.2.2.1 s.2.2.2.1 s.2.2.2.2.1 s.2.2.2.2.2.1 s.2.2.2.2.2.2) (fun n s hI hk => hs n s.1 s.2.1 s.2.2.1 s.2.2.2.1 s.2.2.2.2.1 s.2.2.2.2.2.1 s.2.2.2.2.2.2 hI (fun b1 b2 b3 b4 b5 b6 b7 h9 hm => hk (b1, b2, b3, b4, b5, b6, b7) h9 hm)) (a1, a2, a3, a4, a5, a6, a7) h
theorem lp8 {A1 A2 A3 A4 A5 A6 A7 A8 : Type} (W : Nat → A1 → A2 → A3 → A4 → A5 → A6 → A7 → A8 → Prop) (I : A1 → A2 → A3 → A4 → A5 → A6 → A7 → A8 → Prop) (μ : A1 → A2 → A3 → A4 → A5 → A6 → A7 → A8 → Nat) (hs : ∀ (n : Nat) (a1 : A1) (a2 : A2) (a3 : A3) (a4 : A4) (a5 : A5) (a6 : A6) (a7 : A7) (a8 : A8), I a1 a2 a3 a4 a5 a6 a7 a8 → (∀ (b1 : A1) (b2 : A2) (b3 : A3) (b4 : A4) (b5 : A5) (b6 : A6) (b7 : A7) (b8 : A8), I b1 b2 b3 b4 b5 b6 b7 b8 → μ b1 b2 b3 b4 b5 b6 b7 b8 < μ a1 a2 a3 a4 a5 a6 a7 a8 → W n b1 b2 b3 b4 b5 b6 b7 b8) → W (n + 1) a1 a2 a3 a4 a5 a6 a7 a8) (a1 : A1) (a2 : A2) (a3 : A3) (a4 : A4) (a5 : A5) (a6 : A6) (a7 : A7) (a8 : A8) (h : I a1 a2 a3 a4 a5 a6 a7 a8) : ∃ n, W n a1 a2 a3 a4 a5 a6 a7 a8 :=
  loop_m (σ := A1 × A2 × A3 × A4 × A5 × A6 × A7 × A8) (fun n s => W n s.1 s.2.1 s.2.2.1 s.2.2.2.1 s.2.2.2.2.1 s.2.2.2.2.2.1 s.2.2.2.2.2.2.1 s.2.2.2.2.2.2.2) (fun s => I s.1 s.2.1 s.2.2.1 s.2.2.2.1 s.2.2.2.2.1 s.2.2.2.2.2.1 s.2.2.2.2.2.2.1 s.2.2.2.2.2.2.2) (fun s => μ s.1 s.2.1 s.2.2.1 s.2.2.2.1 s.2.2.2.2.1 s.2.2.2.2.2.1 s.2.2.2.2.2.2.1 s.2.2.2.2.2.2.2) (fun n s hI hk => hs n s.1 s.2.1 s.2.2.1 s.2.2.2.1 s.2.2.2.2.1 s.2.2.2.2.2.1 s.2.2.2.2.2.2.1 s.2.2.2.2.2.2.2 hI (fun b1 b2 b3 b4 b5 b6 b7 b8 h9 hm => hk (b1, b2, b3, b4, b5, b6, b7, b8) h9 hm)) (a1, a2, a3, a4, a5, a6, a7, a8) h
theorem lp9 {A1 A2 A3 A4 A5 A6 A7 A8 A9 : Type} (W : Nat → A1 → A2 → A3 → A4 → A5 → A6 → A7 → A8 → A9 → Prop) (I : A1 → A2 → A3 → A4 → A5 → A6 → A7 → A8 → A9 → Prop) (μ : A1 → A2 → A3 → A4 → A5 → A6 → A7 → A8 → A9 → Nat) (hs : ∀ (n : Nat) (a1 : A1) (a2 : A2) (a3 : A3) (a4 : A4) (a5 : A5) (a6 : A6) (a7 : A7) (a8 : A8) (a9 : A9), I a1 a2 a3 a4 a5 a6 a7 a8 a9 → (∀ (b1 : A1) (b2 : A2) (b3 : A3) (b4 : A4) (b5 : A5) (b6 : A6) (b7 : A7) (b8 : A8) (b9 : A9), I b1 b2 b3 b4 b5 b6 b7 b8 b9 → μ b1 b2 b3 b4 b5 b6 b7 b8 b9 < μ a1 a2 a3 a4 a5 a6 a7 a8 a9 → W n b1 b2 b3 b4 b5 b6 b7 b8 b9) → W (n + 1) a1 a2 a3 a4 a5 a6 a7 a8 a9) (a1 : A1) (a2 : A2) (a3 : A3) (a4 : A4) (a5 : A5) (a6 : A6) (a7 : A7) (a8 : A8) (a9 : A9) (h : I a1 a2 a3 a4 a5 a6 a7 a8 a9) : ∃ n, W n a1 a2 a3 a4 a5 a6 a7 a8 a9 :=
  loop_m (σ := A1 × A2 × A3 × A4 × A5 × A6 × A7 × A8 × A9) (fun n s => W n s.1 s.2.1 s.2.2.1 s.2.2.2.1 s.2.2.2.2.1 s.2.2.2.2.2.1 s.2.2.2.2.2.2.1 s.2.2.2.2.2.2.2.1 s.2.2.2.2.2.2.2.2) (fun s => I s.1 s.2.1 s.2.2.1 s.2.2.2.1 s.2.2.2.2.1 s.2.2.2.2.2.1 s.2.2.2.2.2.2.1 s.2.2.2.2.2.2.2.1 s.2.2.2.2.2.2.2.2) (fun s => μ s.1 s.2.1 s.2.2.1 s.2.2.2.1 s.2.2.2.2.1 s.2.2.2.2.2.1 s.2.2.2.2.2.2.1 s.2.2.2.2.2.2.2.1 s.2.2.2.2.2.2.2.2) (fun n s hI hk => hs n s.1 s.2.1 s.2.2.1 s.2.2.2.1 s.2.2.2.2.1 s.2.2.2.2.2.1 s.2.2.2.2.2.2.1 s.2.2.2.2.2.2.2.1 s.2.2.2.2.2.2.2.2 hI (fun b1 b2 b3 b4 b5 b6 b7 b8 b9 h9 hm => hk (b1, b2, b3, b4, b5, b6, b7, b8, b9) h9 hm)) (a1, a2, a3, a4, a5, a6, a7, a8, a9) h
theorem lp10 {A1 A2 A3 A4 A5 A6 A7 A8 A9 A10 : Type} (W : Nat → A1 → A2 → A3 → A4 → A5 → A6 → A7 → A8 → A9 → A10 → Prop) (I : A1 → A2 → A3 → A4 → A5 → A6 → A7 → A8 → A9 → A10 → Prop) (μ : A1 → A2 → A3 → A4 → A5 → A6 → A7 → A8 → A9 → A10 → Nat) (hs : ∀ (n : Nat) (a1 : A1) (a2 : A2) (a3 : A3) (a4 : A4) (a5 : A5) (a6 : A6) (a7 : A7) (a8 : A8) (a9 : A9) (a10 : A10), I a1 a2 a3 a4 a5 a6 a7 a8 a9 a10 → (∀ (b1 : A1) (b2 : A2) (b3 : A3) (b4 : A4) (b5 : A5) (b6 : A6) (b7 : A7) (b8 : A8) (b9 : A9) (b10 : A10), I b1 b2 b3 b4 b5 b6 b7 b8 b9 b10 → μ b1 b2 b3 b4 b5 b6 b7 b8 b9 b10 < μ a1 a2 a3 a4 a5 a6 a7 a8 a9 a10 → W n b1 b2 b3 b4 b5 b6 b7 b8 b9 b10) → W (n + 1) a1 a2 a3 a4 a5 a6 a7 a8 a9 a10) (a1 : A1) (a2 : A2) (a3 : A3) (a4 : A4) (a5 : A5) (a6 : A6) (a7 : A7) (a8 : A8) (a9 : A9) (a10 : A10) (h : I a1 a2 a3 a4 a5 a6 a7 a8 a9 a10) : ∃ n, W n a1 a2 a3 a4 a5 a6 a7 a8 a9 a10 :=
  loop_m (σ := A1 × A2 × A3 × A4 × A5 × A6 × A7 × A8 × A9 × A10) (fun n s => W n s.1 s.2.1 s.2.2.1 s.2.2.2.1 s.2.2.2.2.1 s.2.2.2.2.2.1 s.2.2.2.2.2.2.1 s.2.2.2.2.2.2.2.1 s.2.2.2.2.2.2.2.2.1 s.2.2.2.2.2.2.2.2.2) (fun s => I s.1 s.2.1 s.2.2.1 s.2.2.2.1 s.2.2.2.2.1 s.2.2.2.2.2.1 s.2.2.2.2.2.2.1 s.2.2.2.2.2.2.2.1 s.2.2.2.2.2.2.2.2.1 s.2.2.2.2.2.2.2.2.2) (fun s => μ s.1 s.2.1 s.2.2.1 s.2.2.2.1 s.2.2.2.2.1 s.2.2.2.2.2.1 s.2.2.2.2.2.2.1 s.2.2.2.2.2.2.2.1 s.2.2.2.2.2.2.2.2.1 s.2.2.2.2.2.2.2.2.2) (fun n s hI hk => hs n s.1 s.2.1 s.2.2.1 s.2.2.2.1 s.2.2.2.2.1 s.2.2.2.2.2.1 s.2.2.2.2.2.2.1 s.2.2.2.2.2.2.2.1 s.2.2.2.2.2.2.2.2.1 s.2.2.2.2.2.2.2.2.2 hI (fun b1 b2 b3 b4 b5 b6 b7 b8 b9 b10 h9 hm => hk (b1, b2, b3, b4, b5, b6, b7, b8, b9, b10) h9 hm)) (a1, a2, a3, a4, a5, a6, a7, a8, a9, a10) h
theorem lp11 {A1 A2 A3 A4 A5 A6 A7 A8 A9 A10 A11 : Type} (W : Nat → A1 → A2 → A3 → A4 → A5 → A6 → A7 → A8 → A9 → A10 → A11 → Prop) (I : A1 → A2 → A3 → A4 → A5 → A6 → A7 → A8 → A9 → A10 → A11 → Prop) (μ : A1 → A2 → A3 → A4 → A5 → A6 → A7 → A8 → A9 → A10 → A11 → Nat) (hs : ∀ (n : Nat) (a1 : A1) (a2 : A2) (a3 : A3) (a4 : A4) (a5 : A5) (a6 : A6) (a7 : A7) (a8 : A8) (a9 : A9) (a10 : A10) (a11 : A11), I a1 a2 a3 a4 a5 a6 a7 a8 a9 a10 a11 → (∀ (b1 : A1) (b2 : A2) (b3 : A3) (b4 : A4) (b5 : A5) (b6 : A6) (b7 : A7) (b8 : A8) (b9 : A9) (b10 : A10) (b11 : A11), I b1 b2 b3 b4 b5 b6 b7 b8 b9 b10 b11 → μ b1 b2 b3 b4 b5 b6 b7 b8 b9 b10 b11 < μ a1 a2 a3 a4 a5 a6 a7 a8 a9 a10 a11 → W n b1 b2 b3 b4 b5 b6 b7 b8 b9 b10 b11) → W (n + 1) a1 a2 a3 a4 a5 a6 a7 a8 a9 a10 a11) (a1 : A1) (a2 : A2) (a3 : A3) (a4 : A4) (a5 : A5) (a6 : A6) (a7 : A7) (a8 : A8) (a9 : A9) (a10 : A10) (a11 : A11) (h : I a1 a2 a3 a4 a5 a6 a7 a8 a9 a10 a11) : ∃ n, W n a1 a2 a3 a4 a5 a6 a7 a8 a9 a10 a11 :=
  loop_m (σ := A1 × A2 × A3 × A4 × A5 × A6 × A7 × A8 × A9 × A10 × A11) (fun n s => W n s.1 s.2.1 s.2.2.1 s.2.2.2.1 s.2.2.2.2.1 s.2.2.2.2.2.1 s.2.2.2.2.2.2.1 s.2.2.2.2.2.2.2.1 s.2.2.2.2.2.2.2.2.1 s.2.2.2.2.2.2.2.2.2.1 s.2.2.2.2.2.2.2.2.2.2) (fun s => I s.1 s.2.1 s.2.2.1 s.2.2.2.1 s.2.2.2.2.1 s.2.2.2.2.2.1 s.2.2.2.2.2.2.1 s.2.2.2.2.2.2.2.1 s.2.2.2.2.2.2.2.2.1 s.2.2.2.2.2.2.2.2.2.1 s.2.2.2.2.2.2.2.2.2.2) (fun s => μ s.1 s.2.1 s.2.2.1 s.2.2.2.1 s.2.2.2.2.1 s.2.2.2.2.2.1 s.2.2.2.2.2.2.1 s.2.2.2.2.2.2.2.1 s.2.2.2.2.2.2.2.2.1 s.2.2.2.2.2.2.2.2.2.1 s.2.2.2.2.2.2.2.2.2.2) (fun n s hI hk => hs n s.1 s.2.1 s.2.2.1 s.2.2.2.1 s.2.2.2.2.1 s.2.2.2.2.2.1 s.2.2.2.2.2.2.1 s.2.2.2.2.2.2.2.1 s.2.2.2.2.2.2.2.2.1 s.2.2.2.2.2.2.2.2.2.1 s.2.2.2.2.2.2.2.2.2.2 hI (fun b1 b2 b3 b4 b5 b6 b7 b8 b9 b10 b11 h9 hm => hk (b1, b2, b3, b4, b5, b6, b7, b8, b9, b10, b11) h9 hm)) (a1, a2, a3, a4, a5, a6, a7, a8, a9, a10, a11) h
theorem lp12 {A1 A2 A3 A4 A5 A6 A7 A8 A9 A10 A11 A12 : Type} (W : Nat → A1 → A2 → A3 → A4 → A5 → A6 → A7 → A8 → A9 → A10 → A11 → A12 → Prop) (I : A1 → A2 → A3 → A4 → A5 → A6 → A7 → A8 → A9 → A10 → A11 → A12 → Prop) (μ : A1 → A2 → A3 → A4 → A5 → A6 → A7 → A8 → A9 → A10 → A11 → A12 → Nat) (hs : ∀ (n : Nat) (a1 : A1) (a2 : A2) (a3 : A3) (a4 : A4) (a5 : A5) (a6 : A6) (a7 : A7) (a8 : A8) (a9 : A9) (a10 : A10) (a11 : A11) (a12 : A12), I a1 a2 a3 a4 a5 a6 a7 a8 a9 a10 a11 a12 → (∀ (b1 : A1) (b2 : A2) (b3 : A3) (b4 : A4) (b5 : A5) (b6 : A6) (b7 : A7) (b8 : A8) (b9 : A9) (b10 : A10) (b11 : A11) (b12 : A12), I b1 b2 b3 b4 b5 b6 b7 b8 b9 b10 b11 b12 → μ b1 b2 b3 b4 b5 b6 b7 b8 b9 b10 b11 b12 < μ a1 a2 a3 a4 a5 a6 a7 a8 a9 a10 a11 a12 → W n b1 b2 b3 b4 b5 b6 b7 b8 b9 b10 b11 b12) → W (n + 1) a1 a2 a3 a4 a5 a6 a7 a8 a9 a10 a11 a12) (a1 : A1) (a2 : A2) (a3 : A3) (a4 : A4) (a5 : A5) (a6 : A6) (a7 : A7) (a8 : A8) (a9 : A9) (a10 : A10) (a11 : A11) (a12 : A12) (h : I a1 a2 a3 a4 a5 a6 a7 a8 a9 a10 a11 a12) : ∃ n, W n a1 a2 a3 a4 a5 a6 a7 a8 a9 a10 a11 a12 :=
  loop_m (σ := A1 × A2 × A3 × A4 × A5 × A6 × A7 × A8 × A9 × A10 × A11 × A12) (fun n s => W n s.1 s.2.1 s.2.2.1 s.2.2.2.1 s.2.2.2.2.1 s.2.2.2.2.2.1 s.2.2.2.2.2.2.1 s.2.2.2.2.2.2.2.1 s.2.2.2.2.2.2.2.2.1 s.2.2.2.2.2.2.2.2.2.1 s.2.2.2.2.2.2.2.2.2.2.1 s.2.2.2.2.2.2.2.2.2.2.2) (fun s => I s.1 s.2.1 s.2.2.1 s.2.2.2.1 s.2.2.2.2.1 s.2.2.2.2.2.1 s.2.2.2.2.2.2.1 s.2.2.2.2.2.2.2.1 s.2.2.2.2.2.2.2.2.1 s.2.2.2.2.2.2.2.2.2.1 s.2.2.2.2.2.2.2.2.2.2.1 s.2.2.2.2.2.2.2.2.2.2.2) (fun s => μ s.1 s.2.1 s.2.2.1 s.2.2.2.1 s.2.2.2.2.1 s.2.2.2.2.2.1 s.2.2.2.2.2.2.1 s.2.2.2.2.2.2.2.1 s.2.2.2.2.2.2.2.2.1 s.2.2.2.2.2.2.2.2.2.1 s.2.2.2.2.2.2.2.2.2.2.1 s.2.2.2.2.2.2.2.2.2.2.2) (fun n s hI hk => hs n s.1 s.2.1 s.2.2.1 s.2.2.2.1 s.2.2.2.2.1 s.2.2.2.2.2.1 s.2.2.2.2.2.2.1 s.2.2.2.2.2.2.2.1 s.2.2.2.2.2.2.2.2.1 s.2.2.2.2.2.2.2.2.2.1 s.2.2.2.2.2.2.2.2.2.2.1 s.2.2.2.2.2.2.2.2.2.2.2 hI (fun b1 b2 b3 b4 b5 b6 b7 b8 b9 b10 b11 b12 h9 hm => hk (b1, b2, b3, b4, b5, b6, b7, b8, b9, b10, b11, b12) h9 hm)) (a1, a2, a3, a4, a5, a6, a7, a8, a9, a10, a11, a12) h
theorem lp13 {A1 A2 A3 A4 A5 A6 A7 A8 A9 A10 A11 A12 A13 : Type} (W : Nat → A1 → A2 → A3 → A4 → A5 → A6 → A7 → A8 → A9 → A10 → A11 → A12 → A13 → Prop) (I : A1 → A2 → A3 → A4 → A5 → A6 → A7 → A8 → A9 → A10 → A11 → A12 → A13 → Prop) (μ : A1 → A2 → A3 → A4 → A5 → A6 → A7 → A8 → A9 → A10 → A11 → A12 → A13 → Nat) (hs : ∀ (n : Nat) (a1 : A1) (a2 : A2) (a3 : A3) (a4 : A4) (a5 : A5) (a6 : A6) (a7 : A7) (a8 : A8) (a9 : A9) (a10 : A10) (a11 : A11) (a12 : A12) (a13 : A13), I a1 a2 a3 a4 a5 a6 a7 a8 a9 a10 a11 a12 a13 → (∀ (b1 : A1) (b2 : A2) (b3 : A3) (b4 : A4) (b5 : A5) (b6 : A6) (b7 : A7) (b8 : A8) (b9 : A9) (b10 : A10) (b11 : A11) (b12 : A12) (b13 : A13), I b1 b2 b3 b4 b5 b6 b7 b8 b9 b10 b11 b12 b13 → μ b1 b2 b3 b4 b5 b6 b7 b8 b9 b10 b11 b12 b13 < μ a1 a2 a3 a4 a5 a6 a7 a8 a9 a10 a11 a12 a13 → W n b1 b2 b3 b4 b5 b6 b7 b8 b9 b10 b11 b12 b13) → W (n + 1) a1 a2 a3 a4 a5 a6 a7 a8 a9 a10 a11 a12 a13) (a1 : A1) (a2 : A2) (a3 : A3) (a4 : A4) (a5 : A5) (a6 : A6) (a7 : A7) (a8 : A8) (a9 : A9) (a10 : A10) (a11 : A11) (a12 : A12) (a13 : A13) (h : I a1 a2 a3 a4 a5 a6 a7 a8 a9 a10 a11 a12 a13) : ∃ n, W n a1 a2 a3 a4 a5 a6 a7 a8 a9 a10 a11 a12 a13 :=
  loop_m (σ := A1 × A2 × A3 × A4 × A5 × A6 × A7 × A8 × A9 × A10 × A11 × A12 × A13) (fun n s => W n s.1 s.2.1 s.2.2.1 s.2.2.2.1 s.2.2.2.2.1 s.2.2.2.2.2.1 s.2.2.2.2.2.2.1 s.2.2.2.2.2.2.2.1 s.2.2.2.2.2.2.2.2.1 s.2.2.2.2.2.2.2.2.2.1 s.2.2.2.2.2.2.2.2.2.2.1 s.2.2.2.2.2.2.2.2.2.2.2.1 s.2.2.2.2.2.2.2.2.2.2.2.2) (fun s => I s.1 s.2.1 s.2.2.1 s.2.2.2.1 s.2.2.2.2.1 s.2.2.2.2.2.1 s.2.2.2.2.2.2.1 s.2.2.2.2.2.2.2.1 s.2.2.2.2.2.2.2.2.1 s.2.2.2.2.2.2.2.2.2.1 s.2.2.2.2.2.2.2.2.2.2.1 s.2.2.2.2.2.2.2.2.2.2.2.1 s.2.2.2.2.2.2.2.2.2.2.2.2) (fun s => μ s.1 s.2.1 s.2.2.1 s.2.2.2.1 s.2.2.2.2.1 s.2.2.2.2.2.1 s.2.2.2.2.2.2.1 s.2.2.2.2.2.2.2.1 s.2.2.2.2.2.2.2.2.1 s.2.2.2.2.2.2.2.2.2.1 s.2.2.2.2.2.2.2.2.2.2.1 s.2.2.2.2.2.2.2.2.2.2.2.1 s.2.2.2.2.2.2.2.2.2.2.2.2) (fun n s hI hk => hs n s.1 s.2.1 s.2.2.1 s.2.2.2.1 s.2.2.2.2.1 s.2.2.2.2.2.1 s.2.2.2.2.2.2.1 s.2.2.2.2.2.2.2.1 s.2.2.2.2.2.2.2.2.1 s.2.2.2.2.2.2.2.2.2.1 s.2.2.2.2.2.2.2.2.2.2.1 s.2.2.2.2.2.2.2.2.2.2.2.1 s.2.2.2.2.2.2.2.2.2.2.2.2 hI (fun b1 b2 b3 b4 b5 b6 b7 b8 b9 b10 b11 b12 b13 h9 hm => hk (b1, b2, b3, b4, b5, b6, b7, b8, b9, b10, b11, b12, b13) h9 hm)) (a1, a2, a3, a4, a5, a6, a7, a8, a9, a10, a11, a12, a13) h
theorem lp14 {A1 A2 A3 A4 A5 A6 A7 A8 A9 A10 A11 A12 A13 A14 : Type} (W : Nat → A1 → A2 → A3 → A4 → A5 → A6 → A7 → A8 → A9 → A10 → A11 → A12 → A13 → A14 → Prop) (I : A1 → A2 → A3 → A4 → A5 → A6 → A7 → A8 → A9 → A10 → A11 → A12 → A13 → A14 → Prop) (μ : A1 → A2 → A3 → A4 → A5 → A6 → A7 → A8 → A9 → A10 → A11 → A12 → A13 → A14 → Nat) (hs : ∀ (n : Nat) (a1 : A1) (a2 : A2) (a3 : A3) (a4 : A4) (a5 : A5) (a6 : A6) (a7 : A7) (a8 : A8) (a9 : A9) (a10 : A10) (a11 : A11) (a12 : A12) (a13 : A13) (a14 : A14), I a1 a2 a3 a4 a5 a6 a7 a8 a9 a10 a11 a12 a13 a14 → (∀ (b1 : A1) (b2 : A2) (b3 : A3) (b4 : A4) (b5 : A5) (b6 : A6) (b7 : A7) (b8 : A8) (b9 : A9) (b10 : A10) (b11 : A11) (b12 : A12) (b13 : A13) (b14 : A14), I b1 b2 b3 b4 b5 b6 b7 b8 b9 b10 b11 b12 b13 b14 → μ b1 b2 b3 b4 b5 b6 b7 b8 b9 b10 b11 b12 b13 b14 < μ a1 a2 a3 a4 a5 a6 a7 a8 a9 a10 a11 a12 a13 a14 → W n b1 b2 b3 b4 b5 b6 b7 b8 b9 b10 b11 b12 b13 b14) → W (n + 1) a1 a2 a3 a4 a5 a6 a7 a8 a9 a10 a11 a12 a13 a14) (a1 : A1) (a2 : A2) (a3 : A3) (a4 : A4) (a5 : A5) (a6 : A6) (a7 : A7) (a8 : A8) (a9 : A9) (a10 : A10) (a11 : A11) (a12 : A12) (a13 : A13) (a14 : A14) (h : I a1 a2 a3 a4 a5 a6 a7 a8 a9 a10 a11 a12 a13 a14) : ∃ n, W n a1 a2 a3 a4 a5 a6 a7 a8 a9 a10 a11 a12 a13 a14 :=
  loop_m (σ := A1 × A2 × A3 × A4 × A5 × A6 × A7 × A8 × A9 × A10 × A11 × A12 × A13 × A14) (fun n s => W n s.1 s.2.1 s.2.2.1 s.2.2.2.1 s.2.2.2.2.1 s.2.2.2.2.2.1 s.2.2.2.2.2.2.1 s.2.2.2.2.2.2.2.1 s.2.2.2.2.2.2.2.2.1 s.2.2.2.2.2.2.2.2.2.1 s.2.2.2.2.2.2.2.2.2.2.1 s.2.2.2.2.2.2.2.2.2.2.2.1 s.2.2.2.2.2.2.2.2.2.2.2.2.1 s.2.2.2.2.2.2.2.2.2.2.2.2.2) (fun s => I s.1 s.2.1 s.2.2.1 s.2.2.2.1 s.2.2.2.2.1 s.2.2.2.2.2.1 s.2.2.2.2.2.2.1 s.2.2.2.2.2.2.2.1 s.2.2.2.2.2.2.2.2.1 s.2.2.2.2.2.2.2.2.2.1 s.2.2.2.2.2.2.2.2.2.2.1 s.2.2.2.2.2.2.2.2.2.2.2.1 s.2.2.2.2.2.2.2.2.2.2.2.2.1 s.2.2.2.2.2.2.2.2.2.2.2.2.2) (fun s => μ s.1 s.2.1 s.2.2.1 s.2.2.2.1 s.2.2.2.2.1 s.2.2.2.2.2.1 s.2.2.2.2.2.2.1 s.2.2.2.2.2.2.2.1 s.2.2.2.2.2.2.2.2.1 s.2.2.2.2.2.2.2.2.2.1 s.2.2.2.2.2.2.2.2.2.2.1 s.2.2.2.2.2.2.2.2.2.2.2.1 s.2.2.2.2.2.2.2.2.2.2.2.2.1 s.2.2.2.2.2.2.2.2.2.2.2.2.2) (fun n s hI hk => hs n s.1 s.2.1 s.2.2.1 s.2.2.2.1 s.2.2.2.2.1 s.2.2.2.2.2.1 s.2.2.2.2.2.2.1 s.2.2.2.2.2.2.2.1 s.2.2.2.2.2.2.2.2.1 s.2.2.2.2.2.2.2.2.2.1 s.2.2.2.2.2.2.2.2.2.2.1 s.2.2.2.2.2.2.2.2.2.2.2.1 s.2.2.2.2.2.2.2.2.2.2.2.2.1 s.2.2.2.2.2.2.2.2.2.2.2.2.2 hI (fun b1 b2 b3 b4 b5 b6 b7 b8 b9 b10 b11 b12 b13 b14 h9 hm => hk (b1, b2, b3, b4, b5, b6, b7, b8, b9, b10, b11, b12, b13, b14) h9 hm)) (a1, a2, a3, a4, a5, a6, a7, a8, a9, a10, a11, a12, a13, a14) h
theorem lp15 {A1 A2 A3 A4 A5 A6 A7 A8 A9 A10 A11 A12 A13 A14 A15 : Type} (W : Nat → A1 → A2 → A3 → A4 → A5 → A6 → A7 → A8 → A9 → A10 → A11 → A12 → A13 → A14 → A15 → Prop) (I : A1 → A2 → A3 → A4 → A5 → A6 → A7 → A8 → A9 → A10 → A11 → A12 → A13 → A14 → A15 → Prop) (μ : A1 → A2 → A3 → A4 → A5 → A6 → A7 → A8 → A9 → A10 → A11 → A12 → A13 → A14 → A15 → Nat) (hs : ∀ (n : Nat) (a1 : A1) (a2 : A2) (a3 : A3) (a4 : A4) (a5 : A5) (a6 : A6) (a7 : A7) (a8 : A8) (a9 : A9) (a10 : A10) (a11 : A11) (a12 : A12) (a13 : A13) (a14 : A14) (a15 : A15), I a1 a2 a3 a4 a5 a6 a7 a8 a9 a10 a11 a12 a13 a14 a15 → (∀ (b1 : A1) (b2 : A2) (b3 : A3) (b4 : A4) (b5 : A5) (b6 : A6) (b7 : A7) (b8 : A8) (b9 : A9) (b10 : A10) (b11 : A11) (b12 : A12) (b13 : A13) (b14 : A14) (b15 : A15), I b1 b2 b3 b4 b5 b6 b7 b8 b9 b10 b11 b12 b13 b14 b15 → μ b1 b2 b3 b4 b5 b6 b7 b8 b9 b10 b11 b12 b13 b14 b15 < μ a1 a2 a3 a4 a5 a6 a7 a8 a9 a10 a11 a12 a13 a14 a15 → W n b1 b2 b3 b4 b5 b6 b7 b8 b9 b10 b11 b12 b13 b14 b15) → W (n + 1) a1 a2 a3 a4 a5 a6 a7 a8 a9 a10 a11 a12 a13 a14 a15) (a1 : A1) (a2 : A2) (a3 : A3) (a4 : A4) (a5 : A5) (a6 : A6) (a7 : A7) (a8 : A8) (a9 : A9) (a10 : A10) (a11 : A11) (a12 : A12) (a13 : A13) (a14 : A14) (a15 : A15) (h : I a1 a2 a3 a4 a5 a6 a7 a8 a9 a10 a11 a12 a13 a14 a15) : ∃ n, W n a1 a2 a3 a4 a5 a6 a7 a8 a9 a10 a11 a12 a13 a14 a15 :=
  loop_m (σ := A1 × A2 × A3 × A4 × A5 × A6 × A7 × A8 × A9 × A10 × A11 × A12 × A13 × A14 × A15) (fun n s => W n s.1 s.2.1 s.2.2.1 s.2.2.2.1 s.2.2.2.2.1 s.2.2.2.2.2.1 s.2.2.2.2.2.2.1 s.2.2.2.2.2.2.2.1 s.2.2.2.2.2.2.2.2.1 s.2.2.2.2.2.2.2.2.2.1 s.2.2.2.2.2.2.2.2.2.2.1 s.2.2.2.2.2.2.2.2.2.2.2.1 s.2.2.2.2.2.2.2.2.2.2.2.2.1 s.2.2.2.2.2.2.2.2.2.2.2.2.2.1 s.2.2.2.2.2.2.2.2.2.2.2.2.2.2) (fun s => I s.1 s.2.1 s.2.2.1 s.2.2.2.1 s.2.2.2.2.1 s.2.2.2.2.2.1 s.2.2.2.2.2.2.1 s.2.2.2.2.2.2.2.1 s.2.2.2.2.2.2.2.2.1 s.2.2.2.2.2.2.2.2.2.1 s.2.2.2.2.2.2.2.2.2.2.1 s.2.2.2.2.2.2.2.2.2.2.2.1 s.2.2.2.2.2.2.2.2.2.2.2.2.1 s.2.2.2.2.2.2.2.2.2.2.2.2.2.1 s.2.2.2.2.2.2.2.2.2.2.2.2.2.2) (fun s => μ s.1 s.2.1 s.2.2.1 s.2.2.2.1 s.2.2.2.2.1 s.2.2.2.2.2.1 s.2.2.2.2.2.2.1 s.2.2.2.2.2.2.2.1 s.2.2.2.2.2.2.2.2.1 s.2.2.2.2.2.2.2.2.2.1 s.2.2.2.2.2.2.2.2.2.2.1 s.2.2.2.2.2.2.2.2.2.2.2.1 s.2.2.2.2.2.2.2.2.2.2.2.2.1 s.2.2.2.2.2.2.2.2.2.2.2.2.2.1 s.2.2.2.2.2.2.2.2.2.2.2.2.2.2) (fun n s hI hk => hs n s.1 s.2.1 s.2.2.1 s.2.2.2.1 s.2.2.2.2.1 s.2.2.2.2.2.1 s.2.2.2.2.2.2.1 s.2.2.2.2.2.2.2.1 s.2.2.2.2.2.2.2.2.1 s.2.2.2.2.2.2.2.2.2.1 s.2.2.2.2.2.2.2.2.2.2.1 s.2.2.2.2.2.2.2.2.2.2.2.1 s.2.2.2.2.2.2.2.2.2.2.2.2.1 s.2.2.2.2.2.2.2.2.2.2.2.2.2.1 s.2.2.2.2.2.2.2.2.2.2.2.2.2.2 hI (fun b1 b2 b3 b4 b5 b6 b7 b8 b9 b10 b11 b12 b13 b14 b15 h9 hm => hk (b1, b2, b3, b4, b5, b6, b7, b8, b9, b10, b11, b12, b13, b14, b15) h9 hm)) (a1, a2, a3, a4, a5, a6, a7, a8, a9, a10, a11, a12, a13, a14, a15) h
theorem lp16 {A1 A2 A3 A4 A5 A6 A7 A8 A9 A10 A11 A12 A13 A14 A15 A16 : Type} (W : Nat → A1 → A2 → A3 → A4 → A5 → A6 → A7 → A8 → A9 → A10 → A11 → A12 → A13 → A14 → A15 → A16 → Prop) (I : A1 → A2 → A3 → A4 → A5 → A6 → A7 → A8 → A9 → A10 → A11 → A12 → A13 → A14 → A15 → A16 → Prop) (μ : A1 → A2 → A3 → A4 → A5 → A6 → A7 → A8 → A9 → A10 → A11 → A12 → A13 → A14 → A15 → A16 → Nat) (hs : ∀ (n : Nat) (a1 : A1) (a2 : A2) (a3 : A3) (a4 : A4) (a5 : A5) (a6 : A6) (a7 : A7) (a8 : A8) (a9 : A9) (a10 : A10) (a11 : A11) (a12 : A12) (a13 : A13) (a14 : A14) (a15 : A15) (a16 : A16), I a1 a2 a3 a4 a5 a6 a7 a8 a9 a10 a11 a12 a13 a14 a15 a16 → (∀ (b1 : A1) (b2 : A2) (b3 : A3) (b4 : A4) (b5 : A5) (b6 : A6) (b7 : A7) (b8 : A8) (b9 : A9) (b10 : A10) (b11 : A11) (b12 : A12) (b13 : A13) (b14 : A14) (b15 : A15) (b16 : A16), I b1 b2 b3 b4 b5 b6 b7 b8 b9 b10 b11 b12 b13 b14 b15 b16 → μ b1 b2 b3 b4 b5 b6 b7 b8 b9 b10 b11 b12 b13 b14 b15 b16 < μ a1 a2 a3 a4 a5 a6 a7 a8 a9 a10 a11 a12 a13 a14 a15 a16 → W n b1 b2 b3 b4 b5 b6 b7 b8 b9 b10 b11 b12 b13 b14 b15 b16) → W (n + 1) a1 a2 a3 a4 a5 a6 a7 a8 a9 a10 a11 a12 a13 a14 a15 a16) (a1 : A1) (a2 : A2) (a3 : A3) (a4 : A4) (a5 : A5) (a6 : A6) (a7 : A7) (a8 : A8) (a9 : A9) (a10 : A10) (a11 : A11) (a12 : A12) (a13 : A13) (a14 : A14) (a15 : A15) (a16 : A16) (h : I a1 a2 a3 a4 a5 a6 a7 a8 a9 a10 a11 a12 a13 a14 a15 a16) : ∃ n, W n a1 a2 a3 a4 a5 a6 a7 a8 a9 a10 a11 a12 a13 a14 a15 a16 :=
  loop_m (σ := A1 × A2 × A3 × A4 × A5 × A6 × A7 × A8 × A9 × A10 × A11 × A12 × A13 × A14 × A15 × A16) (fun n s => W n s.1 s.2.1 s.2.2.1 s.2.2.2.1 s.2.2.2.2.1 s.2.2.2.2.2.1 s.2.2.2.2.2.2.1 s.2.2.2.2.2.2.2.1 s.2.2.2.2.2.2.2.2.1 s.2.2.2.2.2.2.2.2.2.1 s.2.2.2.2.2.2.2.2.2.2.1 s.2.2.2.2.2.2.2.2.2.2.2.1 s.2.2.2.2.2.2.2.2.2.2.2.2.1 s.2.2.2.2.2.2.2.2.2.2.2.2.2.1 s.2.2.2.2.2.2.2.2.2.2.2.2.2.2.1 s.2.2.2.2.2.2.2.2.2.2.2.2.2.2.2) (fun s => I s.1 s.2.1 s.2.2.1 s.2.2.2.1 s.2.2.2.2.1 s.2.2.2.2.2.1 s.2.2.2.2.2.2.1 s.2.2.2.2.2.2.2.1 s.2.2.2.2.2.2.2.2.1 s.2.2.2.2.2.2.2.2.2.1 s.2.2.2.2.2.2.2.2.2.2.1 s.2.2.2.2.2.2.2.2.2.2.2.1 s.2.2.2.2.2.2.2.2.2.2.2.2.1 s.2.2.2.2.2.2.2.2.2.2.2.2.2.1 s.2.2.2.2.2.2.2.2.2.2.2.2.2.2.1 s.2.2.2.2.2.2.2.2.2.2.2.2.2.2.2) (fun s => μ s.1 s.2.1 s.2.2.1 s.2.2.2.1 s.2.2.2.2.1 s.2.2.2.2.2.1 s.2.2.2.2.2.2.1 s.2.2.2.2.2.2.2.1 s.2.2.2.2.2.2.2.2.1 s.2.2.2.2.2.2.2.2.2.1 s.2.2.2.2.2.2.2.2.2.2.1 s.2.2.2.2.2.2.2.2.2.2.2.1 s.2.2.2.2.2.2.2.2.2.2.2.2.1 s.2.2.2.2.2.2.2.2.2.2.2.2.2.1 s.2.2.2.2.2.2.2.2.2.2.2.2.2.2.1 s.2.2.2.2.2.2.2.2.2.2.2.2.2.2.2) (fun n s hI hk => hs n s.1 s.2.1 s.2.2.1 s.2.2.2.1 s.2.2.2.2.1 s.2.2.2.2.2.1 s.2.2.2.2.2.2.1 s.2.2.2.2.2.2.2.1 s.2.2.2.2.2.2.2.2.1 s.2.2.2.2.2.2.2.2.2.1 s.2.2.2.2.2.2.2.2.2.2.1 s.2.2.2.2.2.2.2.2.2.2.2.1 s.2.2.2.2.2.2.2.2.2.2.2.2.1 s.2.2.2.2.2.2.2.2.2.2.2.2.2.1 s.2.2.2.2.2.2.2.2.2.2.2.2.2.2.1 s.2.2.2.2.2.2.2.2.2.2.2.2.2.2.2 hI (fun b1 b2 b3 b4 b5 b6 b7 b8 b9 b10 b11 b12 b13 b14 b15 b16 h9 hm => hk (b1, b2, b3, b4, b5, b6, b7, b8, b9, b10, b11, b12, b13, b14, b15, b16) h9 hm)) (a1, a2, a3, a4, a5, a6, a7, a8, a9, a10, a11, a12, a13, a14, a15, a16) h
theorem pk_least (P : Nat → Prop) (h : ∃ k, P k) : ∃ k, P k ∧ ∀ j, j < k → ¬ P j := by
  obtain ⟨k, hk⟩ := h
  induction k using Nat.strongRecOn with
  | ind k ih =>
    by_cases e : ∃ j, j < k ∧ P j
    · obtain ⟨j, hj, pj⟩ := e
      exact ih j hj pj
    · exact ⟨k, hk, fun j hj pj => e ⟨j, hj, pj⟩⟩
theorem rp1 {ρ A1 : Type} (W : Nat → (ρ → Prop) → A1 → Prop) (ok : A1 → Prop) (μ : A1 → Nat) (val : A1 → ρ)
    (hs : ∀ (d : Nat) (post : ρ → Prop) (a1 : A1), ok a1 → post (val a1) → (∀ (post' : ρ → Prop) (b1 : A1), ok b1 → μ b1 < μ a1 → post' (val b1) → W d post' b1) → W (d + 1) post a1) :
    ∀ (d : Nat) (post : ρ → Prop) (a1 : A1), ok a1 → μ a1 < d → post (val a1) → W d post a1 := by
  intro d
  induction d with
  | zero => intro post a1 _ h; omega
  | succ d ih =>
    intro post a1 ho hm hp
    exact hs d post a1 ho hp (fun post' b1 ho' hm' hp' => ih post' b1 ho' (by omega) hp')
theorem rp2 {ρ A1 A2 : Type} (W : Nat → (ρ → Prop) → A1 → A2 → Prop) (ok : A1 → A2 → Prop) (μ : A1 → A2 → Nat) (val : A1 → A2 → ρ)
    (hs : ∀ (d : Nat) (post : ρ → Prop) (a1 : A1) (a2 : A2), ok a1 a2 → post (val a1 a2) → (∀ (post' : ρ → Prop) (b1 : A1) (b2 : A2), ok b1 b2 → μ b1 b2 < μ a1 a2 → post' (val b1 b2) → W d post' b1 b2) → W (d + 1) post a1 a2) :
    ∀ (d : Nat) (post : ρ → Prop) (a1 : A1) (a2 : A2), ok a1 a2 → μ a1 a2 < d → post (val a1 a2) → W d post a1 a2 := by
  intro d
  induction d with
  | zero => intro post a1 a2 _ h; omega
  | succ d ih =>
    intro post a1 a2 ho hm hp
    exact hs d post a1 a2 ho hp (fun post' b1 b2 ho' hm' hp' => ih post' b1 b2 ho' (by omega) hp')
theorem rp3 {ρ A1 A2 A3 : Type} (W : Nat → (ρ → Prop) → A1 → A2 → A3 → Prop) (ok : A1 → A2 → A3 → Prop) (μ : A1 → A2 → A3 → Nat) (val : A1 → A2 → A3 → ρ)
    (hs : ∀ (d : Nat) (post : ρ → Prop) (a1 : A1) (a2 : A2) (a3 : A3), ok a1 a2 a3 → post (val a1 a2 a3) → (∀ (post' : ρ → Prop) (b1 : A1) (b2 : A2) (b3 : A3), ok b1 b2 b3 → μ b1 b2 b3 < μ a1 a2 a3 → post' (val b1 b2 b3) → W d post' b1 b2 b3) → W (d + 1) post a1 a2 a3) :
    ∀ (d : Nat) (post : ρ → Prop) (a1 : A1) (a2 : A2) (a3 : A3), ok a1 a2 a3 → μ a1 a2 a3 < d → post (val a1 a2 a3) → W d post a1 a2 a3 := by
  intro d
  induction d with
  | zero => intro post a1 a2 a3 _ h; omega
  | succ d ih =>
    intro post a1 a2 a3 ho hm hp
    exact hs d post a1 a2 a3 ho hp (fun post' b1 b2 b3 ho' hm' hp' => ih post' b1 b2 b3 ho' (by omega) hp')
theorem rp4 {ρ A1 A2 A3 A4 : Type} (W : Nat → (ρ → Prop) → A1 → A2 → A3 → A4 → Prop) (ok : A1 → A2 → A3 → A4 → Prop) (μ : A1 → A2 → A3 → A4 → Nat) (val : A1 → A2 → A3 → A4 → ρ)
    (hs : ∀ (d : Nat) (post : ρ → Prop) (a1 : A1) (a2 : A2) (a3 : A3) (a4 : A4), ok a1 a2 a3 a4 → post (val a1 a2 a3 a4) → (∀ (post' : ρ → Prop) (b1 : A1) (b2 : A2) (b3 : A3) (b4 : A4), ok b1 b2 b3 b4 → μ b1 b2 b3 b4 < μ a1 a2 a3 a4 → post' (val b1 b2 b3 b4) → W d post' b1 b2 b3 b4) → W (d + 1) post a1 a2 a3 a4) :
    ∀ (d : Nat) (post : ρ → Prop) (a1 : A1) (a2 : A2) (a3 : A3) (a4 : A4), ok a1 a2 a3 a4 → μ a1 a2 a3 a4 < d → post (val a1 a2 a3 a4) → W d post a1 a2 a3 a4 := by
  intro d
  induction d with
  | zero => intro post a1 a2 a3 a4 _ h; omega
  | succ d ih =>
    intro post a1 a2 a3 a4 ho hm hp
    exact hs d post a1 a2 a3 a4 ho hp (fun post' b1 b2 b3 b4 ho' hm' hp' => ih post' b1 b2 b3 b4 ho' (by omega) hp')
theorem rp5 {ρ A1 A2 A3 A4 A5 : Type} (W : Nat → (ρ → Prop) → A1 → A2 → A3 → A4 → A5 → Prop) (ok : A1 → A2 → A3 → A4 → A5 → Prop) (μ : A1 → A2 → A3 → A4 → A5 → Nat) (val : A1 → A2 → A3 → A4 → A5 → ρ)
    (hs : ∀ (d : Nat) (post : ρ → Prop) (a1 : A1) (a2 : A2) (a3 : A3) (a4 : A4) (a5 : A5), ok a1 a2 a3 a4 a5 → post (val a1 a2 a3 a4 a5) → (∀ (post' : ρ → Prop) (b1 : A1) (b2 : A2) (b3 : A3) (b4 : A4) (b5 : A5), ok b1 b2 b3 b4 b5 → μ b1 b2 b3 b4 b5 < μ a1 a2 a3 a4 a5 → post' (val b1 b2 b3 b4 b5) → W d post' b1 b2 b3 b4 b5) → W (d + 1) post a1 a2 a3 a4 a5) :
    ∀ (d : Nat) (post : ρ → Prop) (a1 : A1) (a2 : A2) (a3 : A3) (a4 : A4) (a5 : A5), ok a1 a2 a3 a4 a5 → μ a1 a2 a3 a4 a5 < d → post (val a1 a2 a3 a4 a5) → W d post a1 a2 a3 a4 a5 := by
  intro d
  induction d with
  | zero => intro post a1 a2 a3 a4 a5 _ h; omega
  | succ d ih =>
    intro post a1 a2 a3 a4 a5 ho hm hp
    exact hs d post a1 a2 a3 a4 a5 ho hp (fun post' b1 b2 b3 b4 b5 ho' hm' hp' => ih post' b1 b2 b3 b4 b5 ho' (by omega) hp')
theorem rp6 {ρ A1 A2 A3 A4 A5 A6 : Type} (W : Nat → (ρ → Prop) → A1 → A2 → A3 → A4 → A5 → A6 → Prop) (ok : A1 → A2 → A3 → A4 → A5 → A6 → Prop) (μ : A1 → A2 → A3 → A4 → A5 → A6 → Nat) (val : A1 → A2 → A3 → A4 → A5 → A6 → ρ)
    (hs : ∀ (d : Nat) (post : ρ → Prop) (a1 : A1) (a2 : A2) (a3 : A3) (a4 : A4) (a5 : A5) (a6 : A6), ok a1 a2 a3 a4 a5 a6 → post (val a1 a2 a3 a4 a5 a6) → (∀ (post' : ρ → Prop) (b1 : A1) (b2 : A2) (b3 : A3) (b4 : A4) (b5 : A5) (b6 : A6), ok b1 b2 b3 b4 b5 b6 → μ b1 b2 b3 b4 b5 b6 < μ a1 a2 a3 a4 a5 a6 → post' (val b1 b2 b3 b4 b5 b6) → W d post' b1 b2 b3 b4 b5 b6) → W (d + 1) post a1 a2 a3 a4 a5 a6) :
    ∀ (d : Nat) (post : ρ → Prop) (a1 : A1) (a2 : A2) (a3 : A3) (a4 : A4) (a5 : A5) (a6 : A6), ok a1 a2 a3 a4 a5 a6 → μ a1 a2 a3 a4 a5 a6 < d → post (val a1 a2 a3 a4 a5 a6) → W d post a1 a2 a3 a4 a5 a6 := by
  intro d
  induction d with
  | zero => intro post a1 a2 a3 a4 a5 a6 _ h; omega
  | succ d ih =>
    intro post a1 a2 a3 a4 a5 a6 ho hm hp
    exact hs d post a1 a2 a3 a4 a5 a6 ho hp (fun post' b1 b2 b3 b4 b5 b6 ho' hm' hp' => ih post' b1 b2 b3 b4 b5 b6 ho' (by omega) hp')
theorem rec_p {σ ρ : Type} (W : Nat → (ρ → Prop) → σ → Prop) (ok : σ → Prop) (μ : σ → Nat) (val : σ → ρ)
    (hs : ∀ d s post, ok s → post (val s) → (∀ s' post', ok s' → μ s' < μ s → post' (val s') → W d post' s') → W (d + 1) post s) :
    ∀ d s post, ok s → μ s < d → post (val s) → W d post s := by
  intro d
  induction d with
  | zero => intro s post _ h; omega
  | succ d ih =>
    intro s post ho hm hp
    exact hs d s post ho hp (fun s' post' ho' hm' hp' => ih s' post' ho' (by omega) hp')
theorem rec_q {σ ρ : Type} (W : Nat → (ρ → Prop) → σ → Prop) (ok : σ → Prop) (μ : σ → Nat) (Q : σ → ρ → Prop)
    (hs : ∀ d s post, ok s → (∀ r, Q s r → post r) → (∀ s' post', ok s' → μ s' < μ s → (∀ r, Q s' r → post' r) → W d post' s') → W (d + 1) post s) :
    ∀ d s post, ok s → μ s < d → (∀ r, Q s r → post r) → W d post s := by
  intro d
  induction d with
  | zero => intro s post _ h; omega
  | succ d ih =>
    intro s post ho hm hp
    exact hs d s post ho hp (fun s' post' ho' hm' hp' => ih s' post' ho' (by omega) hp')
def bx_sum (f : Nat → Int32) : Nat → Int32
  | 0 => 0
  | n + 1 => bx_sum f n + f n
theorem ek_u {A : Prop} {B : Nat → Prop} {k N : Nat} (hk : k < N) (h : B k) : (some k = none → A) ∧ (∀ y : Nat, some k = some y → (y < N ∧ B y)) :=
  ⟨fun z => absurd z (Option.some_ne_none k), fun _ e => (by cases e; exact ⟨hk, h⟩)⟩
theorem ek_nu {A : Prop} {B : Nat → Prop} (h : A) : ((none : Option Nat) = none → A) ∧ (∀ y : Nat, (none : Option Nat) = some y → B y) :=
  ⟨fun _ => h, fun _ e => (by cases e)⟩
theorem ek_if {c d A B : Prop} (e : c ↔ d) (f : d → A) (g : ¬ d → B) : (c → A) ∧ (¬ c → B) :=
  ⟨fun z => f (e.mp z), fun z => g (fun y => z (e.mpr y))⟩
theorem ek_v {α : Sort _} {P : α → Prop} {a b : α} (e : a = b) (h : P b) : P a := e ▸ h
theorem co_some {x : Option Nat} {A : Prop} {B : Nat → Prop} (i : Nat) (h : B i) (hx : x = some i := by rfl) : (x = none → A) ∧ (∀ y : Nat, x = some y → B y) := by
  subst hx
  exact ⟨fun e => (nomatch e), fun y e => Option.some.inj e ▸ h⟩
theorem co_none {x : Option Nat} {A : Prop} {B : Nat → Prop} (h : A) (hx : x = none := by rfl) : (x = none → A) ∧ (∀ y : Nat, x = some y → B y) := by
  subst hx
  exact ⟨fun _ => h, fun y e => (nomatch e)⟩
theorem co_any {x : Option Nat} {A : Prop} {B : Nat → Prop} (hn : x = none → A) (hs : ∀ i : Nat, x = some i → B i) : (x = none → A) ∧ (∀ y : Nat, x = some y → B y) := ⟨hn, hs⟩
theorem co_2 {P : Nat → Prop} (h0 : P 0) (h1 : P 1) {i : Nat} (hi : i < 2) : P i :=
  match i, hi with
  | 0, _ => h0
  | 1, _ => h1
theorem co_3 {P : Nat → Prop} (h0 : P 0) (h1 : P 1) (h2 : P 2) {i : Nat} (hi : i < 3) : P i :=
  match i, hi with
  | 0, _ => h0
  | 1, _ => h1
  | 2, _ => h2
theorem co_4 {P : Nat → Prop} (h0 : P 0) (h1 : P 1) (h2 : P 2) (h3 : P 3) {i : Nat} (hi : i < 4) : P i :=
  match i, hi with
  | 0, _ => h0
  | 1, _ => h1
  | 2, _ => h2
  | 3, _ => h3
theorem co_dec {N : Nat} {P : Nat → Prop} [DecidablePred P] (h : (List.range N).all (fun i => decide (P i)) = true) {i : Nat} (hi : i < N) : P i := by
  have := List.all_eq_true.mp h i (List.mem_range.mpr hi)
  exact of_decide_eq_true this
theorem co_tab {α : Type} {l : List α} {d : α} {P : α → Prop} (h : ∀ a, a ∈ l → P a) {i : Nat} (hi : i < l.length) : P (l.getD i d) := by
  rw [List.getD_eq_getElem?_getD, List.getElem?_eq_getElem hi]
  exact h _ (List.getElem_mem hi)
theorem pk_mu {x : Int32} {L : Nat} (h0 : ¬ x < 0) (h : ¬ nI L ≤ x) (hL : L < 2 ^ 31) : ∃ j : Nat, j < L ∧ x = nI j ∧ x + 1 = nI (j + 1) ∧ x.toNatClampNeg = j ∧ L - (x + 1).toNatClampNeg < L - x.toNatClampNeg := by
  obtain ⟨j, hj, rfl⟩ := nI_of h0
  have hl : j < L := Nat.not_le.mp fun q => h (nI_le q hj)
  refine ⟨j, hl, rfl, nI_1 j, nI_clamp hj, ?_⟩
  rw [nI_1, nI_clamp (by omega), nI_clamp hj]
  omega
theorem op_s {α : Type} {r : Option α} {A : Prop} {B : α → Prop} {y : α} (h : r = some y) (b : B y) : (r = none → A) ∧ ∀ z, r = some z → B z :=
  ⟨fun e => (by rw [h] at e; cases e), fun z e => (by rw [h] at e; cases e; exact b)⟩
def l_holds {α : Type} (a : Nat → Option Nat) (LP : List Nat) (p : Nat → α) (c : Nat) (b : Nat → α) : Prop :=
  ∀ j, j < c → ∃ y, a j = some y ∧ y ∈ LP ∧ p y = b j
theorem l_holds_0 {α : Type} {a : Nat → Option Nat} {LP : List Nat} {p b : Nat → α} : l_holds a LP p 0 b := fun j h => absurd h (Nat.not_lt_zero j)
theorem l_in_new (LP : List Nat) (q : Nat) : q ∈ LP ++ [q] := List.mem_append.mpr (Or.inr (List.mem_singleton.mpr rfl))
def l_sum (b : Nat → Int32) : Nat → Int32
  | 0 => 0
  | k + 1 => l_sum b k + b k
theorem sb_shr0 (x : Int32) : x >>> ((0 : Int32) &&& 31) = x := by
  rw [show ((0 : Int32) &&& 31) = 0 by decide]
  simp
theorem sb_shl0 (x : Int32) : x <<< ((0 : Int32) &&& 31) = x := by
  rw [show ((0 : Int32) &&& 31) = 0 by decide]
  simp
theorem sb_cl0 : (0 : Int32).toNatClampNeg = 0 := by decide
theorem sb_m1 {p : Nat} (h : 0 < p) : nI p + (-1) = nI (p - 1) := by
  obtain ⟨q, rfl⟩ : ∃ q, p = q + 1 := ⟨p - 1, by omega⟩
  exact pk_m1 q
def sb_b (c : Nat) : Int32 := (nI c).toInt8.toInt32
theorem sb_byte : ∀ c, c < 256 → sb_b c &&& 255 = nI c ∧ ((nI c).toUInt32 % 65536).toInt32 = nI c ∧ nI c ≤ 255 := by decide +kernel
def sb_Fit (a : Nat → Int32) : Prop := ∀ j, fits .byte (.int (a j)) = true
def sb_Lat (t : Nat → Nat) (n : Nat) (a : Nat → Int32) : Prop := ∀ j, j < n → t j < 256 ∧ a j = sb_b (t j)
theorem sb_fitB (c : Nat) : fits .byte (.int (sb_b c)) = true := pk_fb _
theorem sb_fit0 : sb_Fit (fun _ => 0) := fun _ => by
  show fits .byte (.int 0) = true
  decide
theorem sb_fitU {a : Nat → Int32} {k : Nat} {x : Int32} (h : sb_Fit a) (hx : fits .byte (.int x) = true) : sb_Fit (upd a k x) := by
  intro j
  by_cases e : j = k
  · subst e
    rw [pk_us]
    exact hx
  · rw [pk_un e]
    exact h j
def sb_cat (t : Nat → Nat) (n : Nat) (s : Nat → Nat) : Nat → Nat := fun j => if j < n then t j else s (j - n)
theorem sb_cat_lo {t s : Nat → Nat} {n j : Nat} (h : j < n) : sb_cat t n s j = t j := if_pos h
theorem sb_cat_hi {t s : Nat → Nat} {n j : Nat} : sb_cat t n s (n + j) = s j := by
  show (if n + j < n then t (n + j) else s (n + j - n)) = s j
  rw [if_neg (by omega), Nat.add_sub_cancel_left]
theorem sb_latPut {t s : Nat → Nat} {n w : Nat} {a a' : Nat → Int32} (h : sb_Lat t n a) (hk : ∀ j, j < n → a' j = a j) (hs : ∀ i, i < w → s i < 256 ∧ a' (n + i) = sb_b (s i)) : sb_Lat (sb_cat t n s) (n + w) a' := by
  intro j hj
  by_cases e : j < n
  · rw [sb_cat_lo e, hk j e]
    exact h j e
  · obtain ⟨i, rfl⟩ : ∃ i, j = n + i := ⟨j - n, by omega⟩
    rw [sb_cat_hi]
    exact hs i (by omega)
theorem sb_latKeep {t : Nat → Nat} {n : Nat} {a a' : Nat → Int32} (h : sb_Lat t n a) (hk : ∀ j, j < n → a' j = a j) : sb_Lat t n a' := fun j hj => by
  rw [hk j hj]
  exact h j hj
def sb_cap (q m : Nat) : Nat := if q ≤ m then m else if 2 * m + 2 < q then q else 2 * m + 2
def sb_Room (q m mc ms : Nat) : Prop := q ≤ m ∨ (1 ≤ mc ∧ sb_cap q m ≤ ms ∧ sb_cap q m ≤ 65536)
theorem sb_cap_ge (q m : Nat) : q ≤ sb_cap q m := by
  unfold sb_cap
  split
  · omega
  · split <;> omega
theorem sb_cap_gem (q m : Nat) : m ≤ sb_cap q m := by
  unfold sb_cap
  split
  · omega
  · split <;> omega
theorem sb_cap_le {q m mc ms : Nat} (hm : m ≤ 65536) (hr : sb_Room q m mc ms) : sb_cap q m ≤ 65536 := by
  rcases hr with h | h
  · rw [sb_cap, if_pos h]
    exact hm
  · exact h.2.2
theorem sb_at {P : Int32 → Prop} {x y : Int32} (e : x = y) (h : P y) : P x := e ▸ h
def sb_dg (w : Nat) : Nat := if w < 10 then 1 else if w < 100 then 2 else if w < 1000 then 3 else if w < 10000 then 4 else if w < 100000 then 5 else if w < 1000000 then 6 else if w < 10000000 then 7 else if w < 100000000 then 8 else if w < 1000000000 then 9 else 10
def sb_dec (v : Nat) : Nat → Nat := fun i => 48 + v / 10 ^ (sb_dg v - 1 - i) % 10
theorem sb_dg_in (w : Nat) : 1 ≤ sb_dg w ∧ sb_dg w ≤ 10 := by
  unfold sb_dg
  constructor <;> (repeat' split) <;> omega
theorem sb_dg100 {w : Nat} (h : 100 ≤ w) (hw : w < 2 ^ 31) : sb_dg w = sb_dg (w / 100) + 2 := by
  rw [sb_dg, sb_dg, if_neg (show ¬ w < 10 by omega), if_neg (show ¬ w < 100 by omega)]
  by_cases h3 : w < 1000
  · rw [if_pos h3, if_pos (show w / 100 < 10 by omega)]
  rw [if_neg h3, if_neg (show ¬ w / 100 < 10 by omega)]
  by_cases h4 : w < 10000
  · rw [if_pos h4, if_pos (show w / 100 < 100 by omega)]
  rw [if_neg h4, if_neg (show ¬ w / 100 < 100 by omega)]
  by_cases h5 : w < 100000
  · rw [if_pos h5, if_pos (show w / 100 < 1000 by omega)]
  rw [if_neg h5, if_neg (show ¬ w / 100 < 1000 by omega)]
  by_cases h6 : w < 1000000
  · rw [if_pos h6, if_pos (show w / 100 < 10000 by omega)]
  rw [if_neg h6, if_neg (show ¬ w / 100 < 10000 by omega)]
  by_cases h7 : w < 10000000
  · rw [if_pos h7, if_pos (show w / 100 < 100000 by omega)]
  rw [if_neg h7, if_neg (show ¬ w / 100 < 100000 by omega)]
  by_cases h8 : w < 100000000
  · rw [if_pos h8, if_pos (show w / 100 < 1000000 by omega)]
  rw [if_neg h8, if_neg (show ¬ w / 100 < 1000000 by omega)]
  by_cases h9 : w < 1000000000
  · rw [if_pos h9, if_pos (show w / 100 < 10000000 by omega)]
  rw [if_neg h9, if_neg (show ¬ w / 100 < 10000000 by omega)]
  rw [if_pos (show w / 100 < 100000000 by omega)]
theorem sb_negT {w : Nat} (h : w < 2 ^ 31) : (-nI w).toInt = -(w : Int) := by
  rw [Int32.toInt_neg, nI_toInt h]
  exact Int.bmod_eq_of_le (by omega) (by omega)
theorem sb_nle {a b : Nat} (ha : a < 2 ^ 31) (hb : b < 2 ^ 31) : -nI a ≤ -nI b ↔ b ≤ a := by
  rw [Int32.le_iff_toInt_le, sb_negT ha, sb_negT hb]
  omega
theorem sb_nlt {a b : Nat} (ha : a < 2 ^ 31) (hb : b < 2 ^ 31) : -nI a < -nI b ↔ b < a := by
  rw [Int32.lt_iff_toInt_lt, sb_negT ha, sb_negT hb]
  omega
theorem sb_cmp {A B : Prop} {x : Int32} (v c : Nat) (f : c ≤ v → A) (g : v < c → B) (hv : v < 2 ^ 31) (hx : x = -nI c := by rfl) (hc : c < 2 ^ 31 := by omega) : (-nI v ≤ x → A) ∧ (¬ -nI v ≤ x → B) := by
  subst hx
  rw [sb_nle hv hc]
  exact ⟨f, fun z => g (by omega)⟩
theorem sb_ndiv {w : Nat} (hw : w < 2 ^ 31) : (-nI w) / 100 = -nI (w / 100) := by
  apply Int32.toInt_inj.mp
  have h100 : (100 : Int32).toInt = 100 := by decide
  rw [Int32.toInt_div, sb_negT hw, h100, sb_negT (by omega), Int.neg_tdiv, Int.tdiv_eq_ediv_of_nonneg (by omega), Int.bmod_eq_of_le (by omega) (by omega)]
  omega
theorem sb_nrem {w : Nat} (hw : w < 2 ^ 31) : (-nI (w / 100)) * 100 - (-nI w) = nI (w % 100) := by
  have h := pk_rem (a := w) (d := 100) hw (by decide) (by decide)
  rw [pk_div hw (by decide) (by decide)] at h
  rw [← h]
  show (-nI (w / 100)) * nI 100 - (-nI w) = nI w - nI (w / 100) * nI 100
  rw [Int32.neg_mul, Int32.sub_neg, Int32.add_comm, ← Int32.sub_eq_add_neg]
end
section
/-! maps as lists of entries, ordered by key -/
abbrev tm_E : Type := Int32 × Int32
def tm_SO (l : List tm_E) : Prop := l.Pairwise (fun a b => a.1 < b.1)
def tm_ins (k v : Int32) : List tm_E → List tm_E
  | [] => [(k, v)]
  | e :: t => if e.1 < k then e :: tm_ins k v t else if e.1 = k then (k, v) :: t else (k, v) :: e :: t
def tm_fl (p : Int32 → Bool) (l : List tm_E) : List tm_E := l.filter (fun e => p e.1)
def tm_del (k : Int32) (l : List tm_E) : List tm_E := tm_fl (fun x => decide (x ≠ k)) l
def tm_look (k : Int32) : List tm_E → Option Int32
  | [] => none
  | e :: t => if e.1 = k then some e.2 else tm_look k t
theorem tm_irr (a : Int32) : ¬ a < a := by rw [Int32.lt_iff_toInt_lt]; omega
theorem tm_lne {a b : Int32} (h : a < b) : a ≠ b := fun e => tm_irr b (e ▸ h)
theorem tm_gne {a b : Int32} (h : a < b) : b ≠ a := fun e => tm_irr b (e ▸ h)
theorem tm_ltt {a b c : Int32} (h : a < b) (g : b < c) : a < c := by
  rw [Int32.lt_iff_toInt_lt] at *; omega
theorem tm_asy {a b : Int32} (h : a < b) : ¬ b < a := fun g => tm_irr a (tm_ltt h g)
theorem tm_gt {a b : Int32} (h : ¬ a < b) (g : a ≠ b) : b < a := by
  have g' : a.toInt ≠ b.toInt := fun e => g (Int32.toInt_inj.mp e)
  rw [Int32.lt_iff_toInt_lt] at *; omega
theorem tm_le_nlt {a b : Int32} (h : a ≤ b) : ¬ b < a := by
  rw [Int32.le_iff_toInt_le] at h; rw [Int32.lt_iff_toInt_lt]; omega
theorem tm_nle_lt {a b : Int32} (h : ¬ a ≤ b) : b < a := by
  rw [Int32.le_iff_toInt_le] at h; rw [Int32.lt_iff_toInt_lt]; omega
theorem tm_nlt_le {a b : Int32} (h : ¬ a < b) : b ≤ a := by
  rw [Int32.lt_iff_toInt_lt] at h; rw [Int32.le_iff_toInt_le]; omega
theorem tm_lt_nle {a b : Int32} (h : a < b) : ¬ b ≤ a := by
  rw [Int32.lt_iff_toInt_lt] at h; rw [Int32.le_iff_toInt_le]; omega
theorem tm_so_nil : tm_SO [] := List.Pairwise.nil
theorem tm_so_cons {e : tm_E} {t : List tm_E} : tm_SO (e :: t) ↔ (∀ x, x ∈ t → e.1 < x.1) ∧ tm_SO t := List.pairwise_cons
theorem tm_so_fl {p : Int32 → Bool} {l : List tm_E} (h : tm_SO l) : tm_SO (tm_fl p l) := List.Pairwise.filter _ h
theorem tm_mem_fl {p : Int32 → Bool} {l : List tm_E} {e : tm_E} : e ∈ tm_fl p l ↔ e ∈ l ∧ p e.1 = true := List.mem_filter
theorem tm_mem_del {k : Int32} {l : List tm_E} {e : tm_E} : e ∈ tm_del k l ↔ e ∈ l ∧ e.1 ≠ k := by
  unfold tm_del; rw [tm_mem_fl, decide_eq_true_iff]
theorem tm_fl_cons {p : Int32 → Bool} {e : tm_E} {t : List tm_E} : tm_fl p (e :: t) = if p e.1 then e :: tm_fl p t else tm_fl p t := List.filter_cons
theorem tm_fl_nil {p : Int32 → Bool} : tm_fl p [] = [] := rfl
theorem tm_fl_len {p : Int32 → Bool} {l : List tm_E} : (tm_fl p l).length ≤ l.length := List.length_filter_le _ _
theorem tm_fl_all {p : Int32 → Bool} {l : List tm_E} (h : ∀ e, e ∈ l → p e.1 = true) : tm_fl p l = l := List.filter_eq_self.mpr h
theorem tm_fl_none {p : Int32 → Bool} {l : List tm_E} (h : ∀ e, e ∈ l → ¬ p e.1 = true) : tm_fl p l = [] := List.filter_eq_nil_iff.mpr h
theorem tm_fl_congr {p q : Int32 → Bool} {l : List tm_E} (h : ∀ e, e ∈ l → p e.1 = q e.1) : tm_fl p l = tm_fl q l := List.filter_congr h
theorem tm_fl_fl {p q : Int32 → Bool} {l : List tm_E} : tm_fl p (tm_fl q l) = tm_fl (fun x => p x && q x) l := List.filter_filter
theorem tm_mem_ins {k v : Int32} {l : List tm_E} (h : tm_SO l) {e : tm_E} : e ∈ tm_ins k v l ↔ e = (k, v) ∨ (e ∈ l ∧ e.1 ≠ k) := by
  induction l with
  | nil => simp [tm_ins]
  | cons a t ih =>
    have ⟨h1, h2⟩ := tm_so_cons.mp h
    unfold tm_ins
    by_cases c1 : a.1 < k
    · rw [if_pos c1, List.mem_cons, ih h2, List.mem_cons]
      constructor
      · rintro (r | r | r)
        · exact Or.inr ⟨Or.inl r, by rw [r]; exact tm_lne c1⟩
        · exact Or.inl r
        · exact Or.inr ⟨Or.inr r.1, r.2⟩
      · rintro (r | ⟨r | r, g⟩)
        · exact Or.inr (Or.inl r)
        · exact Or.inl r
        · exact Or.inr (Or.inr ⟨r, g⟩)
    · rw [if_neg c1]
      by_cases c2 : a.1 = k
      · rw [if_pos c2, List.mem_cons, List.mem_cons]
        constructor
        · rintro (r | r)
          · exact Or.inl r
          · exact Or.inr ⟨Or.inr r, by rw [← c2]; exact tm_gne (h1 _ r)⟩
        · rintro (r | ⟨r | r, g⟩)
          · exact Or.inl r
          · exact absurd (by rw [r]; exact c2) g
          · exact Or.inr r
      · rw [if_neg c2, List.mem_cons]
        have c3 : k < a.1 := tm_gt c1 c2
        constructor
        · rintro (r | r)
          · exact Or.inl r
          · refine Or.inr ⟨r, ?_⟩
            rcases List.mem_cons.mp r with r | r
            · rw [r]; exact c2
            · exact tm_gne (tm_ltt c3 (h1 _ r))
        · rintro (r | ⟨r, g⟩)
          · exact Or.inl r
          · exact Or.inr r
theorem tm_so_ins {k v : Int32} {l : List tm_E} (h : tm_SO l) : tm_SO (tm_ins k v l) := by
  induction l with
  | nil => exact List.pairwise_singleton _ _
  | cons a t ih =>
    have ⟨h1, h2⟩ := tm_so_cons.mp h
    unfold tm_ins
    by_cases c1 : a.1 < k
    · rw [if_pos c1, tm_so_cons]
      refine ⟨fun x hx => ?_, ih h2⟩
      rcases (tm_mem_ins h2).mp hx with r | r
      · rw [r]; exact c1
      · exact h1 _ r.1
    · rw [if_neg c1]
      by_cases c2 : a.1 = k
      · rw [if_pos c2, tm_so_cons]
        exact ⟨fun x hx => by rw [← c2]; exact h1 _ hx, h2⟩
      · rw [if_neg c2, tm_so_cons]
        have c3 : k < a.1 := tm_gt c1 c2
        refine ⟨fun x hx => ?_, h⟩
        rcases List.mem_cons.mp hx with r | r
        · rw [r]; exact c3
        · exact tm_ltt c3 (h1 _ r)
theorem tm_look_none {k : Int32} {l : List tm_E} : tm_look k l = none ↔ ∀ e, e ∈ l → e.1 ≠ k := by
  induction l with
  | nil => simp [tm_look]
  | cons a t ih =>
    unfold tm_look
    by_cases c : a.1 = k
    · rw [if_pos c]
      exact ⟨fun h => by simp at h, fun h => absurd c (h a (List.mem_cons_self))⟩
    · rw [if_neg c, ih]
      constructor
      · intro h e he
        rcases List.mem_cons.mp he with r | r
        · rw [r]; exact c
        · exact h _ r
      · exact fun h e he => h e (List.mem_cons_of_mem _ he)
theorem tm_look_mem {k v : Int32} {l : List tm_E} (h : tm_look k l = some v) : (k, v) ∈ l := by
  induction l with
  | nil => simp [tm_look] at h
  | cons a t ih =>
    unfold tm_look at h
    by_cases c : a.1 = k
    · rw [if_pos c] at h
      have : a = (k, v) := by
        rw [← c, ← Option.some.inj h]
      rw [this]; exact List.mem_cons_self
    · rw [if_neg c] at h
      exact List.mem_cons_of_mem _ (ih h)
theorem tm_look_some {k v : Int32} {l : List tm_E} (s : tm_SO l) : tm_look k l = some v ↔ (k, v) ∈ l := by
  refine ⟨tm_look_mem, ?_⟩
  induction l with
  | nil => intro h; simp at h
  | cons a t ih =>
    have ⟨h1, h2⟩ := tm_so_cons.mp s
    intro h
    unfold tm_look
    rcases List.mem_cons.mp h with r | r
    · rw [← r, if_pos rfl]
    · rw [if_neg (tm_lne (h1 _ r)), ih h2 r]
theorem tm_key_inj {l : List tm_E} (s : tm_SO l) {a b : tm_E} (ha : a ∈ l) (hb : b ∈ l) (e : a.1 = b.1) : a = b := by
  have h1 := (tm_look_some s).mpr (show (a.1, a.2) ∈ l from ha)
  have h2 := (tm_look_some s).mpr (show (b.1, b.2) ∈ l from hb)
  rw [← e, h1] at h2
  exact Prod.ext e (Option.some.inj h2)
theorem tm_len_ins_n {k v : Int32} {l : List tm_E} (h : tm_look k l = none) : (tm_ins k v l).length = l.length + 1 := by
  induction l with
  | nil => rfl
  | cons a t ih =>
    have c2 : a.1 ≠ k := tm_look_none.mp h a List.mem_cons_self
    have ht : tm_look k t = none := tm_look_none.mpr fun e he => tm_look_none.mp h e (List.mem_cons_of_mem _ he)
    unfold tm_ins
    by_cases c1 : a.1 < k
    · rw [if_pos c1, List.length_cons, ih ht, List.length_cons]
    · rw [if_neg c1, if_neg c2]; rfl
theorem tm_len_ins_s {k v w : Int32} {l : List tm_E} (s : tm_SO l) (h : tm_look k l = some w) : (tm_ins k v l).length = l.length := by
  induction l with
  | nil => simp [tm_look] at h
  | cons a t ih =>
    have ⟨h1, h2⟩ := tm_so_cons.mp s
    unfold tm_ins
    unfold tm_look at h
    by_cases c2 : a.1 = k
    · have c1 : ¬ a.1 < k := by rw [c2]; exact tm_irr k
      rw [if_neg c1, if_pos c2]; rfl
    · rw [if_neg c2] at h
      have c1 : a.1 < k := h1 _ (tm_look_mem h)
      rw [if_pos c1, List.length_cons, ih h2 h, List.length_cons]
theorem tm_ext {l l' : List tm_E} (s : tm_SO l) (s' : tm_SO l') (h : ∀ e, e ∈ l ↔ e ∈ l') : l = l' := by
  induction l generalizing l' with
  | nil =>
    cases l' with
    | nil => rfl
    | cons b t => exact absurd ((h b).mpr List.mem_cons_self) List.not_mem_nil
  | cons a t ih =>
    cases l' with
    | nil => exact absurd ((h a).mp List.mem_cons_self) List.not_mem_nil
    | cons b t' =>
      have ⟨h1, h2⟩ := tm_so_cons.mp s
      have ⟨g1, g2⟩ := tm_so_cons.mp s'
      have e : a = b := by
        rcases List.mem_cons.mp ((h a).mp List.mem_cons_self) with r | r
        · exact r
        · rcases List.mem_cons.mp ((h b).mpr List.mem_cons_self) with q | q
          · exact q.symm
          · exact absurd (h1 _ q) (tm_asy (g1 _ r))
      subst e
      refine congrArg (a :: ·) (ih h2 g2 fun e => ⟨fun he => ?_, fun he => ?_⟩)
      · rcases List.mem_cons.mp ((h e).mp (List.mem_cons_of_mem _ he)) with r | r
        · exact absurd (h1 _ he) (by rw [r]; exact tm_irr _)
        · exact r
      · rcases List.mem_cons.mp ((h e).mpr (List.mem_cons_of_mem _ he)) with r | r
        · exact absurd (g1 _ he) (by rw [r]; exact tm_irr _)
        · exact r
theorem tm_fl_ins_t {p : Int32 → Bool} {k v : Int32} {l : List tm_E} (s : tm_SO l) (h : p k = true) : tm_fl p (tm_ins k v l) = tm_ins k v (tm_fl p l) := by
  apply tm_ext (tm_so_fl (tm_so_ins s)) (tm_so_ins (tm_so_fl s))
  intro e
  rw [tm_mem_fl, tm_mem_ins s, tm_mem_ins (tm_so_fl s), tm_mem_fl]
  constructor
  · rintro ⟨r | r, g⟩
    · exact Or.inl r
    · exact Or.inr ⟨⟨r.1, g⟩, r.2⟩
  · rintro (r | ⟨r, g⟩)
    · exact ⟨Or.inl r, by rw [r]; exact h⟩
    · exact ⟨Or.inr ⟨r.1, g⟩, r.2⟩
theorem tm_fl_ins_f {p : Int32 → Bool} {k v : Int32} {l : List tm_E} (s : tm_SO l) (h : p k = false) : tm_fl p (tm_ins k v l) = tm_fl p l := by
  apply tm_ext (tm_so_fl (tm_so_ins s)) (tm_so_fl s)
  intro e
  rw [tm_mem_fl, tm_mem_ins s, tm_mem_fl]
  constructor
  · rintro ⟨r | r, g⟩
    · rw [r, h] at g; exact absurd g (by decide)
    · exact ⟨r.1, g⟩
  · rintro ⟨r, g⟩
    exact ⟨Or.inr ⟨r, fun e' => by rw [e', h] at g; exact absurd g (by decide)⟩, g⟩
theorem tm_so_del {k : Int32} {l : List tm_E} (s : tm_SO l) : tm_SO (tm_del k l) := tm_so_fl s
theorem tm_fl_del {p : Int32 → Bool} {k : Int32} {l : List tm_E} : tm_fl p (tm_del k l) = tm_del k (tm_fl p l) := by
  unfold tm_del
  rw [tm_fl_fl, tm_fl_fl]
  exact tm_fl_congr fun e _ => Bool.and_comm _ _
theorem tm_fl_del_f {p : Int32 → Bool} {k : Int32} {l : List tm_E} (h : p k = false) : tm_fl p (tm_del k l) = tm_fl p l := by
  unfold tm_del
  rw [tm_fl_fl]
  refine tm_fl_congr fun e _ => ?_
  by_cases c : e.1 = k
  · rw [c, h]; rfl
  · rw [show decide (e.1 ≠ k) = true from decide_eq_true c, Bool.and_true]
theorem tm_del_none {k : Int32} {l : List tm_E} (h : tm_look k l = none) : tm_del k l = l :=
  tm_fl_all fun e he => decide_eq_true (tm_look_none.mp h e he)
theorem tm_len_del {k w : Int32} {l : List tm_E} (s : tm_SO l) (h : tm_look k l = some w) : (tm_del k l).length + 1 = l.length := by
  induction l with
  | nil => simp [tm_look] at h
  | cons a t ih =>
    have ⟨h1, h2⟩ := tm_so_cons.mp s
    unfold tm_del
    rw [tm_fl_cons]
    unfold tm_look at h
    by_cases c : a.1 = k
    · have d : ¬ (decide (a.1 ≠ k)) = true := by rw [decide_eq_true_iff]; exact fun g => g c
      rw [if_neg d]
      have e : tm_fl (fun x => decide (x ≠ k)) t = t := tm_fl_all fun e he => decide_eq_true (by rw [← c]; exact tm_gne (h1 _ he))
      rw [e]; rfl
    · rw [if_neg c] at h
      have d : (decide (a.1 ≠ k)) = true := decide_eq_true c
      rw [if_pos d, List.length_cons, List.length_cons]
      exact congrArg (· + 1) (ih h2 h)
theorem tm_ins_same {k v : Int32} {l : List tm_E} (s : tm_SO l) (h : tm_look k l = some v) : tm_ins k v l = l := by
  apply tm_ext (tm_so_ins s) s
  intro e
  rw [tm_mem_ins s]
  constructor
  · rintro (r | r)
    · rw [r]; exact tm_look_mem h
    · exact r.1
  · intro he
    by_cases c : e.1 = k
    · exact Or.inl (tm_key_inj s he (tm_look_mem h) c)
    · exact Or.inr ⟨he, c⟩
theorem tm_look_fl {p : Int32 → Bool} {k : Int32} {l : List tm_E} (h : p k = true) : tm_look k (tm_fl p l) = tm_look k l := by
  induction l with
  | nil => rfl
  | cons a t ih =>
    rw [tm_fl_cons]
    by_cases c : p a.1 = true
    · rw [if_pos c]
      unfold tm_look
      rw [ih]
    · rw [if_neg c, ih]
      have : a.1 ≠ k := fun e => c (by rw [e]; exact h)
      conv => rhs; unfold tm_look
      rw [if_neg this]
/-- the place of insertion -/
theorem tm_ins_split {k v : Int32} {P Q : List tm_E} (hP : ∀ e, e ∈ P → e.1 < k) (hQ : ∀ e, e ∈ Q → k < e.1) : tm_ins k v (P ++ Q) = P ++ (k, v) :: Q := by
  induction P with
  | nil =>
    cases Q with
    | nil => rfl
    | cons b t =>
      have hb := hQ b List.mem_cons_self
      show tm_ins k v (b :: t) = _
      unfold tm_ins
      rw [if_neg (tm_asy hb), if_neg (tm_gne hb)]; rfl
  | cons a t ih =>
    show tm_ins k v (a :: (t ++ Q)) = _
    unfold tm_ins
    rw [if_pos (hP a List.mem_cons_self), ih fun e he => hP e (List.mem_cons_of_mem _ he)]; rfl
theorem tm_ins_split_eq {k v w : Int32} {P Q : List tm_E} (hP : ∀ e, e ∈ P → e.1 < k) : tm_ins k v (P ++ (k, w) :: Q) = P ++ (k, v) :: Q := by
  induction P with
  | nil =>
    show tm_ins k v ((k, w) :: Q) = _
    unfold tm_ins
    rw [if_neg (tm_irr k), if_pos rfl]; rfl
  | cons a t ih =>
    show tm_ins k v (a :: (t ++ (k, w) :: Q)) = _
    unfold tm_ins
    rw [if_pos (hP a List.mem_cons_self), ih fun e he => hP e (List.mem_cons_of_mem _ he)]; rfl
theorem tm_del_split {k w : Int32} {P Q : List tm_E} (hP : ∀ e, e ∈ P → e.1 < k) (hQ : ∀ e, e ∈ Q → k < e.1) : tm_del k (P ++ (k, w) :: Q) = P ++ Q := by
  unfold tm_del tm_fl
  rw [List.filter_append, List.filter_cons]
  have e1 : List.filter (fun e : tm_E => decide (e.1 ≠ k)) P = P := List.filter_eq_self.mpr fun e he => decide_eq_true (tm_lne (hP e he))
  have e2 : List.filter (fun e : tm_E => decide (e.1 ≠ k)) Q = Q := List.filter_eq_self.mpr fun e he => decide_eq_true (tm_gne (hQ e he))
  rw [e1, e2]
  simp
end
section
/-! numbers: nodes, narrowing, hashes, digits -/
theorem tm_s16 {x : Int32} (h1 : -32768 ≤ x.toInt) (h2 : x.toInt < 32768) : x.toInt16.toInt32 = x := by
  apply Int32.toInt_inj.mp
  rw [Int16.toInt_toInt32, Int32.toInt_toInt16]
  exact Int.bmod_eq_of_le (by omega) (by omega)
theorem tm_s8 {x : Int32} (h1 : -128 ≤ x.toInt) (h2 : x.toInt < 128) : x.toInt8.toInt32 = x := by
  apply Int32.toInt_inj.mp
  rw [Int8.toInt_toInt32, Int32.toInt_toInt8]
  exact Int.bmod_eq_of_le (by omega) (by omega)
def tm_nd (x : Int32) : Prop := -32768 ≤ x.toInt ∧ x.toInt < 32768
theorem tm_nd_n {n : Nat} (h : n < 32768) : tm_nd (nI n) := by
  unfold tm_nd; rw [nI_toInt (by omega)]; omega
theorem tm_nd_0 : tm_nd 0 := ⟨by decide, by decide⟩
theorem tm_nbT {b : Nat} (h : b < 2 ^ 30) : ((-1 : Int32) - nI b).toInt = -1 - (b : Int) := by
  rw [Int32.toInt_sub, nI_toInt (by omega), show (-1 : Int32).toInt = -1 from by decide]
  exact Int.bmod_eq_of_le (by omega) (by omega)
theorem tm_nd_b {b : Nat} (h : b < 544) : tm_nd (-1 - nI b) := by
  unfold tm_nd; rw [tm_nbT (by omega)]; omega
theorem tm_nar16 {x : Int32} (h : tm_nd x) : vp_nar .short x = x := by
  rw [vp_nar_short, tm_s16 h.1 h.2]
theorem tm_nar16' {x : Int32} (h : tm_nd x) : vp_nar .short x.toInt16.toInt32 = x := by
  rw [tm_s16 h.1 h.2, tm_nar16 h]
theorem tm_nar8 {n : Nat} (h : n < 128) : vp_nar .byte (nI n) = nI n := by
  rw [vp_nar_byte, tm_s8 (by rw [nI_toInt (by omega)]; omega) (by rw [nI_toInt (by omega)]; omega)]
theorem tm_nar8' {n : Nat} (h : n < 128) : vp_nar .byte (nI n).toInt8.toInt32 = nI n := by
  rw [tm_s8 (by rw [nI_toInt (by omega)]; omega) (by rw [nI_toInt (by omega)]; omega), tm_nar8 h]
theorem tm_nb0 : vp_nar .boolean 0 = 0 := rfl
theorem tm_nb1 : vp_nar .boolean 1 = 1 := rfl
theorem tm_by0 : vp_nar .byte 0 = 0 := tm_nar8 (n := 0) (by decide)
theorem tm_by1 : vp_nar .byte 1 = 1 := tm_nar8 (n := 1) (by decide)
theorem tm_by2 : vp_nar .byte 2 = 2 := tm_nar8 (n := 2) (by decide)
theorem tm_sh0 : vp_nar .short 0 = 0 := tm_nar16 tm_nd_0
theorem tm_nb_neg {b : Nat} (h : b < 544) : (-1 : Int32) - nI b < 0 := by
  rw [Int32.lt_iff_toInt_lt, tm_nbT (by omega), show (0 : Int32).toInt = 0 from by decide]; omega
theorem tm_nb_nle {b : Nat} (h : b < 544) : ¬ (0 : Int32) ≤ -1 - nI b := tm_lt_nle (tm_nb_neg h)
theorem tm_nb_le {b : Nat} (h : b < 544) : (-1 : Int32) - nI b ≤ 0 := by
  rw [Int32.le_iff_toInt_le, tm_nbT (by omega), show (0 : Int32).toInt = 0 from by decide]; omega
theorem tm_nb_b {b : Nat} (h : b < 544) : (-1 : Int32) - (-1 - nI b) = nI b := by
  apply Int32.toInt_inj.mp
  rw [Int32.toInt_sub, tm_nbT (by omega), show (-1 : Int32).toInt = -1 from by decide, nI_toInt (by omega)]
  exact (Int.bmod_eq_of_le (by omega) (by omega)).trans (by omega)
theorem tm_nb_inj {b c : Nat} (h : b < 544) (g : c < 544) (e : (-1 : Int32) - nI b = -1 - nI c) : b = c := by
  have e' := congrArg Int32.toInt e
  rw [tm_nbT (by omega), tm_nbT (by omega)] at e'
  omega
theorem tm_nb_n {b j : Nat} (h : b < 544) (g : j < 2 ^ 31) : (-1 : Int32) - nI b ≠ nI j := by
  intro e
  have e' := congrArg Int32.toInt e
  rw [tm_nbT (by omega), nI_toInt g] at e'
  omega
theorem tm_4b (b i : Nat) : (4 : Int32) * nI b + nI i = nI (4 * b + i) := by
  rw [show (4 : Int32) = nI 4 from rfl, pk_mul, nI_add]
theorem tm_4b' {b : Nat} (i : Nat) (h : b < 544) : (4 : Int32) * (-1 - (-1 - nI b)) + nI i = nI (4 * b + i) := by
  rw [tm_nb_b h, tm_4b]
theorem tm_4c {b : Nat} (h : b < 544) : (4 : Int32) * (-1 - (-1 - nI b)) = nI (4 * b) := by
  rw [tm_nb_b h, show (4 : Int32) = nI 4 from rfl, pk_mul]
theorem tm_pos {j : Nat} (h : j < 384) : ¬ nI (j + 1) ≤ 0 := nI_nle (by omega) (by omega)
theorem tm_pred {j : Nat} : nI (j + 1) - 1 = nI j := nI_pred j
theorem tm_in {j N : Nat} (h : j < N) (hN : N < 2 ^ 31 := by omega) : vp_in (nI j) N := vp_in_nI h hN
theorem tm_cl {j : Nat} (h : j < 2 ^ 31 := by omega) : (nI j).toNatClampNeg = j := nI_clamp h
theorem tm_inj {a b : Nat} (ha : a < 2 ^ 31) (hb : b < 2 ^ 31) (e : nI a = nI b) : a = b := (nI_eq ha hb).mp e
def tm_h (sh k : Int32) : Nat := (((k * (-1640531535)).toUInt32 >>> (sh.toUInt32 &&& Int32.toUInt32 31)).toInt32).toBitVec.toNat % 2 ^ 8
theorem tm_h_lt (sh k : Int32) : tm_h sh k < 256 := Nat.mod_lt _ (by decide)
def tm_dg (h v : Nat) : Nat := h / 4 ^ v % 4
theorem tm_dg_lt (h v : Nat) : tm_dg h v < 4 := Nat.mod_lt _ (by decide)
theorem tm_digI {h v : Nat} (hh : h < 256) (hv : v < 4) : (((nI h).toUInt32 >>> ((2 * nI v).toUInt32 &&& Int32.toUInt32 31)).toInt32) &&& 3 = nI (tm_dg h v) := by
  have key : ∀ (s : Int32) (k : Nat), ((s.toUInt32 &&& Int32.toUInt32 31).toBitVec % 32).toNat = k → (((nI h).toUInt32 >>> (s.toUInt32 &&& Int32.toUInt32 31)).toInt32) &&& 3 = nI (h / 2 ^ k % 2 ^ 2) := by
    intro s k hs
    rw [pk_ushrN (by omega) s k hs]
    exact pk_andN (Nat.lt_of_le_of_lt (Nat.div_le_self _ _) (by omega)) 2 (by decide)
  have c : v = 0 ∨ v = 1 ∨ v = 2 ∨ v = 3 := by omega
  rcases c with rfl | rfl | rfl | rfl
  · exact key (2 * nI 0) 0 (by decide)
  · exact key (2 * nI 1) 2 (by decide)
  · exact key (2 * nI 2) 4 (by decide)
  · exact key (2 * nI 3) 6 (by decide)
theorem tm_dig {post : Int32 → Prop} {h v : Nat} (hh : h < 256) (hv : v < 4) (k : post (nI (tm_dg h v))) : wpX_digit post (nI h) (nI v) := by
  unfold wpX_digit
  rw [tm_digI hh hv]
  exact k
section
variable {fl fb sh ld : Int32} {ck : Int64} {lk lv ln ch lm bm fL fB ro sz pa wk wo lK lV op tc en aj aR aK aD sn sA sK sD qK qD qF qL : Nat → Int32} {bg cg : Nat → Int64}
theorem tm_hash {post : Int32 → Prop} {k : Int32} (p : post (nI (tm_h sh k))) : wpX_hash post (fl, fb, sh, ld, ck, lk, lv, ln, ch, lm, bm, fL, fB, ro, sz, pa, wk, wo, lK, lV, op, bg, tc, en, aj, aR, aK, aD, sn, sA, sK, sD, cg, qK, qD, qF, qL) k := by
  unfold wpX_hash
  dsimp only
  rw [pk_and _ 8 (by decide)]
  exact p
end
theorem tm_mods {x c v : Nat} : x % 4 ^ (v + 1) = c % 4 ^ (v + 1) ↔ (x % 4 ^ v = c % 4 ^ v ∧ tm_dg x v = tm_dg c v) := by
  unfold tm_dg
  constructor
  · intro e
    refine ⟨?_, ?_⟩
    · have := congrArg (· % 4 ^ v) e
      simp only [Nat.mod_mod_of_dvd _ (Nat.pow_dvd_pow 4 (Nat.le_succ v))] at this
      exact this
    · have := congrArg (· / 4 ^ v) e
      simp only [Nat.pow_succ, Nat.mod_mul_right_div_self] at this
      exact this
  · rintro ⟨e1, e2⟩
    rw [Nat.mod_pow_succ, Nat.mod_pow_succ, e1, e2]
theorem tm_mods_le {x c v w : Nat} (h : v ≤ w) (e : x % 4 ^ w = c % 4 ^ w) : x % 4 ^ v = c % 4 ^ v := by
  have := congrArg (· % 4 ^ v) e
  simp only [Nat.mod_mod_of_dvd _ (Nat.pow_dvd_pow 4 h)] at this
  exact this
theorem tm_mods_4 {x c : Nat} (hx : x < 256) (hc : c < 256) (e : x % 4 ^ 4 = c % 4 ^ 4) : x = c := by
  rw [Nat.mod_eq_of_lt (by omega), Nat.mod_eq_of_lt (by omega)] at e
  exact e
/-- the first digit, from v on, in which two hashes differ -/
theorem tm_first {x c v : Nat} (hx : x < 256) (hc : c < 256) (n : x ≠ c) (e : x % 4 ^ v = c % 4 ^ v) (hv : v ≤ 4) :
    ∃ w, v ≤ w ∧ w < 4 ∧ tm_dg x w ≠ tm_dg c w ∧ ∀ u, v ≤ u → u < w → tm_dg x u = tm_dg c u := by
  suffices H : ∀ d v, v + d = 4 → x % 4 ^ v = c % 4 ^ v → ∃ w, v ≤ w ∧ w < 4 ∧ tm_dg x w ≠ tm_dg c w ∧ ∀ u, v ≤ u → u < w → tm_dg x u = tm_dg c u from
    H (4 - v) v (by omega) e
  intro d
  induction d with
  | zero =>
    intro v hv e
    have : v = 4 := by omega
    subst this
    exact absurd (tm_mods_4 hx hc e) n
  | succ d ih =>
    intro v hv e
    by_cases g : tm_dg x v = tm_dg c v
    · obtain ⟨w, h1, h2, h3, h4⟩ := ih (v + 1) (by omega) (tm_mods.mpr ⟨e, g⟩)
      refine ⟨w, by omega, h2, h3, fun u hu hw => ?_⟩
      by_cases z : u = v
      · rw [z]; exact g
      · exact h4 u (by omega) hw
    · exact ⟨v, Nat.le_refl _, by omega, g, fun u h1 h2 => by omega⟩
end
section
/-! tries in arrays: S the leaves, T the branches that may be met; h the hash -/
def tm_sub (h : Int32 → Nat) (v i : Nat) (l : List tm_E) : List tm_E := tm_fl (fun k => decide (tm_dg (h k) v = i)) l
def tm_rl (h : Int32 → Nat) (c v : Nat) (l : List tm_E) : List tm_E := tm_fl (fun k => decide (h k % 4 ^ v = c % 4 ^ v)) l
def tm_AH (h : Int32 → Nat) (l : List tm_E) : Prop := ∀ x, x ∈ l → ∀ y, y ∈ l → h x.1 = h y.1
def tm_CH (S : Nat → Prop) (lk lv ln : Nat → Int32) : List tm_E → Int32 → Prop
  | [], n => n = 0
  | e :: l, n => ∃ j : Nat, j < 384 ∧ S j ∧ n = nI (j + 1) ∧ lk j = e.1 ∧ lv j = e.2 ∧ tm_CH S lk lv ln l (ln j)
def tm_R (S T : Nat → Prop) (h : Int32 → Nat) (lk lv ln ch : Nat → Int32) : Nat → List tm_E → Int32 → Prop
  | 0, l, n => tm_AH h l ∧ tm_CH S lk lv ln l n
  | d + 1, l, n => (tm_AH h l ∧ tm_CH S lk lv ln l n) ∨ (¬ tm_AH h l ∧ ∃ b : Nat, b < 544 ∧ T b ∧ n = -1 - nI b ∧ ∀ i, i < 4 → tm_R S T h lk lv ln ch d (tm_sub h (3 - d) i l) (ch (4 * b + i)))
section
variable {S T S' T' : Nat → Prop} {h : Int32 → Nat} {lk lv ln ch lk' lv' ln' ch' : Nat → Int32}
theorem tm_CH_mono {l : List tm_E} {n : Int32} (H : tm_CH S lk lv ln l n) (hS : ∀ j, j < 384 → S j → S' j)
    (hL : ∀ j, j < 384 → S j → lk' j = lk j ∧ lv' j = lv j ∧ ln' j = ln j) : tm_CH S' lk' lv' ln' l n := by
  induction l generalizing n with
  | nil => exact H
  | cons e t ih =>
    obtain ⟨j, h1, h2, h3, h4, h5, h6⟩ := H
    obtain ⟨g1, g2, g3⟩ := hL j h1 h2
    exact ⟨j, h1, hS j h1 h2, h3, g1.trans h4, g2.trans h5, by rw [g3]; exact ih h6⟩
theorem tm_R_mono {d : Nat} {l : List tm_E} {n : Int32} (H : tm_R S T h lk lv ln ch d l n) (hS : ∀ j, j < 384 → S j → S' j) (hT : ∀ b, b < 544 → T b → T' b)
    (hL : ∀ j, j < 384 → S j → lk' j = lk j ∧ lv' j = lv j ∧ ln' j = ln j)
    (hB : ∀ b, b < 544 → T b → ∀ i, i < 4 → ch' (4 * b + i) = ch (4 * b + i)) : tm_R S' T' h lk' lv' ln' ch' d l n := by
  induction d generalizing l n with
  | zero => exact ⟨H.1, tm_CH_mono H.2 hS hL⟩
  | succ d ih =>
    rcases H with H | ⟨H0, b, h1, h2, h3, h4⟩
    · exact Or.inl ⟨H.1, tm_CH_mono H.2 hS hL⟩
    · exact Or.inr ⟨H0, b, h1, hT b h1 h2, h3, fun i hi => by rw [hB b h1 h2 i hi]; exact ih (h4 i hi)⟩
theorem tm_R_ch {d : Nat} {l : List tm_E} {n : Int32} (a : tm_AH h l) (c : tm_CH S lk lv ln l n) : tm_R S T h lk lv ln ch d l n := by
  cases d with
  | zero => exact ⟨a, c⟩
  | succ d => exact Or.inl ⟨a, c⟩
theorem tm_R_nil {d : Nat} : tm_R S T h lk lv ln ch d [] 0 := tm_R_ch (fun x hx => absurd hx List.not_mem_nil) rfl
theorem tm_CH_s {l : List tm_E} {n : Int32} (H : tm_CH S lk lv ln l n) : (n = 0 ∧ l = []) ∨ (∃ j e t, l = e :: t ∧ j < 384 ∧ S j ∧ n = nI (j + 1) ∧ lk j = e.1 ∧ lv j = e.2 ∧ tm_CH S lk lv ln t (ln j)) := by
  cases l with
  | nil => exact Or.inl ⟨H, rfl⟩
  | cons e t =>
    obtain ⟨j, h1⟩ := H
    exact Or.inr ⟨j, e, t, rfl, h1⟩
theorem tm_CH_nn {l : List tm_E} {n : Int32} (H : tm_CH S lk lv ln l n) : 0 ≤ n := by
  rcases tm_CH_s H with ⟨r, _⟩ | ⟨j, e, t, _, h1, _, r, _⟩
  · rw [r]; decide
  · rw [r]; exact nI_pos' (by omega)
theorem tm_CH_nd {l : List tm_E} {n : Int32} (H : tm_CH S lk lv ln l n) : tm_nd n := by
  rcases tm_CH_s H with ⟨r, _⟩ | ⟨j, e, t, _, h1, _, r, _⟩
  · rw [r]; exact tm_nd_0
  · rw [r]; exact tm_nd_n (by omega)
theorem tm_R_s {d : Nat} {l : List tm_E} {n : Int32} (H : tm_R S T h lk lv ln ch d l n) :
    (tm_AH h l ∧ tm_CH S lk lv ln l n) ∨ (∃ e b, d = e + 1 ∧ ¬ tm_AH h l ∧ b < 544 ∧ T b ∧ n = -1 - nI b ∧ ∀ i, i < 4 → tm_R S T h lk lv ln ch e (tm_sub h (3 - e) i l) (ch (4 * b + i))) := by
  cases d with
  | zero => exact Or.inl H
  | succ d =>
    rcases H with H | ⟨H0, b, h1, h2, h3, h4⟩
    · exact Or.inl H
    · exact Or.inr ⟨d, b, rfl, H0, h1, h2, h3, h4⟩
theorem tm_R_nd {d : Nat} {l : List tm_E} {n : Int32} (H : tm_R S T h lk lv ln ch d l n) : tm_nd n := by
  rcases tm_R_s H with H | ⟨e, b, _, _, h1, _, r, _⟩
  · exact tm_CH_nd H.2
  · rw [r]; exact tm_nd_b h1
theorem tm_R_nn {d : Nat} {l : List tm_E} {n : Int32} (H : tm_R S T h lk lv ln ch d l n) (g : 0 ≤ n) : tm_AH h l ∧ tm_CH S lk lv ln l n := by
  rcases tm_R_s H with H | ⟨e, b, _, _, h1, _, r, _⟩
  · exact H
  · rw [r] at g; exact absurd g (tm_nb_nle h1)
theorem tm_R_ng {d : Nat} {l : List tm_E} {n : Int32} (H : tm_R S T h lk lv ln ch d l n) (g : ¬ 0 ≤ n) :
    ∃ e b, d = e + 1 ∧ ¬ tm_AH h l ∧ b < 544 ∧ T b ∧ n = -1 - nI b ∧ ∀ i, i < 4 → tm_R S T h lk lv ln ch e (tm_sub h (3 - e) i l) (ch (4 * b + i)) := by
  rcases tm_R_s H with H | H
  · exact absurd (tm_CH_nn H.2) g
  · exact H
theorem tm_R_br {d b : Nat} {l : List tm_E} (a : ¬ tm_AH h l) (h1 : b < 544) (h2 : T b) (h4 : ∀ i, i < 4 → tm_R S T h lk lv ln ch d (tm_sub h (3 - d) i l) (ch (4 * b + i))) :
    tm_R S T h lk lv ln ch (d + 1) l (-1 - nI b) := Or.inr ⟨a, b, h1, h2, rfl, h4⟩
theorem tm_AH_fl {p : Int32 → Bool} {l : List tm_E} (a : tm_AH h l) : tm_AH h (tm_fl p l) :=
  fun x hx y hy => a x (tm_mem_fl.mp hx).1 y (tm_mem_fl.mp hy).1
theorem tm_mem_sub {v i : Nat} {l : List tm_E} {e : tm_E} : e ∈ tm_sub h v i l ↔ e ∈ l ∧ tm_dg (h e.1) v = i := by
  unfold tm_sub; rw [tm_mem_fl, decide_eq_true_iff]
theorem tm_mem_rl {c v : Nat} {l : List tm_E} {e : tm_E} : e ∈ tm_rl h c v l ↔ e ∈ l ∧ h e.1 % 4 ^ v = c % 4 ^ v := by
  unfold tm_rl; rw [tm_mem_fl, decide_eq_true_iff]
theorem tm_so_sub {v i : Nat} {l : List tm_E} (s : tm_SO l) : tm_SO (tm_sub h v i l) := tm_so_fl s
theorem tm_so_rl {c v : Nat} {l : List tm_E} (s : tm_SO l) : tm_SO (tm_rl h c v l) := tm_so_fl s
theorem tm_rl_0 {c : Nat} {l : List tm_E} : tm_rl h c 0 l = l := tm_fl_all fun e _ => decide_eq_true (by rw [Nat.pow_zero, Nat.mod_one, Nat.mod_one])
theorem tm_rl_s {c v : Nat} {l : List tm_E} : tm_sub h v (tm_dg c v) (tm_rl h c v l) = tm_rl h c (v + 1) l := by
  unfold tm_sub tm_rl
  rw [tm_fl_fl]
  refine tm_fl_congr fun e _ => ?_
  rw [Bool.eq_iff_iff, Bool.and_eq_true, decide_eq_true_iff, decide_eq_true_iff, decide_eq_true_iff, tm_mods]
  exact And.comm
theorem tm_sub_ext {v : Nat} {l l' : List tm_E} (s : tm_SO l) (s' : tm_SO l') (g : ∀ i, i < 4 → tm_sub h v i l = tm_sub h v i l') : l = l' := by
  refine tm_ext s s' fun e => ⟨fun he => ?_, fun he => ?_⟩
  · have := (tm_mem_sub (h := h) (v := v)).mpr ⟨he, rfl⟩
    rw [g _ (tm_dg_lt _ _)] at this
    exact (tm_mem_sub.mp this).1
  · have := (tm_mem_sub (h := h) (v := v)).mpr ⟨he, rfl⟩
    rw [← g _ (tm_dg_lt _ _)] at this
    exact (tm_mem_sub.mp this).1
theorem tm_CH_fun {l l' : List tm_E} {n : Int32} (H : tm_CH S lk lv ln l n) (H' : tm_CH S lk lv ln l' n) : l = l' := by
  induction l generalizing l' n with
  | nil =>
    cases l' with
    | nil => rfl
    | cons e t =>
      obtain ⟨j, h1, _, h3, _⟩ := H'
      exact absurd (h3.symm.trans H) (nI_ne0 (by omega) (by omega))
  | cons e t ih =>
    obtain ⟨j, h1, h2, h3, h4, h5, h6⟩ := H
    cases l' with
    | nil => exact absurd (h3.symm.trans H') (nI_ne0 (by omega) (by omega))
    | cons e' t' =>
      obtain ⟨i, g1, g2, g3, g4, g5, g6⟩ := H'
      have q : j + 1 = i + 1 := tm_inj (by omega) (by omega) (h3.symm.trans g3)
      have q' : j = i := by omega
      subst q'
      rw [ih h6 g6, Prod.ext (h4.symm.trans g4) (h5.symm.trans g5)]
theorem tm_R_fun {d : Nat} {l l' : List tm_E} {n : Int32} (s : tm_SO l) (s' : tm_SO l') (H : tm_R S T h lk lv ln ch d l n) (H' : tm_R S T h lk lv ln ch d l' n) : l = l' := by
  induction d generalizing l l' n with
  | zero => exact tm_CH_fun H.2 H'.2
  | succ d ih =>
    rcases H with H | ⟨H0, b, h1, h2, h3, h4⟩
    · have g := tm_R_nn (d := d + 1) (l := l') H' (tm_CH_nn H.2)
      exact tm_CH_fun H.2 g.2
    · rcases H' with H' | ⟨H0', b', g1, g2, g3, g4⟩
      · exact absurd (tm_CH_nn H'.2) (by rw [h3]; exact tm_nb_nle h1)
      · have e : b = b' := tm_nb_inj h1 g1 (h3.symm.trans g3)
        subst e
        exact tm_sub_ext (h := h) (v := 3 - d) s s' fun i hi => ih (tm_so_sub s) (tm_so_sub s') (h4 i hi) (g4 i hi)
/-- what is in two parts has two hashes -/
theorem tm_nAH_2 {v i j : Nat} {l : List tm_E} {x y : tm_E} (n : i ≠ j) (hx : x ∈ tm_sub h v i l) (hy : y ∈ tm_sub h v j l) : ¬ tm_AH h l := by
  intro a
  have ⟨x1, x2⟩ := tm_mem_sub.mp hx
  have ⟨y1, y2⟩ := tm_mem_sub.mp hy
  have := a x x1 y y1
  rw [this] at x2
  exact n (x2.symm.trans y2)
theorem tm_nAH_sub {v i : Nat} {l : List tm_E} (n : ¬ tm_AH h (tm_sub h v i l)) : ¬ tm_AH h l := fun a => n (tm_AH_fl a)
theorem tm_sub_one {v i : Nat} {l : List tm_E} (n : ∀ j, j < 4 → j ≠ i → tm_sub h v j l = []) : tm_sub h v i l = l := by
  refine tm_fl_all fun e he => decide_eq_true ?_
  by_cases c : tm_dg (h e.1) v = i
  · exact c
  · have g := n _ (tm_dg_lt _ _) c
    have : e ∈ tm_sub h v (tm_dg (h e.1) v) l := tm_mem_sub.mpr ⟨he, rfl⟩
    rw [g] at this
    exact absurd this List.not_mem_nil
theorem tm_sub_len {v : Nat} {l : List tm_E} : (tm_sub h v 0 l).length + (tm_sub h v 1 l).length + (tm_sub h v 2 l).length + (tm_sub h v 3 l).length = l.length := by
  induction l with
  | nil => rfl
  | cons e t ih =>
    unfold tm_sub at ih ⊢
    have c := tm_dg_lt (h e.1) v
    simp only [tm_fl_cons, decide_eq_true_eq, List.length_cons]
    have q : tm_dg (h e.1) v = 0 ∨ tm_dg (h e.1) v = 1 ∨ tm_dg (h e.1) v = 2 ∨ tm_dg (h e.1) v = 3 := by omega
    rcases q with q | q | q | q <;> rw [q] <;> simp <;> omega
theorem tm_nAH_len {l : List tm_E} (n : ¬ tm_AH h l) : 2 ≤ l.length := by
  cases l with
  | nil => exact absurd (fun x hx => absurd hx List.not_mem_nil) n
  | cons a t =>
    cases t with
    | nil =>
      refine absurd (fun x hx y hy => ?_) n
      rw [List.mem_singleton.mp hx, List.mem_singleton.mp hy]
    | cons b t => simp
noncomputable def tm_bc (h : Int32 → Nat) : Nat → List tm_E → Nat
  | 0, _ => 0
  | d + 1, l => @ite Nat (tm_AH h l) (Classical.propDecidable _) 0 (1 + (tm_bc h d (tm_sub h (3 - d) 0 l) + tm_bc h d (tm_sub h (3 - d) 1 l) + tm_bc h d (tm_sub h (3 - d) 2 l) + tm_bc h d (tm_sub h (3 - d) 3 l)))
theorem tm_bc_a {d : Nat} {l : List tm_E} (a : tm_AH h l) : tm_bc h d l = 0 := by
  cases d with
  | zero => rfl
  | succ d => exact if_pos a
theorem tm_bc_n {d : Nat} {l : List tm_E} (a : ¬ tm_AH h l) : tm_bc h (d + 1) l = 1 + (tm_bc h d (tm_sub h (3 - d) 0 l) + tm_bc h d (tm_sub h (3 - d) 1 l) + tm_bc h d (tm_sub h (3 - d) 2 l) + tm_bc h d (tm_sub h (3 - d) 3 l)) := if_neg a
theorem tm_bc_1 (l : List tm_E) : tm_bc h 1 l ≤ l.length / 2 := by
  by_cases a : tm_AH h l
  · rw [tm_bc_a a]; omega
  · rw [tm_bc_n a]
    have := tm_nAH_len a
    show 1 + (0 + 0 + 0 + 0) ≤ _
    omega
theorem tm_bc_2 (l : List tm_E) : tm_bc h 2 l ≤ 2 * (l.length / 2) := by
  by_cases a : tm_AH h l
  · rw [tm_bc_a a]; omega
  · rw [tm_bc_n a]
    have := tm_nAH_len a
    have e := tm_sub_len (h := h) (v := 3 - 1) (l := l)
    have b0 := tm_bc_1 (h := h) (tm_sub h (3 - 1) 0 l)
    have b1 := tm_bc_1 (h := h) (tm_sub h (3 - 1) 1 l)
    have b2 := tm_bc_1 (h := h) (tm_sub h (3 - 1) 2 l)
    have b3 := tm_bc_1 (h := h) (tm_sub h (3 - 1) 3 l)
    omega
theorem tm_bc_3 (l : List tm_E) : tm_bc h 3 l ≤ 1 + 2 * (l.length / 2) := by
  by_cases a : tm_AH h l
  · rw [tm_bc_a a]; omega
  · rw [tm_bc_n a]
    have e := tm_sub_len (h := h) (v := 3 - 2) (l := l)
    have b0 := tm_bc_2 (h := h) (tm_sub h (3 - 2) 0 l)
    have b1 := tm_bc_2 (h := h) (tm_sub h (3 - 2) 1 l)
    have b2 := tm_bc_2 (h := h) (tm_sub h (3 - 2) 2 l)
    have b3 := tm_bc_2 (h := h) (tm_sub h (3 - 2) 3 l)
    omega
theorem tm_bc_4 {l : List tm_E} (c : l.length ≤ 10) : tm_bc h 4 l ≤ 15 := by
  by_cases a : tm_AH h l
  · rw [tm_bc_a a]; omega
  · rw [tm_bc_n a]
    have e := tm_sub_len (h := h) (v := 3 - 3) (l := l)
    have b0 := tm_bc_3 (h := h) (tm_sub h (3 - 3) 0 l)
    have b1 := tm_bc_3 (h := h) (tm_sub h (3 - 3) 1 l)
    have b2 := tm_bc_3 (h := h) (tm_sub h (3 - 3) 2 l)
    have b3 := tm_bc_3 (h := h) (tm_sub h (3 - 3) 3 l)
    omega
/-- the step down the path -/
theorem tm_R_step {d b c : Nat} {l : List tm_E} (hd : d < 4) (h4 : ∀ i, i < 4 → tm_R S T h lk lv ln ch d (tm_sub h (3 - d) i (tm_rl h c (3 - d) l)) (ch (4 * b + i))) :
    tm_R S T h lk lv ln ch d (tm_rl h c (4 - d) l) (ch (4 * b + tm_dg c (3 - d))) := by
  have := h4 (tm_dg c (3 - d)) (tm_dg_lt _ _)
  rw [tm_rl_s] at this
  rw [show 4 - d = 3 - d + 1 by omega]
  exact this
theorem tm_look_rl {v : Nat} {k : Int32} {l : List tm_E} : tm_look k (tm_rl h (h k) v l) = tm_look k l := tm_look_fl (decide_eq_true rfl)
end
end
section
/-! reading: chainOf, find -/
section
variable {fl fb sh ld : Int32} {ck : Int64} {lk lv ln ch lm bm fL fB ro sz pa wk wo lK lV op tc en aj aR aK aD sn sA sK sD qK qD qF qL : Nat → Int32} {bg cg : Nat → Int64}
variable {S T : Nat → Prop}
theorem tm_chainOf5 {post : Int32 → Prop} {l : List tm_E} {c : Nat} (hc : c < 256)
    (hp : ∀ n v, v ≤ 4 → tm_AH (tm_h sh) (tm_rl (tm_h sh) c v l) → tm_CH S lk lv ln (tm_rl (tm_h sh) c v l) n → post n) :
    ∀ (d : Nat) (n : Int32), d ≤ 4 → tm_R S T (tm_h sh) lk lv ln ch d (tm_rl (tm_h sh) c (4 - d) l) n → wX_chainOf_5 post (nI c) fl fb sh ld ck lk lv ln ch lm bm fL fB ro sz pa wk wo lK lV op bg tc en aj aR aK aD sn sA sK sD cg qK qD qF qL (d + 1) n (nI (4 - d)) := by
  intro d
  induction d with
  | zero => intro n hd H; exact br_t (tm_CH_nn H.2) (hp n 4 (by omega) H.1 H.2)
  | succ d ih =>
    intro n hd H
    by_cases g : 0 ≤ n
    · have q := tm_R_nn H g
      exact br_t g (hp n _ (by omega) q.1 q.2)
    · obtain ⟨e, b, he, a, h1, h2, h3, h4⟩ := tm_R_ng H g
      obtain rfl : d = e := by omega
      subst h3
      have ed := tm_dg_lt c (4 - (d + 1))
      refine br_f g (nm_r (e' := nI (4 - d)) ?_ (tm_dig hc (by omega) ?_))
      · rw [nI_1]; exact congrArg nI (by omega)
      · rw [tm_4b' _ h1]
        refine ⟨tm_in (by omega), nm_r (congrArg ch tm_cl) (ih _ (by omega) ?_)⟩
        have e3 : 4 - (d + 1) = 3 - d := by omega
        rw [e3] at h4 ⊢
        exact tm_R_step (by omega) h4
theorem tm_find14 {post : Int32 → Prop} {k : Int32} {q : List tm_E} {n : Int32} (s : tm_SO q) (H : tm_CH S lk lv ln q n)
    (hp : ∀ r, ((r = -1 ∧ tm_look k q = none) ∨ (∃ j, j < 384 ∧ r = nI j ∧ tm_look k q = some (lv j))) → post r) :
    ∀ m, q.length < m → wX_find_14 post k fl fb sh ld ck lk lv ln ch lm bm fL fB ro sz pa wk wo lK lV op bg tc en aj aR aK aD sn sA sK sD cg qK qD qF qL m n := by
  induction q generalizing n with
  | nil =>
    intro m hm
    obtain ⟨m, rfl⟩ : ∃ m', m = m' + 1 := ⟨m - 1, by omega⟩
    have e : n ≤ 0 := by rw [show n = 0 from H]; decide
    exact br_t e (br_t e (hp _ (Or.inl ⟨rfl, rfl⟩)))
  | cons e t ih =>
    intro m hm
    rw [List.length_cons] at hm
    obtain ⟨m, rfl⟩ : ∃ m', m = m' + 1 := ⟨m - 1, by omega⟩
    obtain ⟨j, h1, h2, h3, h4, h5, h6⟩ := H
    have ⟨s1, s2⟩ := tm_so_cons.mp s
    subst h3
    have e1 : (nI (j + 1) - 1).toNatClampNeg = j := by rw [tm_pred]; exact tm_cl
    have e2 : vp_in (nI (j + 1) - 1) 384 := by rw [tm_pred]; exact tm_in h1
    have e3 : lk (nI (j + 1) - 1).toNatClampNeg = e.1 := by rw [e1]; exact h4
    refine br_f (tm_pos h1) ⟨e2, ?_⟩
    by_cases c : k ≤ e.1
    · refine br_t (by rw [e3]; exact c) (br_f (tm_pos h1) ⟨e2, ?_⟩)
      by_cases c2 : e.1 = k
      · refine br_t (e3.trans c2) (hp _ (Or.inr ⟨j, h1, tm_pred, ?_⟩))
        unfold tm_look; rw [if_pos c2, h5]
      · refine br_f (by rw [e3]; exact c2) (hp _ (Or.inl ⟨rfl, tm_look_none.mpr fun x hx => ?_⟩))
        rcases List.mem_cons.mp hx with r | r
        · rw [r]; exact c2
        · have := tm_gt (tm_le_nlt c) c2
          exact tm_gne (tm_ltt this (s1 x r))
    · have c2 : e.1 ≠ k := tm_lne (tm_nle_lt c)
      have el : tm_look k (e :: t) = tm_look k t := by
        conv => lhs; unfold tm_look
        rw [if_neg c2]
      refine br_f (by rw [e3]; exact c) ⟨e2, nm_r (congrArg ln e1) (ih s2 h6 (fun r hr => hp r ?_) m (by omega))⟩
      rw [el]; exact hr
theorem tm_find {post : Int32 → Prop} {k : Int32} {l : List tm_E} {n : Int32} (s : tm_SO l) (H : tm_R S T (tm_h sh) lk lv ln ch 4 l n)
    (hp : ∀ r, ((r = -1 ∧ tm_look k l = none) ∨ (∃ j, j < 384 ∧ r = nI j ∧ tm_look k l = some (lv j))) → post r) : wpX_find post (fl, fb, sh, ld, ck, lk, lv, ln, ch, lm, bm, fL, fB, ro, sz, pa, wk, wo, lK, lV, op, bg, tc, en, aj, aR, aK, aD, sn, sA, sK, sD, cg, qK, qD, qF, qL) n k := by
  unfold wpX_find
  refine tm_hash (post := fun r_1 => _) ?_
  unfold wpX_chainOf
  refine ⟨5, tm_chainOf5 (S := S) (T := T) (l := l) (tm_h_lt _ _) ?_ 4 n (by omega) ?_⟩
  · intro c v hv a C
    refine ⟨_, tm_find14 (tm_so_rl s) C (fun r hr => hp r ?_) _ (Nat.lt_succ_self _)⟩
    rw [tm_look_rl] at hr
    exact hr
  · rw [show 4 - 4 = 0 from rfl, tm_rl_0]
    exact H
end
end
section
/-! listing: listEntry, list -/
def tm_LA (lK lV : Nat → Int32) (q : List tm_E) : Prop := ∀ i e, q[i]? = some e → lK i = e.1 ∧ lV i = e.2
theorem tm_LA_nil {lK lV : Nat → Int32} : tm_LA lK lV [] := fun i e h => by simp at h
theorem tm_split_last : ∀ (P : List tm_E) (p : Nat), P.length = p + 1 → ∃ P' x, P = P' ++ [x] ∧ P'.length = p := by
  intro P p h
  rcases List.eq_nil_or_concat P with r | ⟨P', x, r⟩
  · rw [r] at h; simp at h
  · refine ⟨P', x, by rw [r, List.concat_eq_append], ?_⟩
    rw [r, List.length_concat] at h; omega
theorem tm_get_mid {P Q : List tm_E} {x e : tm_E} {i : Nat} (h : (P ++ x :: Q)[i]? = some e) : (i < P.length ∧ P[i]? = some e) ∨ (i = P.length ∧ e = x) ∨ (∃ t, i = P.length + 1 + t ∧ Q[t]? = some e) := by
  by_cases c : i < P.length
  · rw [List.getElem?_append_left c] at h
    exact Or.inl ⟨c, h⟩
  · rw [List.getElem?_append_right (by omega)] at h
    by_cases z : i = P.length
    · rw [z, Nat.sub_self, List.getElem?_cons_zero] at h
      exact Or.inr (Or.inl ⟨z, (Option.some.inj h).symm⟩)
    · obtain ⟨t, rfl⟩ : ∃ t, i = P.length + 1 + t := ⟨i - (P.length + 1), by omega⟩
      rw [show P.length + 1 + t - P.length = t + 1 by omega, List.getElem?_cons_succ] at h
      exact Or.inr (Or.inr ⟨t, rfl, h⟩)
theorem tm_get_mid_x {P Q : List tm_E} {x : tm_E} : (P ++ x :: Q)[P.length]? = some x := by
  rw [List.getElem?_append_right (Nat.le_refl _), Nat.sub_self]; rfl
section
variable {fl fb sh ld : Int32} {ck : Int64} {lk lv ln ch lm bm fL fB ro sz pa wk wo lK lV op tc en aj aR aK aD sn sA sK sD qK qD qF qL : Nat → Int32} {bg cg : Nat → Int64}
theorem tm_le65 {post : SX → Prop} {j p : Nat} (hj : j < 384) (hp : p < 10) (K : post (fl, fb, sh, ld, ck, lk, lv, ln, ch, lm, bm, fL, fB, ro, sz, pa, wk, wo, upd lK p (lk j), upd lV p (lv j), op, bg, tc, en, aj, aR, aK, aD, sn, sA, sK, sD, cg, qK, qD, qF, qL)) : wX_listEntry_65 post (nI j) (nI p) fl fb sh ld ck lk lv ln ch lm bm fL fB ro sz pa wk wo lK lV op bg tc en aj aR aK aD sn sA sK sD cg qK qD qF qL := by
  refine ⟨tm_in hj, tm_in hp, nm_r (e' := upd lK p (lk j)) (by rw [nI_clamp (by omega), nI_clamp (by omega)]) ⟨tm_in hj, tm_in hp, nm_r (e' := upd lV p (lv j)) (by rw [nI_clamp (by omega), nI_clamp (by omega)]) K⟩⟩
theorem tm_le12 {post : SX → Prop} {j : Nat} (hj : j < 384) : ∀ (p : Nat) (P Q : List tm_E) (lK lV : Nat → Int32), P.length = p → P.length + Q.length < 10 → tm_SO P →
    (∀ e, e ∈ P → e.1 ≠ lk j) → (∀ e, e ∈ Q → lk j < e.1) → tm_LA lK lV P →
    (∀ i e, Q[i]? = some e → lK (P.length + 1 + i) = e.1 ∧ lV (P.length + 1 + i) = e.2) →
    (∀ lK' lV', tm_LA lK' lV' (tm_ins (lk j) (lv j) (P ++ Q)) → post (fl, fb, sh, ld, ck, lk, lv, ln, ch, lm, bm, fL, fB, ro, sz, pa, wk, wo, lK', lV', op, bg, tc, en, aj, aR, aK, aD, sn, sA, sK, sD, cg, qK, qD, qF, qL)) → ∀ m, p < m → wX_listEntry_12 post (nI j) fl fb sh ld ck m (nI p) lk lv ln ch lm bm fL fB ro sz pa wk wo lK lV op bg tc en aj aR aK aD sn sA sK sD cg qK qD qF qL := by
  intro p
  induction p with
  | zero =>
    intro P Q lK lV hP hn s hne hQ A1 A2 K m hm
    obtain ⟨m, rfl⟩ : ∃ m', m = m' + 1 := ⟨m - 1, by omega⟩
    have : P = [] := List.length_eq_zero_iff.mp hP
    subst this
    refine br_t (by decide) (tm_le65 hj (by omega) (K _ _ ?_))
    rw [tm_ins_split (fun e he => absurd he List.not_mem_nil) hQ]
    intro i e he
    rcases tm_get_mid he with ⟨c, _⟩ | ⟨c, r⟩ | ⟨t, c, r⟩
    · simp at c
    · rw [c, r]; exact ⟨pk_us, pk_us⟩
    · have := A2 t e r
      rw [← c] at this
      rw [pk_un (by simp at c; omega), pk_un (by simp at c; omega)]
      exact this
  | succ p ih =>
    intro P Q lK lV hP hn s hne hQ A1 A2 K m hm
    obtain ⟨m, rfl⟩ : ∃ m', m = m' + 1 := ⟨m - 1, by omega⟩
    obtain ⟨P', x, rfl, hP'⟩ := tm_split_last P p hP
    have hx := A1 p x (by rw [← hP']; exact tm_get_mid_x)
    have e0 : nI (p + 1) - 1 = nI p := nI_pred p
    have hp9 : p + 1 < 10 := by rw [hP] at hn; omega
    have ecl : (nI (p + 1) - 1).toNatClampNeg = p := by rw [e0]; exact nI_clamp (by omega)
    have ein : vp_in (nI (p + 1) - 1) 10 := by rw [e0]; exact tm_in (by omega)
    have eK : lK (nI (p + 1) - 1).toNatClampNeg = x.1 := by rw [ecl]; exact hx.1
    have eL : lk (nI j).toNatClampNeg = lk j := by rw [nI_clamp (by omega)]
    refine br_f (nI_nle (by omega) (by omega)) ⟨ein, tm_in hj, ?_⟩
    rw [eK, eL]
    by_cases c : x.1 ≤ lk j
    · refine br_t c (tm_le65 hj hp9 (K _ _ ?_))
      have c' : x.1 < lk j := tm_gt (fun z => (tm_lt_nle z) c) (Ne.symm (hne x (by simp)))
      have hlt : ∀ e, e ∈ P' ++ [x] → e.1 < lk j := by
        intro e he
        rcases List.mem_append.mp he with r | r
        · exact tm_ltt ((List.pairwise_append.mp s).2.2 e r x (by simp)) c'
        · rw [List.mem_singleton.mp r]; exact c'
      rw [tm_ins_split hlt hQ]
      intro i e he
      rcases tm_get_mid he with ⟨c, r⟩ | ⟨c, r⟩ | ⟨t, c, r⟩
      · rw [hP] at c
        rw [pk_un (by omega), pk_un (by omega)]
        exact A1 i e r
      · rw [hP] at c
        rw [c, r]; exact ⟨pk_us, pk_us⟩
      · have := A2 t e r
        rw [← c] at this
        rw [hP] at c
        rw [pk_un (by omega), pk_un (by omega)]
        exact this
    · have eq1 : upd lK (nI (p + 1)).toNatClampNeg x.1 = upd lK (p + 1) x.1 := by rw [nI_clamp (by omega)]
      have eq2 : upd lV (nI (p + 1)).toNatClampNeg (lV (nI p).toNatClampNeg) = upd lV (p + 1) x.2 := by rw [nI_clamp (by omega), nI_clamp (by omega), hx.2]
      refine br_f c ⟨ein, tm_in hp9, nm_r eq1 (nm_r (pk_m1 p) ⟨tm_in (by omega), tm_in hp9, nm_r eq2 ?_⟩)⟩
      refine ih P' (x :: Q) _ _ hP' ?_ ?_ ?_ ?_ ?_ ?_ ?_ m (by omega)
      · rw [List.length_append, List.length_singleton] at hn; rw [List.length_cons]; omega
      · exact (List.pairwise_append.mp s).1
      · exact fun e he => hne e (List.mem_append_left _ he)
      · intro e he
        rcases List.mem_cons.mp he with r | r
        · rw [r]; exact tm_nle_lt c
        · exact hQ e r
      · intro i e he
        have hi : i < P'.length := by
          have := List.getElem?_eq_some_iff.mp he
          exact this.1
        rw [pk_un (by omega), pk_un (by omega)]
        exact A1 i e (by rw [List.getElem?_append_left hi]; exact he)
      · intro i e he
        rw [hP'] at *
        cases i with
        | zero =>
          rw [List.getElem?_cons_zero] at he
          rw [Nat.add_zero, ← Option.some.inj he]
          exact ⟨pk_us, pk_us⟩
        | succ i =>
          rw [List.getElem?_cons_succ] at he
          have := A2 i e he
          rw [hP] at this
          rw [pk_un (by omega), pk_un (by omega), show p + 1 + (i + 1) = p + 1 + 1 + i by omega]
          exact this
      · rw [List.append_assoc] at K
        exact K
theorem tm_listEntry {post : SX → Prop} {q : List tm_E} {j : Nat} (s : tm_SO q) (hl : ld = nI q.length) (hq : q.length < 10) (A : tm_LA lK lV q) (hj : j < 384)
    (hn : tm_look (lk j) q = none) (K : ∀ lK' lV', tm_LA lK' lV' (tm_ins (lk j) (lv j) q) → post (fl, fb, sh, nI (q.length + 1), ck, lk, lv, ln, ch, lm, bm, fL, fB, ro, sz, pa, wk, wo, lK', lV', op, bg, tc, en, aj, aR, aK, aD, sn, sA, sK, sD, cg, qK, qD, qF, qL)) : wpX_listEntry post (fl, fb, sh, ld, ck, lk, lv, ln, ch, lm, bm, fL, fB, ro, sz, pa, wk, wo, lK, lV, op, bg, tc, en, aj, aR, aK, aD, sn, sA, sK, sD, cg, qK, qD, qF, qL) (nI j) := by
  subst hl
  unfold wpX_listEntry
  refine nm_r (nI_1 _) ⟨q.length + 1, ?_⟩
  refine tm_le12 hj q.length q [] lK lV rfl (by simp; omega) s (fun e he => tm_look_none.mp hn e he) (fun e he => absurd he List.not_mem_nil) A (fun i e he => by simp at he) ?_ _ (Nat.lt_succ_self _)
  rw [List.append_nil]
  exact K
end
theorem tm_ins_perm {k v : Int32} {l : List tm_E} (h : tm_look k l = none) : List.Perm (tm_ins k v l) ((k, v) :: l) := by
  induction l with
  | nil => exact List.Perm.refl _
  | cons a t ih =>
    have c2 : a.1 ≠ k := tm_look_none.mp h a List.mem_cons_self
    have ht : tm_look k t = none := tm_look_none.mpr fun e he => tm_look_none.mp h e (List.mem_cons_of_mem _ he)
    unfold tm_ins
    by_cases c1 : a.1 < k
    · rw [if_pos c1]
      exact (List.Perm.cons a (ih ht)).trans (List.Perm.swap _ _ _)
    · rw [if_neg c1, if_neg c2]
theorem tm_sub_perm {h : Int32 → Nat} {v : Nat} (q : List tm_E) : List.Perm (tm_sub h v 3 q ++ (tm_sub h v 2 q ++ (tm_sub h v 1 q ++ tm_sub h v 0 q))) q := by
  induction q with
  | nil => exact List.Perm.refl _
  | cons e t ih =>
    have hs : ∀ i, tm_sub h v i (e :: t) = if tm_dg (h e.1) v = i then e :: tm_sub h v i t else tm_sub h v i t := by
      intro i
      unfold tm_sub
      rw [tm_fl_cons]
      by_cases c : tm_dg (h e.1) v = i
      · rw [if_pos c, if_pos (decide_eq_true c)]
      · rw [if_neg c, if_neg (by rw [decide_eq_true_iff]; exact c)]
    have c := tm_dg_lt (h e.1) v
    have q : tm_dg (h e.1) v = 0 ∨ tm_dg (h e.1) v = 1 ∨ tm_dg (h e.1) v = 2 ∨ tm_dg (h e.1) v = 3 := by omega
    rw [hs 0, hs 1, hs 2, hs 3]
    rcases q with q | q | q | q
    · rw [q, if_pos rfl, if_neg (by decide), if_neg (by decide), if_neg (by decide), ← List.append_assoc, ← List.append_assoc]
      refine List.perm_middle.trans ?_
      rw [List.append_assoc, List.append_assoc]
      exact List.Perm.cons e ih
    · rw [q, if_pos rfl, if_neg (by decide), if_neg (by decide), if_neg (by decide), List.cons_append, ← List.append_assoc]
      refine List.perm_middle.trans ?_
      rw [List.append_assoc]
      exact List.Perm.cons e ih
    · rw [q, if_pos rfl, if_neg (by decide), if_neg (by decide), if_neg (by decide), List.cons_append]
      exact List.perm_middle.trans (List.Perm.cons e ih)
    · rw [q, if_pos rfl, if_neg (by decide), if_neg (by decide), if_neg (by decide), List.cons_append]
      exact List.Perm.cons e ih
/-! the stack of a walk, its top first -/
def tm_ST (S T : Nat → Prop) (h : Int32 → Nat) (lk lv ln ch wk : Nat → Int32) : List (Nat × List tm_E) → Prop
  | [] => True
  | x :: st => tm_R S T h lk lv ln ch x.1 x.2 (wk st.length) ∧ st.length + 3 * x.1 ≤ 12 ∧ tm_ST S T h lk lv ln ch wk st
def tm_c : Nat → Nat
  | 0 => 1
  | d + 1 => 1 + 4 * tm_c d
def tm_ms : List (Nat × List tm_E) → Nat
  | [] => 0
  | x :: st => tm_c x.1 + x.2.length + tm_ms st
def tm_fa : List (Nat × List tm_E) → List tm_E
  | [] => []
  | x :: st => x.2 ++ tm_fa st
theorem tm_c_pos (d : Nat) : 1 ≤ tm_c d := by
  cases d with
  | zero => exact Nat.le_refl _
  | succ d => unfold tm_c; omega
section
variable {S T : Nat → Prop} {h : Int32 → Nat} {lk lv ln ch wk wk' : Nat → Int32}
theorem tm_ST_up {st : List (Nat × List tm_E)} (H : tm_ST S T h lk lv ln ch wk st) (e : ∀ i, i < st.length → wk' i = wk i) : tm_ST S T h lk lv ln ch wk' st := by
  induction st with
  | nil => exact trivial
  | cons x st ih =>
    obtain ⟨h1, h2, h3⟩ := H
    refine ⟨?_, h2, ih h3 fun i hi => e i (by rw [List.length_cons]; omega)⟩
    rw [e st.length (by rw [List.length_cons]; omega)]
    exact h1
/-- the four children of a branch on the stack -/
def tm_p4 (h : Int32 → Nat) (d : Nat) (q : List tm_E) (st : List (Nat × List tm_E)) : List (Nat × List tm_E) :=
  (d, tm_sub h (3 - d) 3 q) :: (d, tm_sub h (3 - d) 2 q) :: (d, tm_sub h (3 - d) 1 q) :: (d, tm_sub h (3 - d) 0 q) :: st
theorem tm_p4_len {d : Nat} {q : List tm_E} {st : List (Nat × List tm_E)} : (tm_p4 h d q st).length = st.length + 4 := rfl
theorem tm_p4_ms {d : Nat} {q : List tm_E} {st : List (Nat × List tm_E)} : tm_ms (tm_p4 h d q st) < tm_ms ((d + 1, q) :: st) := by
  have := tm_sub_len (h := h) (v := 3 - d) (l := q)
  show tm_c d + _ + (tm_c d + _ + (tm_c d + _ + (tm_c d + _ + tm_ms st))) < (1 + 4 * tm_c d) + _ + tm_ms st
  simp only
  omega
theorem tm_p4_fa {d : Nat} {q : List tm_E} {st : List (Nat × List tm_E)} : List.Perm (tm_fa (tm_p4 h d q st)) (tm_fa ((d + 1, q) :: st)) := by
  show List.Perm (tm_sub h (3 - d) 3 q ++ (tm_sub h (3 - d) 2 q ++ (tm_sub h (3 - d) 1 q ++ (tm_sub h (3 - d) 0 q ++ tm_fa st)))) (q ++ tm_fa st)
  have := List.Perm.append_right (tm_fa st) (tm_sub_perm (h := h) (v := 3 - d) q)
  simp only [List.append_assoc] at this
  exact this
theorem tm_p4_ST {d b : Nat} {q : List tm_E} {st : List (Nat × List tm_E)} (H : tm_ST S T h lk lv ln ch wk st) (hd : st.length + 3 * (d + 1) ≤ 12)
    (h4 : ∀ i, i < 4 → tm_R S T h lk lv ln ch d (tm_sub h (3 - d) i q) (ch (4 * b + i)))
    (e : ∀ i, i < st.length → wk' i = wk i) (e4 : ∀ i, i < 4 → wk' (st.length + i) = ch (4 * b + i)) : tm_ST S T h lk lv ln ch wk' (tm_p4 h d q st) := by
  refine ⟨?_, ?_, ?_, ?_, ?_, ?_, ?_, ?_, tm_ST_up H e⟩
  · show tm_R S T h lk lv ln ch d _ (wk' (st.length + 3)); rw [e4 3 (by decide)]; exact h4 3 (by decide)
  · show st.length + 3 + 3 * d ≤ 12; omega
  · show tm_R S T h lk lv ln ch d _ (wk' (st.length + 2)); rw [e4 2 (by decide)]; exact h4 2 (by decide)
  · show st.length + 2 + 3 * d ≤ 12; omega
  · show tm_R S T h lk lv ln ch d _ (wk' (st.length + 1)); rw [e4 1 (by decide)]; exact h4 1 (by decide)
  · show st.length + 1 + 3 * d ≤ 12; omega
  · show tm_R S T h lk lv ln ch d _ (wk' (st.length + 0)); rw [e4 0 (by decide)]; exact h4 0 (by decide)
  · show st.length + 3 * d ≤ 12; omega
end
end
section
/-! list, over the stack -/
section
variable {fl fb sh ld : Int32} {ck : Int64} {lk lv ln ch lm bm fL fB ro sz pa wk wo lK lV op tc en aj aR aK aD sn sA sK sD qK qD qF qL : Nat → Int32} {bg cg : Nat → Int64}
variable {S T : Nat → Prop}
theorem tm_list47 {post : SX → Prop} {J : Int32 → Int32 → Int32 → Int32 → Int32 → Int64 → (Nat → Int32) → (Nat → Int32) → (Nat → Int32) → (Nat → Int32) → (Nat → Int32) → (Nat → Int32) → (Nat → Int32) → (Nat → Int32) → (Nat → Int32) → (Nat → Int32) → (Nat → Int32) → (Nat → Int32) → (Nat → Int32) → (Nat → Int32) → (Nat → Int32) → (Nat → Int32) → (Nat → Int64) → (Nat → Int32) → (Nat → Int32) → (Nat → Int32) → (Nat → Int32) → (Nat → Int32) → (Nat → Int32) → (Nat → Int32) → (Nat → Int32) → (Nat → Int32) → (Nat → Int32) → (Nat → Int64) → (Nat → Int32) → (Nat → Int32) → (Nat → Int32) → (Nat → Int32) → Prop} {p b : Nat} (hb : b < 544) (hp : p + 4 ≤ 40) (nd : ∀ i, i < 4 → tm_nd (ch (4 * b + i)))
    (K : ∀ wk', (∀ i, i < p → wk' i = wk i) → (∀ i, i < 4 → wk' (p + i) = ch (4 * b + i)) → J (nI (p + 4)) fl fb sh ld ck lk lv ln ch lm bm fL fB ro sz pa wk' wo lK lV op bg tc en aj aR aK aD sn sA sK sD cg qK qD qF qL) :
    ∀ (r i : Nat) (wk' : Nat → Int32), i + r = 4 → (∀ t, t < p → wk' t = wk t) → (∀ t, t < i → wk' (p + t) = ch (4 * b + t)) → wX_list_47 post J (nI (4 * b)) fl fb sh ld ck (r + 1) (nI (p + i)) (nI (4 * b + i)) lk lv ln ch lm bm fL fB ro sz pa wk' wo lK lV op bg tc en aj aR aK aD sn sA sK sD cg qK qD qF qL := by
  have e4 : nI (4 * b) + 4 = nI (4 * b + 4) := nI_add (4 * b) 4
  intro r
  induction r with
  | zero =>
    intro i wk' hi h1 h2
    obtain rfl : i = 4 := by omega
    exact br_t (by rw [e4]; exact nI_le (Nat.le_refl _) (by omega)) (K wk' h1 h2)
  | succ r ih =>
    intro i wk' hi h1 h2
    refine br_f (by rw [e4]; exact nI_ge (by omega) (by omega)) (nm_r (e' := nI (p + (i + 1))) (nI_1 _) ⟨tm_in (by omega), tm_in (by omega), nm_r (e' := upd wk' (p + i) (ch (4 * b + i))) ?_ (nm_r (e' := nI (4 * b + (i + 1))) (nI_1 _) (ih (i + 1) _ (by omega) ?_ ?_))⟩)
    · rw [nI_clamp (by omega), nI_clamp (by omega), tm_nar16 (nd i (by omega))]
    · intro t ht
      rw [pk_un (by omega)]; exact h1 t ht
    · intro t ht
      by_cases c : t = i
      · rw [c]; exact pk_us
      · rw [pk_un (by omega)]; exact h2 t (by omega)
theorem tm_list18 {post : SX → Prop} {l : List tm_E} (s : tm_SO l) (hl : l.length ≤ 10)
    (K : ∀ wk' lK' lV', tm_LA lK' lV' l → post (fl, fb, sh, nI l.length, ck, lk, lv, ln, ch, lm, bm, fL, fB, ro, sz, pa, wk', wo, lK', lV', op, bg, tc, en, aj, aR, aK, aD, sn, sA, sK, sD, cg, qK, qD, qF, qL)) :
    ∀ (m : Nat) (st : List (Nat × List tm_E)) (A : List tm_E) (ld : Int32) (wk lK lV : Nat → Int32), tm_ms st < m → tm_ST S T (tm_h sh) lk lv ln ch wk st → tm_SO A → tm_LA lK lV A → ld = nI A.length →
    List.Perm (A ++ tm_fa st) l → wX_list_18 post m (nI st.length) fl fb sh ld ck lk lv ln ch lm bm fL fB ro sz pa wk wo lK lV op bg tc en aj aR aK aD sn sA sK sD cg qK qD qF qL := by
  intro m
  induction m with
  | zero => intro st A ld wk lK lV hm; omega
  | succ m ih =>
    intro st A ld wk lK lV hm H sA LA hld P
    have sl : l.Pairwise (fun a b => a.1 ≠ b.1) := List.Pairwise.imp (fun h => tm_lne h) s
    cases st with
    | nil =>
      have e : A = l := by
        refine tm_ext sA s fun e => ?_
        have := P.mem_iff (a := e)
        rw [show tm_fa [] = [] from rfl, List.append_nil] at this
        exact this
      subst e
      subst hld
      exact br_t (by decide) (K wk lK lV LA)
    | cons x st =>
      obtain ⟨d, q⟩ := x
      obtain ⟨H1, H2, H3⟩ := H
      have hst : st.length + 1 ≤ 13 := by simp only at H2; omega
      have hms : tm_ms ((d, q) :: st) = tm_c d + q.length + tm_ms st := rfl
      have hcp := tm_c_pos d
      refine br_f (nI_nle (Nat.succ_pos _) (by rw [List.length_cons]; omega)) (nm_r (e' := nI st.length) (pk_m1 _) ⟨tm_in (by omega), nm_r (e' := wk st.length) (by rw [nI_clamp (by omega)]) ?_⟩)
      by_cases g : 0 ≤ wk st.length
      · refine br_t g ?_
        have ⟨a, C⟩ := tm_R_nn H1 g
        rcases tm_CH_s C with ⟨r, rq⟩ | ⟨j, e, t, rq, h1, h2, h3, h4, h5, h6⟩
        · refine br_t (by rw [r]; decide) (ih st A ld wk lK lV (by omega) H3 sA LA hld ?_)
          simp only at rq
          subst rq
          exact P
        · simp only at rq a
          subst rq
          rw [h3]
          refine br_f (tm_pos h1) ?_
          rw [tm_pred]
          have P' : List.Perm (A ++ (e :: (t ++ tm_fa st))) l := P
          have pw := List.pairwise_append.mp ((P'.symm).pairwise sl (fun h => Ne.symm h))
          have hlen := P'.length_eq
          rw [List.length_append, List.length_cons] at hlen
          have hno : tm_look (lk j) A = none := tm_look_none.mpr fun x hx => by rw [h4]; exact pw.2.2 x hx e List.mem_cons_self
          refine tm_listEntry (q := A) sA hld (by omega) LA h1 hno ?_
          intro lK' lV' LA'
          refine nm_r (e' := nI (st.length + 1)) (nI_1 _) ⟨tm_in h1, tm_in (by omega), nm_r (e' := upd wk st.length (ln j)) (by rw [nI_clamp (by omega), nI_clamp (by omega), tm_nar16 (tm_CH_nd h6)]) ?_⟩
          have ht : tm_ms ((d, t) :: st) < m := by
            have : tm_ms ((d, t) :: st) = tm_c d + t.length + tm_ms st := rfl
            rw [List.length_cons] at hms
            omega
          refine ih ((d, t) :: st) (tm_ins (lk j) (lv j) A) _ _ lK' lV' ht ?_ (tm_so_ins sA) LA' ?_ ?_
          · refine ⟨?_, H2, tm_ST_up H3 fun i hi => pk_un (by omega)⟩
            rw [pk_us]
            exact tm_R_ch (fun x hx y hy => a x (List.mem_cons_of_mem _ hx) y (List.mem_cons_of_mem _ hy)) h6
          · rw [tm_len_ins_n hno]
          · rw [h4, h5]
            rw [h4] at hno
            refine (List.Perm.append_right _ (tm_ins_perm hno)).trans ?_
            exact (List.perm_middle (a := e) (l₁ := A) (l₂ := t ++ tm_fa st)).symm.trans P'
      · obtain ⟨e, b, he, a, h1, h2, h3, h4⟩ := tm_R_ng H1 g
        simp only at he a h4 H2
        subst he
        refine br_f g (nm_r (e' := nI (4 * b)) (by rw [h3]; exact tm_4c h1) ⟨5, ?_⟩)
        refine tm_list47 (p := st.length) h1 (by omega) (fun i hi => tm_R_nd (h4 i hi)) ?_ 4 0 wk rfl (fun t _ => rfl) (fun t ht => absurd ht (Nat.not_lt_zero _))
        intro wk' w1 w2
        refine ih (tm_p4 (tm_h sh) e q st) A ld wk' lK lV ?_ (tm_p4_ST H3 H2 h4 w1 w2) sA LA hld ?_
        · have := tm_p4_ms (h := tm_h sh) (d := e) (q := q) (st := st)
          omega
        · exact (List.Perm.append_left A tm_p4_fa).trans P
theorem tm_list {post : SX → Prop} {l : List tm_E} {n : Int32} (s : tm_SO l) (hl : l.length ≤ 10) (H : tm_R S T (tm_h sh) lk lv ln ch 4 l n)
    (K : ∀ wk' lK' lV', tm_LA lK' lV' l → post (fl, fb, sh, nI l.length, ck, lk, lv, ln, ch, lm, bm, fL, fB, ro, sz, pa, wk', wo, lK', lV', op, bg, tc, en, aj, aR, aK, aD, sn, sA, sK, sD, cg, qK, qD, qF, qL)) : wpX_list post (fl, fb, sh, ld, ck, lk, lv, ln, ch, lm, bm, fL, fB, ro, sz, pa, wk, wo, lK, lV, op, bg, tc, en, aj, aR, aK, aD, sn, sA, sK, sD, cg, qK, qD, qF, qL) n := by
  unfold wpX_list
  refine nm_r (e' := nI 1) (by decide) (nm_r (e' := upd wk 0 n) (by rw [tm_nar16' (tm_R_nd H)]) ⟨tm_ms [(4, l)] + 1, ?_⟩)
  refine tm_list18 (S := S) (T := T) s hl K _ [(4, l)] [] 0 _ lK lV (Nat.lt_succ_self _) ⟨?_, (show 0 + 3 * 4 ≤ 12 by decide), trivial⟩ tm_so_nil tm_LA_nil rfl ?_
  · show tm_R S T (tm_h sh) lk lv ln ch 4 l (upd wk 0 n 0)
    rw [pk_us]; exact H
  · show List.Perm (l ++ []) l
    rw [List.append_nil]
end
end
section
/-! equal -/
section
variable {fl fb sh ld : Int32} {ck : Int64} {lk lv ln ch lm bm fL fB ro sz pa wk wo lK lV op tc en aj aR aK aD sn sA sK sD qK qD qF qL : Nat → Int32} {bg cg : Nat → Int64}
variable {S T : Nat → Prop}
theorem tm_eqCh {post : Int32 → Prop} {q q' : List tm_E} {x y : Int32} (C : tm_CH S lk lv ln q x) (C' : tm_CH S lk lv ln q' y) (h1 : q = q' → post 1) (h0 : q ≠ q' → post 0) :
    ∀ m, q.length < m → wX_equalChains_5 post fl fb sh ld ck lk lv ln ch lm bm fL fB ro sz pa wk wo lK lV op bg tc en aj aR aK aD sn sA sK sD cg qK qD qF qL m x y := by
  induction q generalizing q' x y with
  | nil =>
    intro m hm
    obtain ⟨m, rfl⟩ : ∃ m', m = m' + 1 := ⟨m - 1, by omega⟩
    by_cases e : x = y
    · subst e
      exact br_t rfl (h1 (tm_CH_fun C C'))
    · refine br_f e (br_t C (h0 fun z => e ?_))
      subst z
      exact (show x = 0 from C).trans (show y = 0 from C').symm
  | cons e t ih =>
    intro m hm
    rw [List.length_cons] at hm
    obtain ⟨m, rfl⟩ : ∃ m', m = m' + 1 := ⟨m - 1, by omega⟩
    by_cases exy : x = y
    · subst exy
      exact br_t rfl (h1 (tm_CH_fun C C'))
    · obtain ⟨j, j1, j2, j3, j4, j5, j6⟩ := C
      subst j3
      refine br_f exy (br_f (nI_ne0 (by omega) (by omega)) ?_)
      rcases tm_CH_s C' with ⟨r, rq⟩ | ⟨i, e', t', rq, i1, i2, i3, i4, i5, i6⟩
      · exact br_t r (h0 fun z => by rw [rq] at z; exact absurd z (List.cons_ne_nil _ _))
      · subst i3
        subst rq
        have cj : (nI (j + 1) - 1).toNatClampNeg = j := by rw [tm_pred]; exact nI_clamp (by omega)
        have ci : (nI (i + 1) - 1).toNatClampNeg = i := by rw [tm_pred]; exact nI_clamp (by omega)
        have vj : vp_in (nI (j + 1) - 1) 384 := by rw [tm_pred]; exact tm_in j1
        have vi : vp_in (nI (i + 1) - 1) 384 := by rw [tm_pred]; exact tm_in i1
        refine br_f (nI_ne0 (by omega) (by omega)) ⟨vj, vi, ?_⟩
        rw [cj, ci]
        by_cases ek : lk j = lk i
        · refine br_t ek ⟨vj, vi, ?_⟩
          by_cases ev : lv j = lv i
          · refine br_t ev ⟨vj, nm_e ⟨vi, nm_e (ih j6 i6 (fun z => h1 ?_) (fun z => h0 fun w => z ?_) m (by omega))⟩⟩
            · rw [z, Prod.ext (j4.symm.trans (ek.trans i4)) (j5.symm.trans (ev.trans i5))]
            · exact (List.cons.inj w).2
          · exact br_f ev (h0 fun w => ev (by rw [j5, i5, (List.cons.inj w).1]))
        · exact br_f ek (h0 fun w => ek (by rw [j4, i4, (List.cons.inj w).1]))
theorem tm_eq100 {post : Int32 → SX → Prop} {J : Int32 → (Nat → Int32) → (Nat → Int32) → (Nat → Int32) → (Nat → Int32) → (Nat → Int32) → (Nat → Int32) → (Nat → Int32) → (Nat → Int32) → (Nat → Int32) → (Nat → Int32) → (Nat → Int32) → (Nat → Int32) → (Nat → Int32) → (Nat → Int32) → (Nat → Int32) → (Nat → Int32) → (Nat → Int64) → (Nat → Int32) → (Nat → Int32) → (Nat → Int32) → (Nat → Int32) → (Nat → Int32) → (Nat → Int32) → (Nat → Int32) → (Nat → Int32) → (Nat → Int32) → (Nat → Int32) → (Nat → Int64) → (Nat → Int32) → (Nat → Int32) → (Nat → Int32) → (Nat → Int32) → Prop} {p b c : Nat} (hb : b < 544) (hc : c < 544) (hp : p + 4 ≤ 40) (nb : ∀ i, i < 4 → tm_nd (ch (4 * b + i))) (nc : ∀ i, i < 4 → tm_nd (ch (4 * c + i)))
    (K : ∀ wk' wo', (∀ i, i < p → wk' i = wk i) → (∀ i, i < 4 → wk' (p + i) = ch (4 * b + i)) → (∀ i, i < p → wo' i = wo i) → (∀ i, i < 4 → wo' (p + i) = ch (4 * c + i)) → J (nI (p + 4)) lk lv ln ch lm bm fL fB ro sz pa wk' wo' lK lV op bg tc en aj aR aK aD sn sA sK sD cg qK qD qF qL) :
    ∀ (r i : Nat) (wk' wo' : Nat → Int32), i + r = 4 → (∀ t, t < p → wk' t = wk t) → (∀ t, t < i → wk' (p + t) = ch (4 * b + t)) → (∀ t, t < p → wo' t = wo t) → (∀ t, t < i → wo' (p + t) = ch (4 * c + t)) →
      wX_equal_100 post J (-1 - nI b) (-1 - nI c) fl fb sh ld ck (r + 1) (nI (p + i)) (nI i) lk lv ln ch lm bm fL fB ro sz pa wk' wo' lK lV op bg tc en aj aR aK aD sn sA sK sD cg qK qD qF qL := by
  intro r
  induction r with
  | zero =>
    intro i wk' wo' hi h1 h2 h3 h4
    obtain rfl : i = 4 := by omega
    exact br_t (by decide) (K wk' wo' h1 h2 h3 h4)
  | succ r ih =>
    intro i wk' wo' hi h1 h2 h3 h4
    have eb : (4 : Int32) * (-1 - (-1 - nI b)) + nI i = nI (4 * b + i) := tm_4b' i hb
    have ec : (4 : Int32) * (-1 - (-1 - nI c)) + nI i = nI (4 * c + i) := tm_4b' i hc
    refine br_f (nI_ge (b := 4) (by omega) (by decide)) ?_
    rw [eb, ec]
    refine ⟨tm_in (by omega), tm_in (by omega), nm_r (e' := upd wk' (p + i) (ch (4 * b + i))) ?_ (nm_r (e' := nI (p + (i + 1))) (nI_1 _) ⟨tm_in (by omega), tm_in (by omega), nm_r (e' := upd wo' (p + i) (ch (4 * c + i))) ?_ (nm_r (e' := nI (i + 1)) (nI_1 _) (ih (i + 1) _ _ (by omega) ?_ ?_ ?_ ?_))⟩)⟩
    · rw [nI_clamp (by omega), nI_clamp (by omega), tm_nar16 (nb i (by omega))]
    · rw [nI_clamp (by omega), nI_clamp (by omega), tm_nar16 (nc i (by omega))]
    · intro t ht
      rw [pk_un (by omega)]; exact h1 t ht
    · intro t ht
      by_cases c : t = i
      · rw [c]; exact pk_us
      · rw [pk_un (by omega)]; exact h2 t (by omega)
    · intro t ht
      rw [pk_un (by omega)]; exact h3 t ht
    · intro t ht
      by_cases c : t = i
      · rw [c]; exact pk_us
      · rw [pk_un (by omega)]; exact h4 t (by omega)
end
def tm_SP (S T : Nat → Prop) (h : Int32 → Nat) (lk lv ln ch wk wo : Nat → Int32) : List (Nat × List tm_E × List tm_E) → Prop
  | [] => True
  | x :: st => (tm_R S T h lk lv ln ch x.1 x.2.1 (wk st.length) ∧ tm_R S T h lk lv ln ch x.1 x.2.2 (wo st.length) ∧ tm_SO x.2.1 ∧ tm_SO x.2.2 ∧ st.length + 3 * x.1 ≤ 12) ∧ tm_SP S T h lk lv ln ch wk wo st
def tm_m2 : List (Nat × List tm_E × List tm_E) → Nat
  | [] => 0
  | x :: st => tm_c x.1 + tm_m2 st
section
variable {S T : Nat → Prop} {h : Int32 → Nat} {lk lv ln ch wk wk' wo wo' : Nat → Int32}
theorem tm_SP_up {st : List (Nat × List tm_E × List tm_E)} (H : tm_SP S T h lk lv ln ch wk wo st) (e : ∀ i, i < st.length → wk' i = wk i) (e' : ∀ i, i < st.length → wo' i = wo i) : tm_SP S T h lk lv ln ch wk' wo' st := by
  induction st with
  | nil => exact trivial
  | cons x st ih =>
    obtain ⟨⟨h1, h2, h3⟩, h4⟩ := H
    refine ⟨⟨?_, ?_, h3⟩, ih h4 (fun i hi => e i (by rw [List.length_cons]; omega)) (fun i hi => e' i (by rw [List.length_cons]; omega))⟩
    · rw [e st.length (by rw [List.length_cons]; omega)]
      exact h1
    · rw [e' st.length (by rw [List.length_cons]; omega)]
      exact h2
def tm_q4 (h : Int32 → Nat) (d : Nat) (q q' : List tm_E) (st : List (Nat × List tm_E × List tm_E)) : List (Nat × List tm_E × List tm_E) :=
  (d, tm_sub h (3 - d) 3 q, tm_sub h (3 - d) 3 q') :: (d, tm_sub h (3 - d) 2 q, tm_sub h (3 - d) 2 q') :: (d, tm_sub h (3 - d) 1 q, tm_sub h (3 - d) 1 q') :: (d, tm_sub h (3 - d) 0 q, tm_sub h (3 - d) 0 q') :: st
theorem tm_q4_m2 {d : Nat} {q q' : List tm_E} {st : List (Nat × List tm_E × List tm_E)} : tm_m2 (tm_q4 h d q q' st) < tm_m2 ((d + 1, q, q') :: st) := by
  show tm_c d + (tm_c d + (tm_c d + (tm_c d + tm_m2 st))) < (1 + 4 * tm_c d) + tm_m2 st
  omega
theorem tm_q4_SP {d b c : Nat} {q q' : List tm_E} {st : List (Nat × List tm_E × List tm_E)} (H : tm_SP S T h lk lv ln ch wk wo st) (hd : st.length + 3 * (d + 1) ≤ 12) (s : tm_SO q) (s' : tm_SO q')
    (h4 : ∀ i, i < 4 → tm_R S T h lk lv ln ch d (tm_sub h (3 - d) i q) (ch (4 * b + i)))
    (g4 : ∀ i, i < 4 → tm_R S T h lk lv ln ch d (tm_sub h (3 - d) i q') (ch (4 * c + i)))
    (e : ∀ i, i < st.length → wk' i = wk i) (e4 : ∀ i, i < 4 → wk' (st.length + i) = ch (4 * b + i))
    (f : ∀ i, i < st.length → wo' i = wo i) (f4 : ∀ i, i < 4 → wo' (st.length + i) = ch (4 * c + i)) : tm_SP S T h lk lv ln ch wk' wo' (tm_q4 h d q q' st) := by
  have key : ∀ i, i < 4 → tm_R S T h lk lv ln ch d (tm_sub h (3 - d) i q) (wk' (st.length + i)) ∧ tm_R S T h lk lv ln ch d (tm_sub h (3 - d) i q') (wo' (st.length + i)) ∧ tm_SO (tm_sub h (3 - d) i q) ∧ tm_SO (tm_sub h (3 - d) i q') ∧ st.length + i + 3 * d ≤ 12 := by
    intro i hi
    rw [e4 i hi, f4 i hi]
    exact ⟨h4 i hi, g4 i hi, tm_so_sub s, tm_so_sub s', by omega⟩
  exact ⟨key 3 (by decide), key 2 (by decide), key 1 (by decide), key 0 (by decide), tm_SP_up H e f⟩
theorem tm_q4_eq {d : Nat} {q q' : List tm_E} {st : List (Nat × List tm_E × List tm_E)} (s : tm_SO q) (s' : tm_SO q') :
    (∀ x, x ∈ tm_q4 h d q q' st → x.2.1 = x.2.2) → ∀ x, x ∈ (d + 1, q, q') :: st → x.2.1 = x.2.2 := by
  intro H x hx
  have m : ∀ y, y ∈ tm_q4 h d q q' st ↔ (y = (d, tm_sub h (3 - d) 3 q, tm_sub h (3 - d) 3 q') ∨ y = (d, tm_sub h (3 - d) 2 q, tm_sub h (3 - d) 2 q') ∨ y = (d, tm_sub h (3 - d) 1 q, tm_sub h (3 - d) 1 q') ∨ y = (d, tm_sub h (3 - d) 0 q, tm_sub h (3 - d) 0 q') ∨ y ∈ st) := by
    intro y; unfold tm_q4; simp only [List.mem_cons]
  rcases List.mem_cons.mp hx with r | r
  · rw [r]
    refine tm_sub_ext (h := h) (v := 3 - d) s s' fun i hi => ?_
    have c : i = 0 ∨ i = 1 ∨ i = 2 ∨ i = 3 := by omega
    rcases c with c | c | c | c <;> subst c
    · exact H _ ((m _).mpr (Or.inr (Or.inr (Or.inr (Or.inl rfl)))))
    · exact H _ ((m _).mpr (Or.inr (Or.inr (Or.inl rfl))))
    · exact H _ ((m _).mpr (Or.inr (Or.inl rfl)))
    · exact H _ ((m _).mpr (Or.inl rfl))
  · exact H x ((m x).mpr (Or.inr (Or.inr (Or.inr (Or.inr r)))))
theorem tm_q4_ne {d : Nat} {q q' : List tm_E} {st : List (Nat × List tm_E × List tm_E)} :
    (∃ x, x ∈ tm_q4 h d q q' st ∧ x.2.1 ≠ x.2.2) → ∃ x, x ∈ (d + 1, q, q') :: st ∧ x.2.1 ≠ x.2.2 := by
  rintro ⟨x, hx, n⟩
  unfold tm_q4 at hx
  simp only [List.mem_cons] at hx
  by_cases e : q = q'
  · subst e
    rcases hx with r | r | r | r | r
    · exact absurd (by rw [r]) n
    · exact absurd (by rw [r]) n
    · exact absurd (by rw [r]) n
    · exact absurd (by rw [r]) n
    · exact ⟨x, List.mem_cons_of_mem _ r, n⟩
  · exact ⟨_, List.mem_cons_self, e⟩
end
section
variable {fl fb sh ld : Int32} {ck : Int64} {lk lv ln ch lm bm fL fB ro sz pa wk wo lK lV op tc en aj aR aK aD sn sA sK sD qK qD qF qL : Nat → Int32} {bg cg : Nat → Int64}
variable {S T : Nat → Prop}
theorem tm_eq21 {post : Int32 → SX → Prop} : ∀ (m : Nat) (st : List (Nat × List tm_E × List tm_E)) (wk wo : Nat → Int32), tm_m2 st < m → tm_SP S T (tm_h sh) lk lv ln ch wk wo st →
    ((∀ x, x ∈ st → x.2.1 = x.2.2) → ∀ wk' wo', post 1 (fl, fb, sh, ld, ck, lk, lv, ln, ch, lm, bm, fL, fB, ro, sz, pa, wk', wo', lK, lV, op, bg, tc, en, aj, aR, aK, aD, sn, sA, sK, sD, cg, qK, qD, qF, qL)) → ((∃ x, x ∈ st ∧ x.2.1 ≠ x.2.2) → ∀ wk' wo', post 0 (fl, fb, sh, ld, ck, lk, lv, ln, ch, lm, bm, fL, fB, ro, sz, pa, wk', wo', lK, lV, op, bg, tc, en, aj, aR, aK, aD, sn, sA, sK, sD, cg, qK, qD, qF, qL)) → wX_equal_21 post fl fb sh ld ck m (nI st.length) lk lv ln ch lm bm fL fB ro sz pa wk wo lK lV op bg tc en aj aR aK aD sn sA sK sD cg qK qD qF qL := by
  intro m
  induction m with
  | zero => intro st wk wo hm; omega
  | succ m ih =>
    intro st wk wo hm H h1 h0
    cases st with
    | nil => exact br_t (by decide) (h1 (fun x hx => absurd hx List.not_mem_nil) wk wo)
    | cons x st =>
      obtain ⟨d, q, q'⟩ := x
      obtain ⟨⟨R1, R2, s1, s2, H2⟩, H3⟩ := H
      simp only at R1 R2 s1 s2 H2
      have hms : tm_m2 ((d, q, q') :: st) = tm_c d + tm_m2 st := rfl
      have hcp := tm_c_pos d
      refine br_f (nI_nle (Nat.succ_pos _) (by rw [List.length_cons]; omega)) (nm_r (e' := nI st.length) (pk_m1 _) ⟨tm_in (by omega), nm_r (e' := wk st.length) (by rw [nI_clamp (by omega)]) ⟨tm_in (by omega), nm_r (e' := wo st.length) (by rw [nI_clamp (by omega)]) ?_⟩⟩)
      have eqs : q = q' → ((∀ x, x ∈ st → x.2.1 = x.2.2) → ∀ x, x ∈ (d, q, q') :: st → x.2.1 = x.2.2) := by
        intro e a x hx
        rcases List.mem_cons.mp hx with r | r
        · rw [r]; exact e
        · exact a x r
      have nes : (∃ x, x ∈ st ∧ x.2.1 ≠ x.2.2) → ∃ x, x ∈ (d, q, q') :: st ∧ x.2.1 ≠ x.2.2 := fun ⟨x, hx, n⟩ => ⟨x, List.mem_cons_of_mem _ hx, n⟩
      by_cases exy : wk st.length = wo st.length
      · have e : q = q' := tm_R_fun s1 s2 R1 (by rw [exy]; exact R2)
        exact br_t exy (ih st wk wo (by omega) H3 (fun a => h1 (eqs e a)) (fun a => h0 (nes a)))
      · refine br_f exy ?_
        by_cases gx : 0 ≤ wk st.length
        · have ⟨a1, C1⟩ := tm_R_nn R1 gx
          refine br_t gx ?_
          by_cases gy : 0 ≤ wo st.length
          · have ⟨a2, C2⟩ := tm_R_nn R2 gy
            refine br_t gy (br_t rfl (br_f (tm_le_nlt gx) ?_))
            unfold wpX_equalChains
            refine ⟨_, tm_eqCh C1 C2 ?_ ?_ _ (Nat.lt_succ_self _)⟩
            · intro e
              exact br_f (by decide) (ih st wk wo (by omega) H3 (fun a => h1 (eqs e a)) (fun a => h0 (nes a)))
            · intro e
              exact br_t rfl (h0 ⟨_, List.mem_cons_self, e⟩ wk wo)
          · obtain ⟨e, b, he, a, _⟩ := tm_R_ng R2 gy
            exact br_f gy (br_f (by decide) (h0 ⟨_, List.mem_cons_self, fun z => a (by rw [← show q = q' from z]; exact a1)⟩ wk wo))
        · obtain ⟨e, b, he, a, k1, k2, k3, k4⟩ := tm_R_ng R1 gx
          refine br_f gx ?_
          by_cases gy : 0 ≤ wo st.length
          · have ⟨a2, C2⟩ := tm_R_nn R2 gy
            exact br_t gy (br_f (by decide) (h0 ⟨_, List.mem_cons_self, fun z => a (by rw [show q = q' from z]; exact a2)⟩ wk wo))
          · obtain ⟨e', c, he', a', l1, l2, l3, l4⟩ := tm_R_ng R2 gy
            obtain rfl : e = e' := by omega
            subst he
            refine br_f gy (br_t rfl (br_t (tm_nle_lt gx) ⟨5, ?_⟩))
            rw [k3, l3]
            refine tm_eq100 (p := st.length) k1 l1 (by omega) (fun i hi => tm_R_nd (k4 i hi)) (fun i hi => tm_R_nd (l4 i hi)) ?_ 4 0 wk wo rfl (fun t _ => rfl) (fun t ht => absurd ht (Nat.not_lt_zero _)) (fun t _ => rfl) (fun t ht => absurd ht (Nat.not_lt_zero _))
            intro wk' wo' w1 w2 w3 w4
            refine ih (tm_q4 (tm_h sh) e q q' st) wk' wo' ?_ (tm_q4_SP H3 H2 s1 s2 k4 l4 w1 w2 w3 w4) (fun a => h1 (tm_q4_eq s1 s2 a)) (fun a => h0 (tm_q4_ne a))
            have := tm_q4_m2 (h := tm_h sh) (d := e) (q := q) (q' := q') (st := st)
            omega
theorem tm_equal {post : Int32 → SX → Prop} {l l' : List tm_E} {x y : Int32} (s : tm_SO l) (s' : tm_SO l') (H : tm_R S T (tm_h sh) lk lv ln ch 4 l x) (H' : tm_R S T (tm_h sh) lk lv ln ch 4 l' y)
    (h1 : l = l' → ∀ wk' wo', post 1 (fl, fb, sh, ld, ck, lk, lv, ln, ch, lm, bm, fL, fB, ro, sz, pa, wk', wo', lK, lV, op, bg, tc, en, aj, aR, aK, aD, sn, sA, sK, sD, cg, qK, qD, qF, qL)) (h0 : l ≠ l' → ∀ wk' wo', post 0 (fl, fb, sh, ld, ck, lk, lv, ln, ch, lm, bm, fL, fB, ro, sz, pa, wk', wo', lK, lV, op, bg, tc, en, aj, aR, aK, aD, sn, sA, sK, sD, cg, qK, qD, qF, qL)) : wpX_equal post (fl, fb, sh, ld, ck, lk, lv, ln, ch, lm, bm, fL, fB, ro, sz, pa, wk, wo, lK, lV, op, bg, tc, en, aj, aR, aK, aD, sn, sA, sK, sD, cg, qK, qD, qF, qL) x y := by
  unfold wpX_equal
  refine nm_r (e' := upd wk 0 x) (by rw [tm_nar16' (tm_R_nd H)]) (nm_r (e' := nI 1) (by decide) (nm_r (e' := upd wo 0 y) (by rw [tm_nar16' (tm_R_nd H')]) ⟨tm_m2 [(4, l, l')] + 1, ?_⟩))
  refine tm_eq21 (S := S) (T := T) _ [(4, l, l')] _ _ (Nat.lt_succ_self _) ⟨⟨?_, ?_, s, s', (show 0 + 3 * 4 ≤ 12 by decide)⟩, trivial⟩ (fun a => h1 (a _ List.mem_cons_self)) (fun ⟨z, hz, n⟩ => h0 ?_)
  · show tm_R S T (tm_h sh) lk lv ln ch 4 l (upd wk 0 x 0)
    rw [pk_us]; exact H
  · show tm_R S T (tm_h sh) lk lv ln ch 4 l' (upd wo 0 y 0)
    rw [pk_us]; exact H'
  · rw [List.mem_singleton.mp hz] at n
    exact n
end
end
section
/-! new nodes: the free stacks, what lasts when the heap grows -/
def tm_FI (f : Nat → Int32) (a N : Nat) : Prop := a ≤ N ∧ (∀ i, i < a → ∃ j, j < N ∧ f i = nI j) ∧ (∀ i, i < a → ∀ i', i' < a → f i = f i' → i = i')
def tm_US (f : Nat → Int32) (a j : Nat) : Prop := ∀ i, i < a → f i ≠ nI j
theorem tm_FI_le {f : Nat → Int32} {a b N : Nat} (h : tm_FI f a N) (g : b ≤ a) : tm_FI f b N :=
  ⟨Nat.le_trans g h.1, fun i hi => h.2.1 i (by omega), fun i hi i' hi' e => h.2.2 i (by omega) i' (by omega) e⟩
theorem tm_US_le {f : Nat → Int32} {a b j : Nat} (h : tm_US f a j) (g : b ≤ a) : tm_US f b j := fun i hi => h i (by omega)
theorem tm_FI_pop {f : Nat → Int32} {a N : Nat} (h : tm_FI f (a + 1) N) : ∃ j, j < N ∧ f a = nI j ∧ tm_US f a j ∧ ¬ tm_US f (a + 1) j := by
  obtain ⟨j, hj, e⟩ := h.2.1 a (by omega)
  refine ⟨j, hj, e, fun i hi z => ?_, fun z => z a (by omega) e⟩
  have := h.2.2 i (by omega) a (by omega) (z.trans e.symm)
  omega
def tm_X (fL fB : Nat → Int32) (a b : Nat) (lk lv ln ch : Nat → Int32) (a' b' : Nat) (lk' lv' ln' ch' : Nat → Int32) : Prop :=
  a' ≤ a ∧ b' ≤ b ∧ (∀ j, j < 384 → tm_US fL a j → lk' j = lk j ∧ lv' j = lv j ∧ ln' j = ln j) ∧ (∀ c, c < 544 → tm_US fB b c → ∀ i, i < 4 → ch' (4 * c + i) = ch (4 * c + i))
section
variable {fL fB lk lv ln ch lk' lv' ln' ch' lk2 lv2 ln2 ch2 : Nat → Int32} {a b a' b' a2 b2 : Nat} {h : Int32 → Nat}
theorem tm_X_refl : tm_X fL fB a b lk lv ln ch a b lk lv ln ch :=
  ⟨Nat.le_refl _, Nat.le_refl _, fun _ _ _ => ⟨rfl, rfl, rfl⟩, fun _ _ _ _ _ => rfl⟩
theorem tm_X_trans (x : tm_X fL fB a b lk lv ln ch a' b' lk' lv' ln' ch') (y : tm_X fL fB a' b' lk' lv' ln' ch' a2 b2 lk2 lv2 ln2 ch2) : tm_X fL fB a b lk lv ln ch a2 b2 lk2 lv2 ln2 ch2 := by
  obtain ⟨x1, x2, x3, x4⟩ := x
  obtain ⟨y1, y2, y3, y4⟩ := y
  refine ⟨Nat.le_trans y1 x1, Nat.le_trans y2 x2, fun j hj u => ?_, fun c hc u i hi => ?_⟩
  · have p := x3 j hj u
    have q := y3 j hj (tm_US_le u x1)
    exact ⟨q.1.trans p.1, q.2.1.trans p.2.1, q.2.2.trans p.2.2⟩
  · exact (y4 c hc (tm_US_le u x2) i hi).trans (x4 c hc u i hi)
theorem tm_R_X {d : Nat} {l : List tm_E} {n : Int32} (x : tm_X fL fB a b lk lv ln ch a' b' lk' lv' ln' ch') (H : tm_R (tm_US fL a) (tm_US fB b) h lk lv ln ch d l n) : tm_R (tm_US fL a') (tm_US fB b') h lk' lv' ln' ch' d l n :=
  tm_R_mono H (fun j _ u => tm_US_le u x.1) (fun c _ u => tm_US_le u x.2.1) x.2.2.1 x.2.2.2
theorem tm_CH_X {l : List tm_E} {n : Int32} (x : tm_X fL fB a b lk lv ln ch a' b' lk' lv' ln' ch') (H : tm_CH (tm_US fL a) lk lv ln l n) : tm_CH (tm_US fL a') lk' lv' ln' l n :=
  tm_CH_mono H (fun j _ u => tm_US_le u x.1) x.2.2.1
end
section
variable {fl fb sh ld : Int32} {ck : Int64} {lk lv ln ch lm bm fL fB ro sz pa wk wo lK lV op tc en aj aR aK aD sn sA sK sD qK qD qF qL : Nat → Int32} {bg cg : Nat → Int64}
variable {a b : Nat}
theorem tm_newLeaf {post : Int32 → SX → Prop} {k v nx : Int32} (hfl : fl = nI (a + 1)) (F : tm_FI fL (a + 1) 384) (hn : tm_nd nx)
    (K : ∀ j lk' lv' ln', j < 384 → tm_US fL a j → tm_X fL fB (a + 1) b lk lv ln ch a b lk' lv' ln' ch → lk' j = k → lv' j = v → ln' j = nx → post (nI (j + 1)) (nI a, fb, sh, ld, ck, lk', lv', ln', ch, lm, bm, fL, fB, ro, sz, pa, wk, wo, lK, lV, op, bg, tc, en, aj, aR, aK, aD, sn, sA, sK, sD, cg, qK, qD, qF, qL)) : wpX_newLeaf post (fl, fb, sh, ld, ck, lk, lv, ln, ch, lm, bm, fL, fB, ro, sz, pa, wk, wo, lK, lV, op, bg, tc, en, aj, aR, aK, aD, sn, sA, sK, sD, cg, qK, qD, qF, qL) k v nx := by
  obtain ⟨j, hj, e, u, nu⟩ := tm_FI_pop F
  have hF := F.1
  subst hfl
  have e0 : nI (a + 1) - 1 = nI a := nI_pred a
  unfold wpX_newLeaf
  refine nm_r e0 ?_
  rw [e0]
  refine ⟨tm_in (by omega), nm_r (e' := nI j) (by rw [nI_clamp (by omega)]; exact e) ⟨tm_in hj, nm_r (e' := upd lk j k) (by rw [nI_clamp (by omega)]) ⟨tm_in hj, nm_r (e' := upd lv j v) (by rw [nI_clamp (by omega)]) ⟨tm_in hj, nm_r (e' := upd ln j nx) (by rw [nI_clamp (by omega), tm_nar16' hn]) ?_⟩⟩⟩⟩
  rw [nI_1]
  refine K j _ _ _ hj u ⟨by omega, Nat.le_refl _, fun i hi ui => ?_, fun _ _ _ _ _ => rfl⟩ pk_us pk_us pk_us
  have : i ≠ j := fun z => nu (z ▸ ui)
  exact ⟨pk_un this, pk_un this, pk_un this⟩
theorem tm_nb21 {post : Int32 → SX → Prop} {c : Nat} (hc : c < 544)
    (K : ∀ ch', (∀ x, (x < 4 * c ∨ 4 * c + 4 ≤ x) → ch' x = ch x) → (∀ i, i < 4 → ch' (4 * c + i) = 0) → post (nI c) (fl, fb, sh, ld, ck, lk, lv, ln, ch', lm, bm, fL, fB, ro, sz, pa, wk, wo, lK, lV, op, bg, tc, en, aj, aR, aK, aD, sn, sA, sK, sD, cg, qK, qD, qF, qL)) :
    ∀ (r i : Nat) (ch' : Nat → Int32), i + r = 4 → (∀ x, (x < 4 * c ∨ 4 * c + 4 ≤ x) → ch' x = ch x) → (∀ t, t < i → ch' (4 * c + t) = 0) → wX_newBranch_21 post (nI c) fl fb sh ld ck (r + 1) (nI (4 * c + i)) lk lv ln ch' lm bm fL fB ro sz pa wk wo lK lV op bg tc en aj aR aK aD sn sA sK sD cg qK qD qF qL := by
  have e4 : (4 : Int32) * nI c + 4 = nI (4 * c + 4) := tm_4b c 4
  intro r
  induction r with
  | zero =>
    intro i ch' hi h1 h2
    obtain rfl : i = 4 := by omega
    exact br_t (by rw [e4]; exact nI_le (Nat.le_refl _) (by omega)) (K ch' h1 h2)
  | succ r ih =>
    intro i ch' hi h1 h2
    refine br_f (by rw [e4]; exact nI_ge (by omega) (by omega)) ⟨tm_in (by omega), nm_r (e' := upd ch' (4 * c + i) 0) ?_ (nm_r (e' := nI (4 * c + (i + 1))) (nI_1 _) (ih (i + 1) _ (by omega) ?_ ?_))⟩
    · rw [nI_clamp (by omega), tm_sh0]
    · intro x hx
      rw [pk_un (by omega)]; exact h1 x hx
    · intro t ht
      by_cases z : t = i
      · rw [z]; exact pk_us
      · rw [pk_un (by omega)]; exact h2 t (by omega)
theorem tm_newBranch {post : Int32 → SX → Prop} (hfb : fb = nI (b + 1)) (F : tm_FI fB (b + 1) 544)
    (K : ∀ c ch', c < 544 → tm_US fB b c → ¬ tm_US fB (b + 1) c → tm_X fL fB a (b + 1) lk lv ln ch a b lk lv ln ch' → (∀ i, i < 4 → ch' (4 * c + i) = 0) → post (nI c) (fl, nI b, sh, ld, ck, lk, lv, ln, ch', lm, bm, fL, fB, ro, sz, pa, wk, wo, lK, lV, op, bg, tc, en, aj, aR, aK, aD, sn, sA, sK, sD, cg, qK, qD, qF, qL)) : wpX_newBranch post (fl, fb, sh, ld, ck, lk, lv, ln, ch, lm, bm, fL, fB, ro, sz, pa, wk, wo, lK, lV, op, bg, tc, en, aj, aR, aK, aD, sn, sA, sK, sD, cg, qK, qD, qF, qL) := by
  obtain ⟨c, hc, e, u, nu⟩ := tm_FI_pop F
  have hF := F.1
  subst hfb
  have e0 : nI (b + 1) - 1 = nI b := nI_pred b
  unfold wpX_newBranch
  refine nm_r e0 ?_
  rw [e0]
  refine ⟨tm_in (by omega), nm_r (e' := nI c) (by rw [nI_clamp (by omega)]; exact e) (nm_r (e' := nI (4 * c + 0)) (tm_4b c 0 ▸ (Int32.add_zero _).symm) ⟨5, tm_nb21 hc ?_ 4 0 ch rfl (fun _ _ => rfl) (fun t ht => absurd ht (Nat.not_lt_zero _))⟩)⟩
  intro ch' h1 h2
  refine K c ch' hc u nu ⟨Nat.le_refl _, by omega, fun _ _ _ => ⟨rfl, rfl, rfl⟩, fun c' hc' u' i hi => h1 _ ?_⟩ h2
  have : c' ≠ c := fun z => nu (z ▸ u')
  omega
theorem tm_cb21 {post : Int32 → SX → Prop} {c f g : Nat} {to : Int32} (hc : c < 544) (hf : f < 544) (hg : g < 4) (hcf : f ≠ c) (nt : tm_nd to) (nf : ∀ i, i < 4 → tm_nd (ch (4 * f + i)))
    (K : ∀ ch', (∀ x, (x < 4 * c ∨ 4 * c + 4 ≤ x) → ch' x = ch x) → (∀ i, i < 4 → ch' (4 * c + i) = if i = g then to else ch (4 * f + i)) → post (-1 - nI c) (fl, fb, sh, ld, ck, lk, lv, ln, ch', lm, bm, fL, fB, ro, sz, pa, wk, wo, lK, lV, op, bg, tc, en, aj, aR, aK, aD, sn, sA, sK, sD, cg, qK, qD, qF, qL)) :
    ∀ (r i : Nat) (ch' : Nat → Int32), i + r = 4 → (∀ x, (x < 4 * c ∨ 4 * c + 4 ≤ x) → ch' x = ch x) → (∀ t, t < i → ch' (4 * c + t) = if t = g then to else ch (4 * f + t)) →
      wX_copyBranch_21 post (nI f) (nI g) to (nI c) fl fb sh ld ck (r + 1) (nI i) lk lv ln ch' lm bm fL fB ro sz pa wk wo lK lV op bg tc en aj aR aK aD sn sA sK sD cg qK qD qF qL := by
  intro r
  induction r with
  | zero =>
    intro i ch' hi h1 h2
    obtain rfl : i = 4 := by omega
    exact br_t (by decide) (K ch' h1 h2)
  | succ r ih =>
    intro i ch' hi h1 h2
    have ec : (4 : Int32) * nI c + nI i = nI (4 * c + i) := tm_4b c i
    have ef : (4 : Int32) * nI f + nI i = nI (4 * f + i) := tm_4b f i
    have st : ∀ x : Int32, ∀ X, X = x → (x = if i = g then to else ch (4 * f + i)) → (∀ t, t < i + 1 → upd ch' (4 * c + i) X (4 * c + t) = if t = g then to else ch (4 * f + t)) := by
      intro x X eX ex t ht
      subst eX
      by_cases z : t = i
      · rw [z, pk_us]; exact ex
      · rw [pk_un (by omega)]; exact h2 t (by omega)
    have fr : ∀ X, ∀ x, (x < 4 * c ∨ 4 * c + 4 ≤ x) → upd ch' (4 * c + i) X x = ch x := by
      intro X x hx
      rw [pk_un (by omega)]; exact h1 x hx
    refine br_f (nI_ge (b := 4) (by omega) (by decide)) ?_
    rw [ec, ef]
    by_cases z : i = g
    · refine br_t (congrArg nI z) ⟨tm_in (by omega), nm_r (e' := upd ch' (4 * c + i) to) (by rw [nI_clamp (by omega), tm_nar16' nt]) (nm_r (nI_1 _) (ih (i + 1) _ (by omega) (fr _) (st to to rfl (by rw [if_pos z]))))⟩
    · have z' : ¬ nI i = nI g := fun e => z (tm_inj (by omega) (by omega) e)
      have rd : ch' (4 * f + i) = ch (4 * f + i) := h1 _ (by omega)
      refine br_f z' ⟨tm_in (by omega), tm_in (by omega), nm_r (e' := upd ch' (4 * c + i) (ch (4 * f + i))) (by rw [nI_clamp (by omega), nI_clamp (by omega), rd, tm_nar16 (nf i (by omega))]) (nm_r (nI_1 _) (ih (i + 1) _ (by omega) (fr _) (st _ _ rfl (by rw [if_neg z]))))⟩
theorem tm_copyBranch {post : Int32 → SX → Prop} {f g : Nat} {to : Int32} (hfb : fb = nI (b + 1)) (F : tm_FI fB (b + 1) 544) (hf : f < 544) (uf : tm_US fB (b + 1) f) (hg : g < 4) (nt : tm_nd to) (nf : ∀ i, i < 4 → tm_nd (ch (4 * f + i)))
    (K : ∀ c ch', c < 544 → tm_US fB b c → tm_X fL fB a (b + 1) lk lv ln ch a b lk lv ln ch' → (∀ i, i < 4 → ch' (4 * c + i) = if i = g then to else ch (4 * f + i)) → post (-1 - nI c) (fl, nI b, sh, ld, ck, lk, lv, ln, ch', lm, bm, fL, fB, ro, sz, pa, wk, wo, lK, lV, op, bg, tc, en, aj, aR, aK, aD, sn, sA, sK, sD, cg, qK, qD, qF, qL)) : wpX_copyBranch post (fl, fb, sh, ld, ck, lk, lv, ln, ch, lm, bm, fL, fB, ro, sz, pa, wk, wo, lK, lV, op, bg, tc, en, aj, aR, aK, aD, sn, sA, sK, sD, cg, qK, qD, qF, qL) (nI f) (nI g) to := by
  obtain ⟨c, hc, e, u, nu⟩ := tm_FI_pop F
  have hF := F.1
  subst hfb
  have e0 : nI (b + 1) - 1 = nI b := nI_pred b
  unfold wpX_copyBranch
  refine nm_r e0 ?_
  rw [e0]
  refine ⟨tm_in (by omega), nm_r (e' := nI c) (by rw [nI_clamp (by omega)]; exact e) ⟨5, tm_cb21 hc hf hg (fun z => nu (z ▸ uf)) nt nf ?_ 4 0 ch rfl (fun _ _ => rfl) (fun t ht => absurd ht (Nat.not_lt_zero _))⟩⟩
  intro ch' h1 h2
  refine K c ch' hc u ⟨Nat.le_refl _, by omega, fun _ _ _ => ⟨rfl, rfl, rfl⟩, fun c' hc' u' i hi => h1 _ ?_⟩ h2
  have : c' ≠ c := fun z => nu (z ▸ u')
  omega
end
end
section
/-! chains: front, chainWith, chainWithout -/
theorem tm_m1s (x : Int32) : x + (-1) = x - 1 := (Int32.sub_eq_add_neg x 1).symm
theorem tm_LA_pre {lK lV : Nat → Int32} {P : List tm_E} {x : tm_E} (A : tm_LA lK lV (P ++ [x])) : tm_LA lK lV P := by
  intro i e he
  have hi : i < P.length := (List.getElem?_eq_some_iff.mp he).1
  exact A i e (by rw [List.getElem?_append_left hi]; exact he)
section
variable {fl fb sh ld : Int32} {ck : Int64} {lk lv ln ch lm bm fL fB ro sz pa wk wo lK lV op tc en aj aR aK aD sn sA sK sD qK qD qF qL : Nat → Int32} {bg cg : Nat → Int64}
variable {a b : Nat}
theorem tm_front9 {post : Int32 → SX → Prop} : ∀ (p : Nat) (P rest : List tm_E) (a : Nat) (n : Int32) (lk lv ln : Nat → Int32), P.length = p → p ≤ 10 → tm_LA lK lV P → tm_FI fL (a + p) 384 → tm_CH (tm_US fL (a + p)) lk lv ln rest n →
    (∀ n' lk' lv' ln', tm_X fL fB (a + p) b lk lv ln ch a b lk' lv' ln' ch → tm_CH (tm_US fL a) lk' lv' ln' (P ++ rest) n' → post n' (nI a, fb, sh, ld, ck, lk', lv', ln', ch, lm, bm, fL, fB, ro, sz, pa, wk, wo, lK, lV, op, bg, tc, en, aj, aR, aK, aD, sn, sA, sK, sD, cg, qK, qD, qF, qL)) →
    ∀ m, p < m → wX_front_9 post m n (nI p - 1) (nI (a + p)) fb sh ld ck lk lv ln ch lm bm fL fB ro sz pa wk wo lK lV op bg tc en aj aR aK aD sn sA sK sD cg qK qD qF qL := by
  intro p
  induction p with
  | zero =>
    intro P rest a n lk lv ln hP hp A F C K m hm
    obtain ⟨m, rfl⟩ : ∃ m', m = m' + 1 := ⟨m - 1, by omega⟩
    have : P = [] := List.length_eq_zero_iff.mp hP
    subst this
    exact br_t (by decide) (K n lk lv ln tm_X_refl C)
  | succ p ih =>
    intro P rest a n lk lv ln hP hp A F C K m hm
    obtain ⟨m, rfl⟩ : ∃ m', m = m' + 1 := ⟨m - 1, by omega⟩
    obtain ⟨P', x, rfl, hP'⟩ := tm_split_last P p hP
    have hx := A p x (by rw [← hP']; exact tm_get_mid_x)
    rw [show nI (p + 1) - 1 = nI p from nI_pred p]
    refine br_f (nI_pos (by omega)) ⟨tm_in (by omega), tm_in (by omega), ?_⟩
    rw [nI_clamp (show p < 2 ^ 31 by omega), hx.1, hx.2]
    refine tm_newLeaf (a := a + p) (b := b) rfl F (tm_CH_nd C) ?_
    intro j lk' lv' ln' hj u x' ek ev en
    refine nm_r (tm_m1s _) (ih P' (x :: rest) a _ lk' lv' ln' hP' (by omega) (tm_LA_pre A) (tm_FI_le F (by omega)) ?_ ?_ m (by omega))
    · exact ⟨j, hj, u, rfl, ek, ev, by rw [en]; exact tm_CH_X x' C⟩
    · intro n' lk2 lv2 ln2 y C'
      refine K n' lk2 lv2 ln2 (tm_X_trans x' y) ?_
      rw [List.append_assoc]
      exact C'
theorem tm_front {post : Int32 → SX → Prop} {P rest : List tm_E} {n : Int32} (hfl : fl = nI (a + P.length)) (hld : ld = nI P.length) (hP : P.length ≤ 10) (A : tm_LA lK lV P) (F : tm_FI fL (a + P.length) 384) (C : tm_CH (tm_US fL (a + P.length)) lk lv ln rest n)
    (K : ∀ n' lk' lv' ln', tm_X fL fB (a + P.length) b lk lv ln ch a b lk' lv' ln' ch → tm_CH (tm_US fL a) lk' lv' ln' (P ++ rest) n' → post n' (nI a, fb, sh, ld, ck, lk', lv', ln', ch, lm, bm, fL, fB, ro, sz, pa, wk, wo, lK, lV, op, bg, tc, en, aj, aR, aK, aD, sn, sA, sK, sD, cg, qK, qD, qF, qL)) : wpX_front post (fl, fb, sh, ld, ck, lk, lv, ln, ch, lm, bm, fL, fB, ro, sz, pa, wk, wo, lK, lV, op, bg, tc, en, aj, aR, aK, aD, sn, sA, sK, sD, cg, qK, qD, qF, qL) n := by
  subst hfl hld
  unfold wpX_front
  refine nm_e ⟨P.length + 1, ?_⟩
  exact tm_front9 P.length P rest a n lk lv ln rfl hP A F C K _ (Nat.lt_succ_self _)
theorem tm_cw77 {post : Int32 → SX → Prop} {P rest : List tm_E} {k v n : Int32} (hfl : fl = nI (a + P.length + 1)) (hld : ld = nI P.length) (hP : P.length ≤ 10) (A : tm_LA lK lV P) (F : tm_FI fL (a + P.length + 1) 384) (C : tm_CH (tm_US fL (a + P.length + 1)) lk lv ln rest n)
    (K : ∀ n' lk' lv' ln', tm_X fL fB (a + P.length + 1) b lk lv ln ch a b lk' lv' ln' ch → tm_CH (tm_US fL a) lk' lv' ln' (P ++ (k, v) :: rest) n' → post n' (nI a, fb, sh, ld, ck, lk', lv', ln', ch, lm, bm, fL, fB, ro, sz, pa, wk, wo, lK, lV, op, bg, tc, en, aj, aR, aK, aD, sn, sA, sK, sD, cg, qK, qD, qF, qL)) : wX_chainWith_77 post k v n fl fb sh ld ck lk lv ln ch lm bm fL fB ro sz pa wk wo lK lV op bg tc en aj aR aK aD sn sA sK sD cg qK qD qF qL := by
  unfold wX_chainWith_77
  refine tm_newLeaf (a := a + P.length) (b := b) hfl F (tm_CH_nd C) ?_
  intro j lk' lv' ln' hj u x' ek ev en
  refine tm_front (a := a) (b := b) (P := P) (rest := (k, v) :: rest) rfl hld hP A (tm_FI_le F (by omega)) ⟨j, hj, u, rfl, ek, ev, by rw [en]; exact tm_CH_X x' C⟩ ?_
  intro n' lk2 lv2 ln2 y C'
  exact K n' lk2 lv2 ln2 (tm_X_trans x' y) C'
theorem tm_cw8 {post : Int32 → SX → Prop} {k v : Int32} (F : tm_FI fL a 384) (ha : 11 ≤ a) : ∀ (q A : List tm_E) (n ld : Int32) (lK lV : Nat → Int32), tm_CH (tm_US fL a) lk lv ln q n → tm_SO (A ++ q) → (∀ e, e ∈ A → e.1 < k) → tm_LA lK lV A → ld = nI A.length → (A ++ q).length ≤ 10 →
    (∀ n' a' ld' lk' lv' ln' lK' lV', a ≤ a' + 11 → tm_X fL fB a b lk lv ln ch a' b lk' lv' ln' ch → tm_CH (tm_US fL a') lk' lv' ln' (tm_ins k v (A ++ q)) n' → post n' (nI a', fb, sh, ld', ck, lk', lv', ln', ch, lm, bm, fL, fB, ro, sz, pa, wk, wo, lK', lV', op, bg, tc, en, aj, aR, aK, aD, sn, sA, sK, sD, cg, qK, qD, qF, qL)) →
    ∀ m, q.length < m → wX_chainWith_8 post k v m n (nI a) fb sh ld ck lk lv ln ch lm bm fL fB ro sz pa wk wo lK lV op bg tc en aj aR aK aD sn sA sK sD cg qK qD qF qL := by
  intro q
  induction q with
  | nil =>
    intro A n ld lK lV C s hA LA hld hl K m hm
    obtain ⟨m, rfl⟩ : ∃ m', m = m' + 1 := ⟨m - 1, by omega⟩
    have e : n ≤ 0 := by rw [show n = 0 from C]; decide
    rw [List.append_nil] at hl
    obtain ⟨a', ea⟩ : ∃ a', a = a' + A.length + 1 := ⟨a - (A.length + 1), by omega⟩
    refine br_t e (br_t e (tm_cw77 (a := a') (b := b) (P := A) (rest := []) (congrArg nI ea) hld hl LA (ea ▸ F) (ea ▸ C) ?_))
    intro n' lk' lv' ln' x C'
    rw [← ea] at x
    refine K n' a' ld lk' lv' ln' lK lV (by omega) x ?_
    rw [tm_ins_split hA (fun e he => absurd he List.not_mem_nil)]
    exact C'
  | cons e t ih =>
    intro A n ld lK lV C s hA LA hld hl K m hm
    have C0 := C
    obtain ⟨j, h1, h2, h3, h4, h5, h6⟩ := C
    subst h3
    obtain ⟨m, rfl⟩ : ∃ m', m = m' + 1 := ⟨m - 1, by omega⟩
    have e1 : (nI (j + 1) - 1).toNatClampNeg = j := by rw [tm_pred]; exact nI_clamp (by omega)
    have e2 : vp_in (nI (j + 1) - 1) 384 := by rw [tm_pred]; exact tm_in h1
    have e3 : lk (nI (j + 1) - 1).toNatClampNeg = e.1 := by rw [e1]; exact h4
    have hl' : A.length + (t.length + 1) ≤ 10 := by rw [List.length_append, List.length_cons] at hl; exact hl
    have ⟨sA, sq, sx⟩ := List.pairwise_append.mp s
    have ⟨s1, s2⟩ := tm_so_cons.mp sq
    obtain ⟨a', ea⟩ : ∃ a', a = a' + A.length + 1 := ⟨a - (A.length + 1), by omega⟩
    refine br_f (tm_pos h1) ⟨e2, ?_⟩
    by_cases c : k ≤ e.1
    · refine br_t (by rw [e3]; exact c) (br_f (tm_pos h1) ⟨e2, ?_⟩)
      by_cases c2 : e.1 = k
      · refine br_t (e3.trans c2) ⟨e2, nm_r (congrArg ln e1) (tm_cw77 (a := a') (b := b) (P := A) (rest := t) (congrArg nI ea) hld (by omega) LA (ea ▸ F) (ea ▸ h6) ?_)⟩
        intro n' lk' lv' ln' x C'
        rw [← ea] at x
        refine K n' a' ld lk' lv' ln' lK lV (by omega) x ?_
        rw [show e = (k, e.2) from Prod.ext c2 rfl, tm_ins_split_eq hA]
        exact C'
      · have hk : k < e.1 := tm_gt (tm_le_nlt c) c2
        refine br_f (by rw [e3]; exact c2) (tm_cw77 (a := a') (b := b) (P := A) (rest := e :: t) (congrArg nI ea) hld (by omega) LA (ea ▸ F) (ea ▸ C0) ?_)
        intro n' lk' lv' ln' x C'
        rw [← ea] at x
        refine K n' a' ld lk' lv' ln' lK lV (by omega) x ?_
        rw [tm_ins_split hA]
        · exact C'
        · intro y hy
          rcases List.mem_cons.mp hy with r | r
          · rw [r]; exact hk
          · exact tm_ltt hk (s1 y r)
    · have c2 : e.1 < k := tm_nle_lt c
      refine br_f (by rw [e3]; exact c) ?_
      rw [tm_pred]
      have hno : tm_look (lk j) A = none := tm_look_none.mpr fun x hx => by rw [h4]; exact tm_lne (sx x hx e List.mem_cons_self)
      have hins : tm_ins (lk j) (lv j) A = A ++ [e] := by
        have := tm_ins_split (k := lk j) (v := lv j) (P := A) (Q := []) (fun x hx => by rw [h4]; exact sx x hx e List.mem_cons_self) (fun x hx => absurd hx List.not_mem_nil)
        rw [List.append_nil] at this
        rw [this, show e = (lk j, lv j) from Prod.ext h4.symm h5.symm]
      refine tm_listEntry (q := A) sA hld (by omega) LA h1 hno ?_
      rw [hins]
      intro lK' lV' LA'
      refine ⟨tm_in h1, nm_r (congrArg ln (nI_clamp (by omega))) (ih (A ++ [e]) (ln j) _ lK' lV' h6 ?_ ?_ LA' ?_ ?_ ?_ m (by rw [List.length_cons] at hm; omega))⟩
      · rw [List.append_assoc]; exact s
      · intro x hx
        rcases List.mem_append.mp hx with r | r
        · exact hA x r
        · rw [List.mem_singleton.mp r]; exact c2
      · rw [List.length_append, List.length_singleton]
      · rw [List.append_assoc]; exact hl
      · rw [List.append_assoc]; exact K
theorem tm_chainWith {post : Int32 → SX → Prop} {k v n : Int32} {q : List tm_E} (hfl : fl = nI a) (F : tm_FI fL a 384) (ha : 11 ≤ a) (C : tm_CH (tm_US fL a) lk lv ln q n) (s : tm_SO q) (hl : q.length ≤ 10)
    (K : ∀ n' a' ld' lk' lv' ln' lK' lV', a ≤ a' + 11 → tm_X fL fB a b lk lv ln ch a' b lk' lv' ln' ch → tm_CH (tm_US fL a') lk' lv' ln' (tm_ins k v q) n' → post n' (nI a', fb, sh, ld', ck, lk', lv', ln', ch, lm, bm, fL, fB, ro, sz, pa, wk, wo, lK', lV', op, bg, tc, en, aj, aR, aK, aD, sn, sA, sK, sD, cg, qK, qD, qF, qL)) : wpX_chainWith post (fl, fb, sh, ld, ck, lk, lv, ln, ch, lm, bm, fL, fB, ro, sz, pa, wk, wo, lK, lV, op, bg, tc, en, aj, aR, aK, aD, sn, sA, sK, sD, cg, qK, qD, qF, qL) n k v := by
  subst hfl
  unfold wpX_chainWith
  refine ⟨q.length + 1, ?_⟩
  exact tm_cw8 F ha q [] n 0 lK lV C s (fun e he => absurd he List.not_mem_nil) tm_LA_nil rfl hl K _ (Nat.lt_succ_self _)
theorem tm_co7 {post : Int32 → SX → Prop} {k : Int32} (F : tm_FI fL a 384) (ha : 11 ≤ a) : ∀ (q A : List tm_E) (n ld : Int32) (lK lV : Nat → Int32), tm_CH (tm_US fL a) lk lv ln q n → tm_SO (A ++ q) → (∀ e, e ∈ A → e.1 < k) → (∃ w, (k, w) ∈ q) → tm_LA lK lV A → ld = nI A.length → (A ++ q).length ≤ 10 →
    (∀ n' a' ld' lk' lv' ln' lK' lV', a ≤ a' + 11 → tm_X fL fB a b lk lv ln ch a' b lk' lv' ln' ch → tm_CH (tm_US fL a') lk' lv' ln' (tm_del k (A ++ q)) n' → post n' (nI a', fb, sh, ld', ck, lk', lv', ln', ch, lm, bm, fL, fB, ro, sz, pa, wk, wo, lK', lV', op, bg, tc, en, aj, aR, aK, aD, sn, sA, sK, sD, cg, qK, qD, qF, qL)) →
    ∀ m, q.length < m → wX_chainWithout_7 post k m n (nI a) fb sh ld ck lk lv ln ch lm bm fL fB ro sz pa wk wo lK lV op bg tc en aj aR aK aD sn sA sK sD cg qK qD qF qL := by
  intro q
  induction q with
  | nil =>
    intro A n ld lK lV C s hA hw
    obtain ⟨w, hw⟩ := hw
    exact absurd hw List.not_mem_nil
  | cons e t ih =>
    intro A n ld lK lV C s hA hw LA hld hl K m hm
    obtain ⟨j, h1, h2, h3, h4, h5, h6⟩ := C
    subst h3
    obtain ⟨m, rfl⟩ : ∃ m', m = m' + 1 := ⟨m - 1, by omega⟩
    have e1 : (nI (j + 1) - 1).toNatClampNeg = j := by rw [tm_pred]; exact nI_clamp (by omega)
    have e2 : vp_in (nI (j + 1) - 1) 384 := by rw [tm_pred]; exact tm_in h1
    have e3 : lk (nI (j + 1) - 1).toNatClampNeg = e.1 := by rw [e1]; exact h4
    have hl' : A.length + (t.length + 1) ≤ 10 := by rw [List.length_append, List.length_cons] at hl; exact hl
    have ⟨sA, sq, sx⟩ := List.pairwise_append.mp s
    have ⟨s1, s2⟩ := tm_so_cons.mp sq
    obtain ⟨a', ea⟩ : ∃ a', a = a' + A.length := ⟨a - A.length, by omega⟩
    refine ⟨e2, ?_⟩
    by_cases c : k ≤ e.1
    · have c2 : e.1 = k := by
        obtain ⟨w, hw⟩ := hw
        rcases List.mem_cons.mp hw with r | r
        · rw [← r]
        · exact absurd (s1 _ r) (fun z => tm_le_nlt c z)
      refine br_t (by rw [e3]; exact c) ⟨e2, ?_⟩
      rw [e1]
      refine tm_front (a := a') (b := b) (P := A) (rest := t) (congrArg nI ea) hld (by omega) LA (ea ▸ F) (ea ▸ h6) ?_
      intro n' lk' lv' ln' x C'
      rw [← ea] at x
      refine K n' a' ld lk' lv' ln' lK lV (by omega) x ?_
      rw [show e = (k, e.2) from Prod.ext c2 rfl, tm_del_split hA (fun y hy => by rw [← c2]; exact s1 y hy)]
      exact C'
    · have c2 : e.1 < k := tm_nle_lt c
      refine br_f (by rw [e3]; exact c) ?_
      rw [tm_pred]
      have hno : tm_look (lk j) A = none := tm_look_none.mpr fun x hx => by rw [h4]; exact tm_lne (sx x hx e List.mem_cons_self)
      have hins : tm_ins (lk j) (lv j) A = A ++ [e] := by
        have := tm_ins_split (k := lk j) (v := lv j) (P := A) (Q := []) (fun x hx => by rw [h4]; exact sx x hx e List.mem_cons_self) (fun x hx => absurd hx List.not_mem_nil)
        rw [List.append_nil] at this
        rw [this, show e = (lk j, lv j) from Prod.ext h4.symm h5.symm]
      refine tm_listEntry (q := A) sA hld (by omega) LA h1 hno ?_
      rw [hins]
      intro lK' lV' LA'
      refine ⟨tm_in h1, nm_r (congrArg ln (nI_clamp (by omega))) (ih (A ++ [e]) (ln j) _ lK' lV' h6 ?_ ?_ ?_ LA' ?_ ?_ ?_ m (by rw [List.length_cons] at hm; omega))⟩
      · rw [List.append_assoc]; exact s
      · intro x hx
        rcases List.mem_append.mp hx with r | r
        · exact hA x r
        · rw [List.mem_singleton.mp r]; exact c2
      · obtain ⟨w, hw⟩ := hw
        rcases List.mem_cons.mp hw with r | r
        · exact absurd c2 (by rw [← r]; exact tm_irr k)
        · exact ⟨w, r⟩
      · rw [List.length_append, List.length_singleton]
      · rw [List.append_assoc]; exact hl
      · rw [List.append_assoc]; exact K
theorem tm_chainWithout {post : Int32 → SX → Prop} {k n : Int32} {q : List tm_E} (hfl : fl = nI a) (F : tm_FI fL a 384) (ha : 11 ≤ a) (C : tm_CH (tm_US fL a) lk lv ln q n) (s : tm_SO q) (hl : q.length ≤ 10) (hw : ∃ w, (k, w) ∈ q)
    (K : ∀ n' a' ld' lk' lv' ln' lK' lV', a ≤ a' + 11 → tm_X fL fB a b lk lv ln ch a' b lk' lv' ln' ch → tm_CH (tm_US fL a') lk' lv' ln' (tm_del k q) n' → post n' (nI a', fb, sh, ld', ck, lk', lv', ln', ch, lm, bm, fL, fB, ro, sz, pa, wk, wo, lK', lV', op, bg, tc, en, aj, aR, aK, aD, sn, sA, sK, sD, cg, qK, qD, qF, qL)) : wpX_chainWithout post (fl, fb, sh, ld, ck, lk, lv, ln, ch, lm, bm, fL, fB, ro, sz, pa, wk, wo, lK, lV, op, bg, tc, en, aj, aR, aK, aD, sn, sA, sK, sD, cg, qK, qD, qF, qL) n k := by
  subst hfl
  unfold wpX_chainWithout
  refine ⟨q.length + 1, ?_⟩
  exact tm_co7 F ha q [] n 0 lK lV C s (fun e he => absurd he List.not_mem_nil) hw tm_LA_nil rfl hl K _ (Nat.lt_succ_self _)
end
end
section
/-! descend, part, onlyChild, rebuild -/
def tm_PE (S T : Nat → Prop) (h : Int32 → Nat) (lk lv ln ch : Nat → Int32) (c : Nat) (l : List tm_E) (pa : Nat → Int32) (u : Nat) : Prop :=
  ∃ b, b < 544 ∧ T b ∧ pa u = nI b ∧ ¬ tm_AH h (tm_rl h c u l) ∧ ∀ i, i < 4 → tm_R S T h lk lv ln ch (3 - u) (tm_sub h u i (tm_rl h c u l)) (ch (4 * b + i))
section
variable {fl fb sh ld : Int32} {ck : Int64} {lk lv ln ch lm bm fL fB ro sz pa wk wo lK lV op tc en aj aR aK aD sn sA sK sD qK qD qF qL : Nat → Int32} {bg cg : Nat → Int64}
variable {S T : Nat → Prop}
theorem tm_desc5 {post : Int32 → SX → Prop} {l : List tm_E} {c : Nat} (hc : c < 256)
    (K : ∀ v pa', v ≤ 4 → (∀ u, u < v → tm_PE S T (tm_h sh) lk lv ln ch c l pa' u) → tm_AH (tm_h sh) (tm_rl (tm_h sh) c v l) → tm_CH S lk lv ln (tm_rl (tm_h sh) c v l) (pa' v) → post (nI v) (fl, fb, sh, ld, ck, lk, lv, ln, ch, lm, bm, fL, fB, ro, sz, pa', wk, wo, lK, lV, op, bg, tc, en, aj, aR, aK, aD, sn, sA, sK, sD, cg, qK, qD, qF, qL)) :
    ∀ (d : Nat) (n : Int32) (pa : Nat → Int32), d ≤ 4 → tm_R S T (tm_h sh) lk lv ln ch d (tm_rl (tm_h sh) c (4 - d) l) n → (∀ u, u < 4 - d → tm_PE S T (tm_h sh) lk lv ln ch c l pa u) → wX_descend_5 post (nI c) fl fb sh ld ck (d + 1) (nI (4 - d)) n lk lv ln ch lm bm fL fB ro sz pa wk wo lK lV op bg tc en aj aR aK aD sn sA sK sD cg qK qD qF qL := by
  have fin : ∀ (d : Nat) (n : Int32) (pa : Nat → Int32), d ≤ 4 → tm_AH (tm_h sh) (tm_rl (tm_h sh) c (4 - d) l) → tm_CH S lk lv ln (tm_rl (tm_h sh) c (4 - d) l) n → (∀ u, u < 4 - d → tm_PE S T (tm_h sh) lk lv ln ch c l pa u) → wX_descend_5 post (nI c) fl fb sh ld ck (d + 1) (nI (4 - d)) n lk lv ln ch lm bm fL fB ro sz pa wk wo lK lV op bg tc en aj aR aK aD sn sA sK sD cg qK qD qF qL := by
    intro d n pa hd a C P
    refine br_t (tm_CH_nn C) ⟨tm_in (by omega), nm_r (e' := upd pa (4 - d) n) (by rw [nI_clamp (by omega), tm_nar16' (tm_CH_nd C)]) (K (4 - d) _ (by omega) (fun u hu => ?_) a (by rw [pk_us]; exact C))⟩
    obtain ⟨b, h1, h2, h3, h4⟩ := P u hu
    exact ⟨b, h1, h2, by rw [pk_un (by omega)]; exact h3, h4⟩
  intro d
  induction d with
  | zero => intro n pa hd H P; exact fin 0 n pa hd H.1 H.2 P
  | succ d ih =>
    intro n pa hd H P
    by_cases g : 0 ≤ n
    · have q := tm_R_nn H g
      exact fin (d + 1) n pa hd q.1 q.2 P
    · obtain ⟨e, b, he, a, h1, h2, h3, h4⟩ := tm_R_ng H g
      obtain rfl : d = e := by omega
      subst h3
      have ed := tm_dg_lt c (4 - (d + 1))
      refine br_f g ⟨tm_in (by omega), nm_r (e' := upd pa (4 - (d + 1)) (nI b)) (by rw [nI_clamp (by omega), tm_nb_b h1, tm_nar16' (tm_nd_n (by omega))]) (nm_r (e' := nI (4 - d)) ?_ (tm_dig hc (by omega) ?_))⟩
      · rw [nI_1]; exact congrArg nI (by omega)
      · rw [tm_4b' _ h1]
        refine ⟨tm_in (by omega), nm_r (congrArg ch (nI_clamp (by omega))) (ih _ _ (by omega) ?_ ?_)⟩
        · have e3 : 4 - (d + 1) = 3 - d := by omega
          rw [e3] at h4 ⊢
          exact tm_R_step (by omega) h4
        · intro u hu
          by_cases z : u = 4 - (d + 1)
          · subst z
            refine ⟨b, h1, h2, pk_us, a, ?_⟩
            have e3 : 3 - d = 4 - (d + 1) := by omega
            have e4 : 3 - (4 - (d + 1)) = d := by omega
            rw [e4, ← e3]
            rw [← e3] at h4
            exact h4
          · obtain ⟨b', g1, g2, g3, g4⟩ := P u (by omega)
            exact ⟨b', g1, g2, by rw [pk_un z]; exact g3, g4⟩
theorem tm_descend {post : Int32 → SX → Prop} {l : List tm_E} {c : Nat} {n : Int32} (hc : c < 256) (H : tm_R S T (tm_h sh) lk lv ln ch 4 l n)
    (K : ∀ v pa', v ≤ 4 → (∀ u, u < v → tm_PE S T (tm_h sh) lk lv ln ch c l pa' u) → tm_AH (tm_h sh) (tm_rl (tm_h sh) c v l) → tm_CH S lk lv ln (tm_rl (tm_h sh) c v l) (pa' v) → post (nI v) (fl, fb, sh, ld, ck, lk, lv, ln, ch, lm, bm, fL, fB, ro, sz, pa', wk, wo, lK, lV, op, bg, tc, en, aj, aR, aK, aD, sn, sA, sK, sD, cg, qK, qD, qF, qL)) : wpX_descend post (fl, fb, sh, ld, ck, lk, lv, ln, ch, lm, bm, fL, fB, ro, sz, pa, wk, wo, lK, lV, op, bg, tc, en, aj, aR, aK, aD, sn, sA, sK, sD, cg, qK, qD, qF, qL) n (nI c) := by
  unfold wpX_descend
  refine ⟨5, tm_desc5 (S := S) (T := T) (l := l) hc K 4 n pa (by omega) ?_ (fun u hu => absurd hu (by omega))⟩
  rw [show 4 - 4 = 0 from rfl, tm_rl_0]
  exact H
end
/-! part -/
section
variable {h : Int32 → Nat} {o c : Nat} {k v : Int32} {q : List tm_E}
theorem tm_pt_mem (s : tm_SO q) (hq : ∀ e, e ∈ q → h e.1 = o) (hk : h k = c) (n : o ≠ c) {e : tm_E} : e ∈ tm_ins k v q ↔ e = (k, v) ∨ e ∈ q := by
  rw [tm_mem_ins s]
  constructor
  · rintro (r | r)
    · exact Or.inl r
    · exact Or.inr r.1
  · rintro (r | r)
    · exact Or.inl r
    · exact Or.inr ⟨r, fun z => n (by rw [← hk, ← z, hq e r])⟩
theorem tm_pt_nAH (s : tm_SO q) (h0 : q ≠ []) (hq : ∀ e, e ∈ q → h e.1 = o) (hk : h k = c) (n : o ≠ c) : ¬ tm_AH h (tm_ins k v q) := by
  intro a
  obtain ⟨e, t, rfl⟩ := List.exists_cons_of_ne_nil h0
  have := a e ((tm_pt_mem s hq hk n).mpr (Or.inr List.mem_cons_self)) (k, v) ((tm_pt_mem s hq hk n).mpr (Or.inl rfl))
  rw [hq e List.mem_cons_self] at this
  exact n (this.trans hk)
theorem tm_pt_same (s : tm_SO q) (hq : ∀ e, e ∈ q → h e.1 = o) (hk : h k = c) (n : o ≠ c) {u : Nat} (g : tm_dg o u = tm_dg c u) : tm_sub h u (tm_dg o u) (tm_ins k v q) = tm_ins k v q ∧ ∀ i, i ≠ tm_dg o u → tm_sub h u i (tm_ins k v q) = [] := by
  have key : ∀ e, e ∈ tm_ins k v q → tm_dg (h e.1) u = tm_dg o u := by
    intro e he
    rcases (tm_pt_mem s hq hk n).mp he with r | r
    · rw [r, g]; exact congrArg (tm_dg · u) hk
    · rw [hq e r]
  refine ⟨tm_fl_all fun e he => decide_eq_true (key e he), fun i hi => tm_fl_none fun e he => ?_⟩
  rw [decide_eq_true_iff, key e he]
  exact fun z => hi z.symm
theorem tm_pt_o (s : tm_SO q) (hq : ∀ e, e ∈ q → h e.1 = o) (hk : h k = c) (n : o ≠ c) {u : Nat} (g : tm_dg o u ≠ tm_dg c u) : tm_sub h u (tm_dg o u) (tm_ins k v q) = q := by
  apply tm_ext (tm_so_sub (tm_so_ins s)) s
  intro e
  rw [tm_mem_sub, tm_pt_mem s hq hk n]
  constructor
  · rintro ⟨r | r, z⟩
    · rw [r] at z
      exact absurd (z.symm.trans (congrArg (tm_dg · u) hk)) g
    · exact r
  · intro r
    exact ⟨Or.inr r, by rw [hq e r]⟩
theorem tm_pt_c (s : tm_SO q) (hq : ∀ e, e ∈ q → h e.1 = o) (hk : h k = c) (n : o ≠ c) {u : Nat} (g : tm_dg o u ≠ tm_dg c u) : tm_sub h u (tm_dg c u) (tm_ins k v q) = [(k, v)] := by
  apply tm_ext (tm_so_sub (tm_so_ins s)) (List.pairwise_singleton _ _)
  intro e
  rw [tm_mem_sub, tm_pt_mem s hq hk n, List.mem_singleton]
  constructor
  · rintro ⟨r | r, z⟩
    · exact r
    · rw [hq e r] at z
      exact absurd z g
  · intro r
    exact ⟨Or.inl r, by rw [r]; exact congrArg (tm_dg · u) hk⟩
theorem tm_pt_i (s : tm_SO q) (hq : ∀ e, e ∈ q → h e.1 = o) (hk : h k = c) (n : o ≠ c) {u i : Nat} (g : i ≠ tm_dg o u) (g' : i ≠ tm_dg c u) : tm_sub h u i (tm_ins k v q) = [] := by
  refine tm_fl_none fun e he => ?_
  rw [decide_eq_true_iff]
  intro z
  rcases (tm_pt_mem s hq hk n).mp he with r | r
  · rw [r] at z
    exact g' (z.symm.trans (congrArg (tm_dg · u) hk))
  · rw [hq e r] at z
    exact g z.symm
end
section
variable {fL fB lk lv ln ch lk' lv' ln' ch' : Nat → Int32} {a b a' b' : Nat}
theorem tm_X_upd {c0 i : Nat} {x : Int32} (X : tm_X fL fB a b lk lv ln ch a' b' lk' lv' ln' ch') (nu : ¬ tm_US fB b c0) (hi : i < 4) : tm_X fL fB a b lk lv ln ch a' b' lk' lv' ln' (upd ch' (4 * c0 + i) x) := by
  refine ⟨X.1, X.2.1, X.2.2.1, fun c hc u t ht => ?_⟩
  have : c ≠ c0 := fun z => nu (z ▸ u)
  rw [pk_un (by omega)]
  exact X.2.2.2 c hc u t ht
end
section
variable {fl fb sh ld : Int32} {ck : Int64} {lk lv ln ch lm bm fL fB ro sz pa wk wo lK lV op tc en aj aR aK aD sn sA sK sD qK qD qF qL : Nat → Int32} {bg cg : Nat → Int64}
variable {a : Nat}
theorem tm_part75 {post : Int32 → SX → Prop} {o c v0 : Nat} {k v : Int32} {q : List tm_E} (ho : o < 256) (s : tm_SO q) (h0 : q ≠ []) (hq : ∀ e, e ∈ q → tm_h sh e.1 = o) (hk : tm_h sh k = c) (hn : o ≠ c) :
    ∀ (r b : Nat) (n : Int32) (ch : Nat → Int32), tm_FI fB (b + r) 544 → v0 + r ≤ 3 → tm_R (tm_US fL a) (tm_US fB (b + r)) (tm_h sh) lk lv ln ch (4 - (v0 + r)) (tm_ins k v q) n → (∀ u, v0 ≤ u → u < v0 + r → tm_dg o u = tm_dg c u) →
    (∀ n' ch', tm_X fL fB a (b + r) lk lv ln ch a b lk lv ln ch' → tm_R (tm_US fL a) (tm_US fB b) (tm_h sh) lk lv ln ch' (4 - v0) (tm_ins k v q) n' → post n' (fl, nI b, sh, ld, ck, lk, lv, ln, ch', lm, bm, fL, fB, ro, sz, pa, wk, wo, lK, lV, op, bg, tc, en, aj, aR, aK, aD, sn, sA, sK, sD, cg, qK, qD, qF, qL)) →
    ∀ m, r < m → wX_part_75 post (nI o) (nI v0) m (nI (v0 + r)) n fl (nI (b + r)) sh ld ck lk lv ln ch lm bm fL fB ro sz pa wk wo lK lV op bg tc en aj aR aK aD sn sA sK sD cg qK qD qF qL := by
  intro r
  induction r with
  | zero =>
    intro b n ch F hv R0 hd K m hm
    obtain ⟨m, rfl⟩ : ∃ m', m = m' + 1 := ⟨m - 1, by omega⟩
    exact nm_e (br_t (nI_le (Nat.le_refl _) (by omega)) (K n ch tm_X_refl R0))
  | succ r ih =>
    intro b n ch F hv R0 hd K m hm
    obtain ⟨m, rfl⟩ : ∃ m', m = m' + 1 := ⟨m - 1, by omega⟩
    have ed := tm_dg_lt o (v0 + r)
    refine nm_r (e' := nI (v0 + r)) (pk_m1 _) (br_f (nI_ge (by omega) (by omega)) ?_)
    refine tm_newBranch (a := a) (b := b + r) rfl F ?_
    intro c0 ch' hc0 u0 nu X Z
    refine tm_dig ho (by omega) ?_
    rw [tm_4b]
    refine ⟨tm_in (by omega), nm_r (e' := upd ch' (4 * c0 + tm_dg o (v0 + r)) n) (by rw [nI_clamp (by omega), tm_nar16' (tm_R_nd R0)]) (nm_e ?_)⟩
    have X2 := tm_X_upd (x := n) X nu ed
    refine ih b _ _ (tm_FI_le F (by omega)) (by omega) ?_ (fun u h1 h2 => hd u h1 (by omega)) ?_ m (by omega)
    · have hs := tm_pt_same (v := v) s hq hk hn (hd (v0 + r) (by omega) (by omega))
      rw [show 4 - (v0 + r) = 3 - (v0 + r) + 1 by omega]
      refine tm_R_br (tm_pt_nAH s h0 hq hk hn) hc0 u0 fun i hi => ?_
      rw [show 3 - (3 - (v0 + r)) = v0 + r by omega]
      by_cases z : i = tm_dg o (v0 + r)
      · rw [z, hs.1, pk_us]
        have := tm_R_X X2 R0
        rw [show 4 - (v0 + (r + 1)) = 3 - (v0 + r) by omega] at this
        exact this
      · rw [hs.2 i z, pk_un (by omega), Z i hi]
        exact tm_R_nil
    · intro n' ch2 Y R'
      exact K n' ch2 (tm_X_trans X2 Y) R'
theorem tm_part {post : Int32 → SX → Prop} {o c v0 b : Nat} {k v x y : Int32} {q : List tm_E} (hfb : fb = nI b) (F : tm_FI fB b 544) (hb : 4 ≤ b) (hc : c < 256) (s : tm_SO q) (h0 : q ≠ []) (hq : ∀ e, e ∈ q → tm_h sh e.1 = o) (hk : tm_h sh k = c) (hn : o ≠ c)
    (hv : v0 ≤ 4) (hm : o % 4 ^ v0 = c % 4 ^ v0) (Cx : tm_CH (tm_US fL a) lk lv ln q x) (Cy : tm_CH (tm_US fL a) lk lv ln [(k, v)] y)
    (K : ∀ n' b' ch', b ≤ b' + 4 → tm_X fL fB a b lk lv ln ch a b' lk lv ln ch' → tm_R (tm_US fL a) (tm_US fB b') (tm_h sh) lk lv ln ch' (4 - v0) (tm_ins k v q) n' → post n' (fl, nI b', sh, ld, ck, lk, lv, ln, ch', lm, bm, fL, fB, ro, sz, pa, wk, wo, lK, lV, op, bg, tc, en, aj, aR, aK, aD, sn, sA, sK, sD, cg, qK, qD, qF, qL)) : wpX_part post (fl, fb, sh, ld, ck, lk, lv, ln, ch, lm, bm, fL, fB, ro, sz, pa, wk, wo, lK, lV, op, bg, tc, en, aj, aR, aK, aD, sn, sA, sK, sD, cg, qK, qD, qF, qL) x (nI o) y (nI c) (nI v0) := by
  have ho : o < 256 := by
    obtain ⟨e, t, rfl⟩ := List.exists_cons_of_ne_nil h0
    rw [← hq e List.mem_cons_self]; exact tm_h_lt _ _
  obtain ⟨w, w1, w2, w3, w4⟩ := tm_first ho hc hn hm hv
  subst hfb
  unfold wpX_part
  refine ⟨w - v0 + 1, ?_⟩
  have lp : ∀ r u, u + r = w → v0 ≤ u → wX_part_4 post x (nI o) y (nI c) (nI v0) fl (nI b) sh ld ck lk lv ln ch lm bm fL fB ro sz pa wk wo lK lV op bg tc en aj aR aK aD sn sA sK sD cg qK qD qF qL (r + 1) (nI u) := by
    intro r
    induction r with
    | zero =>
      intro u hu hv0
      obtain rfl : u = w := by omega
      obtain ⟨r, rfl⟩ : ∃ r, u = v0 + r := ⟨u - v0, by omega⟩
      have do4 := tm_dg_lt o (v0 + r)
      have dc4 := tm_dg_lt c (v0 + r)
      unfold wX_part_4
      refine tm_dig ho w2 ?_
      refine tm_dig hc w2 ?_
      refine br_f (fun z => w3 (tm_inj (by omega) (by omega) z)) ?_
      obtain ⟨b', eb⟩ : ∃ b', b = b' + r + 1 := ⟨b - (r + 1), by omega⟩
      refine tm_newBranch (a := a) (b := b' + r) (congrArg nI eb) (eb ▸ F) ?_
      intro c0 ch' hc0 u0 nu X Z
      rw [← eb] at X nu
      refine tm_dig ho w2 ?_
      rw [tm_4b]
      refine ⟨tm_in (by omega), nm_r (e' := upd ch' (4 * c0 + tm_dg o (v0 + r)) x) (by rw [nI_clamp (by omega), tm_nar16' (tm_CH_nd Cx)]) ?_⟩
      refine tm_dig hc w2 ?_
      rw [tm_4b]
      refine ⟨tm_in (by omega), nm_r (e' := upd (upd ch' (4 * c0 + tm_dg o (v0 + r)) x) (4 * c0 + tm_dg c (v0 + r)) y) (by rw [nI_clamp (by omega), tm_nar16' (tm_CH_nd Cy)]) (nm_e ⟨r + 1, ?_⟩)⟩
      have X2 := tm_X_upd (x := y) (tm_X_upd (x := x) X nu do4) nu dc4
      refine tm_part75 (a := a) (c := c) (k := k) (v := v) (q := q) ho s h0 hq hk hn r b' (-1 - nI c0) _ (tm_FI_le F (by omega)) (by omega) ?_ (fun t h1 h2 => w4 t h1 (by omega)) ?_ (r + 1) (Nat.lt_succ_self _)
      · rw [show 4 - (v0 + r) = 3 - (v0 + r) + 1 by omega]
        refine tm_R_br (tm_pt_nAH s h0 hq hk hn) hc0 u0 fun i hi => ?_
        rw [show 3 - (3 - (v0 + r)) = v0 + r by omega]
        by_cases z1 : i = tm_dg c (v0 + r)
        · rw [z1, tm_pt_c s hq hk hn w3, pk_us]
          refine tm_R_ch ?_ (tm_CH_X X2 Cy)
          intro x1 hx1 y1 hy1
          rw [List.mem_singleton.mp hx1, List.mem_singleton.mp hy1]
        · rw [pk_un (by omega)]
          by_cases z2 : i = tm_dg o (v0 + r)
          · rw [z2, tm_pt_o s hq hk hn w3, pk_us]
            refine tm_R_ch ?_ (tm_CH_X X2 Cx)
            intro x1 hx1 y1 hy1
            rw [hq x1 hx1, hq y1 hy1]
          · rw [pk_un (by omega), Z i hi, tm_pt_i s hq hk hn z2 z1]
            exact tm_R_nil
      · intro n' ch2 Y R'
        exact K n' b' ch2 (by omega) (tm_X_trans X2 Y) R'
    | succ r ih =>
      intro u hu hv0
      unfold wX_part_4
      refine tm_dig ho (by omega) ?_
      refine tm_dig hc (by omega) ?_
      exact br_t (congrArg nI (w4 u hv0 (by omega))) (nm_r (e' := nI (u + 1)) (nI_1 _) (ih (u + 1) (by omega) (by omega)))
  exact lp (w - v0) v0 (by omega) (Nat.le_refl _)
end
end
section
/-! onlyChild, rebuild -/
def tm_OC (nf : Nat → Int32) (g i : Nat) (acc : Int32) : Prop :=
  (acc = 0 ∧ ∀ t, t < 4 → (t = g ∨ t < i) → nf t = 0) ∨ (∃ t0, t0 < 4 ∧ (t0 = g ∨ t0 < i) ∧ acc = nf t0 ∧ 0 < acc ∧ ∀ t, t < 4 → (t = g ∨ t < i) → t ≠ t0 → nf t = 0)
theorem tm_0lt {x : Int32} (h : 0 ≤ x) (n : x ≠ 0) : 0 < x := tm_gt (tm_le_nlt h) n
theorem tm_le0 {x : Int32} (h : x ≤ 0) (n : ¬ x < 0) : x = 0 := by
  by_cases z : x = 0
  · exact z
  · exact absurd (tm_gt n z) (tm_le_nlt h)
section
variable {S T : Nat → Prop} {h : Int32 → Nat} {lk lv ln ch : Nat → Int32}
theorem tm_R_pos {d : Nat} {l : List tm_E} {n : Int32} (H : tm_R S T h lk lv ln ch d l n) (p : 0 < n) : ∃ e, e ∈ l := by
  have g : 0 ≤ n := tm_nlt_le (tm_asy p)
  rcases tm_CH_s (tm_R_nn H g).2 with ⟨r, _⟩ | ⟨j, e, t, r, _⟩
  · rw [r] at p; exact absurd p (tm_irr 0)
  · exact ⟨e, by rw [r]; exact List.mem_cons_self⟩
theorem tm_R_0 {d : Nat} {l : List tm_E} (H : tm_R S T h lk lv ln ch d l 0) : l = [] := by
  rcases tm_CH_s (tm_R_nn H (by decide)).2 with ⟨_, r⟩ | ⟨j, e, t, _, h1, _, r, _⟩
  · exact r
  · exact absurd r.symm (nI_ne0 (by omega) (by omega))
theorem tm_R_neg {d : Nat} {l : List tm_E} {n : Int32} (H : tm_R S T h lk lv ln ch d l n) (p : n < 0) : ¬ tm_AH h l := by
  obtain ⟨e, b, _, a, _⟩ := tm_R_ng H (tm_lt_nle p)
  exact a
end
section
variable {fl fb sh ld : Int32} {ck : Int64} {lk lv ln ch lm bm fL fB ro sz pa wk wo lK lV op tc en aj aR aK aD sn sA sK sD qK qD qF qL : Nat → Int32} {bg cg : Nat → Int64}
variable {S T : Nat → Prop}
theorem tm_only {post : Int32 → Prop} {e b g : Nat} {n : Int32} {q : List tm_E} (hb : b < 544) (hg : g < 4) (hn : 0 ≤ n)
    (H : ∀ i, i < 4 → tm_R S T (tm_h sh) lk lv ln ch e (tm_sub (tm_h sh) (3 - e) i q) (if i = g then n else ch (4 * b + i)))
    (K1 : ∀ r, 0 ≤ r → tm_AH (tm_h sh) q → tm_CH S lk lv ln q r → post r) (K0 : ¬ tm_AH (tm_h sh) q → post (-1)) : wpX_onlyChild post (fl, fb, sh, ld, ck, lk, lv, ln, ch, lm, bm, fL, fB, ro, sz, pa, wk, wo, lK, lV, op, bg, tc, en, aj, aR, aK, aD, sn, sA, sK, sD, cg, qK, qD, qF, qL) (nI b) (nI g) n := by
  unfold wpX_onlyChild
  refine ⟨5, ?_⟩
  have lp : ∀ r i acc, i + r = 4 → tm_OC (fun t => if t = g then n else ch (4 * b + t)) g i acc → wX_onlyChild_6 post (nI b) (nI g) fl fb sh ld ck lk lv ln ch lm bm fL fB ro sz pa wk wo lK lV op bg tc en aj aR aK aD sn sA sK sD cg qK qD qF qL (r + 1) acc (nI i) := by
    intro r
    induction r with
    | zero =>
      intro i acc hi I
      obtain rfl : i = 4 := by omega
      refine br_t (by decide) ?_
      rcases I with ⟨r0, I⟩ | ⟨t0, h1, h2, h3, h4, h5⟩
      · subst r0
        have e0 : q = [] := by
          have hz : ∀ i, i < 4 → tm_sub (tm_h sh) (3 - e) i q = [] := by
            intro i hi
            have := H i hi
            have z := I i hi (Or.inr hi)
            simp only at z
            rw [z] at this
            exact tm_R_0 this
          have := tm_sub_one (h := tm_h sh) (v := 3 - e) (i := 0) (l := q) fun j hj _ => hz j hj
          rw [hz 0 (by decide)] at this
          exact this.symm
        refine K1 0 (by decide) ?_ ?_
        · rw [e0]; exact fun x hx => absurd hx List.not_mem_nil
        · rw [e0]; rfl
      · have hR := H t0 h1
        simp only at h3
        rw [← h3] at hR
        have p : 0 ≤ acc := tm_nlt_le (tm_asy h4)
        have e1 : tm_sub (tm_h sh) (3 - e) t0 q = q := tm_sub_one fun j hj hjn => by
          have := H j hj
          have z := h5 j hj (Or.inr hj) hjn
          simp only at z
          rw [z] at this
          exact tm_R_0 this
        have := tm_R_nn hR p
        rw [e1] at this
        exact K1 acc p this.1 this.2
    | succ r ih =>
      intro i acc hi I
      refine br_f (nI_ge (b := 4) (by omega) (by decide)) ?_
      by_cases z : i = g
      · refine br_t (congrArg nI z) ?_
        refine br_f (by decide) (br_t (by decide) (nm_r (e' := acc) Int32.or_zero (nm_r (e' := nI (i + 1)) (nI_1 _) (ih (i + 1) acc (by omega) ?_))))
        have hh : ∀ t, (t = g ∨ t < i + 1) → (t = g ∨ t < i) := fun t ht => by omega
        rcases I with ⟨r0, I⟩ | ⟨t0, h1, h2, h3, h4, h5⟩
        · exact Or.inl ⟨r0, fun t ht hp => I t ht (hh t hp)⟩
        · exact Or.inr ⟨t0, h1, by omega, h3, h4, fun t ht hp => h5 t ht (hh t hp)⟩
      · have z' : ¬ nI i = nI g := fun e => z (tm_inj (by omega) (by omega) e)
        have hi4 : i < 4 := by omega
        have hR := H i hi4
        rw [if_neg z] at hR
        refine br_f z' ?_
        rw [tm_4b]
        refine ⟨tm_in (by omega), ?_⟩
        rw [nI_clamp (show 4 * b + i < 2 ^ 31 by omega)]
        by_cases c1 : ch (4 * b + i) < 0
        · exact br_t c1 (K0 (tm_nAH_sub (tm_R_neg hR c1)))
        · refine br_f c1 ?_
          by_cases c2 : ch (4 * b + i) ≤ 0
          · have c0 := tm_le0 c2 c1
            refine br_t c2 (nm_r (e' := acc) (by rw [c0]; exact Int32.or_zero) (nm_r (e' := nI (i + 1)) (nI_1 _) (ih (i + 1) acc (by omega) ?_)))
            rcases I with ⟨r0, I⟩ | ⟨t0, h1, h2, h3, h4, h5⟩
            · refine Or.inl ⟨r0, fun t ht hp => ?_⟩
              by_cases zt : t = i
              · simp only; rw [zt, if_neg z]; exact c0
              · exact I t ht (by omega)
            · refine Or.inr ⟨t0, h1, by omega, h3, h4, fun t ht hp hne => ?_⟩
              by_cases zt : t = i
              · simp only; rw [zt, if_neg z]; exact c0
              · exact h5 t ht (by omega) hne
          · refine br_f c2 ?_
            have cp : 0 < ch (4 * b + i) := tm_nle_lt c2
            rcases I with ⟨r0, I⟩ | ⟨t0, h1, h2, h3, h4, h5⟩
            · refine br_t (by rw [r0]; decide) (nm_r (e' := ch (4 * b + i)) (by rw [r0]; exact Int32.zero_or) (nm_r (e' := nI (i + 1)) (nI_1 _) (ih (i + 1) _ (by omega) ?_)))
              refine Or.inr ⟨i, hi4, by omega, ?_, cp, fun t ht hp hne => I t ht (by omega)⟩
              simp only; rw [if_neg z]
            · refine br_f (tm_lt_nle h4) (K0 ?_)
              have hR0 := H t0 h1
              simp only at h3
              rw [← h3] at hR0
              obtain ⟨x, hx⟩ := tm_R_pos hR0 h4
              obtain ⟨y, hy⟩ := tm_R_pos hR cp
              exact tm_nAH_2 (show t0 ≠ i by omega) hx hy
  refine lp 4 0 n rfl ?_
  by_cases z : n = 0
  · refine Or.inl ⟨z, fun t ht hp => ?_⟩
    have : t = g := by omega
    simp only; rw [if_pos this]; exact z
  · refine Or.inr ⟨g, hg, Or.inl rfl, (if_pos rfl).symm, tm_0lt hn z, fun t ht hp hne => absurd (show t = g by omega) hne⟩
end
/-- entries of another hash are the same in both lists -/
theorem tm_FE {h : Int32 → Nat} {c : Nat} {l l' : List tm_E} (E : tm_fl (fun k => decide (h k ≠ c)) l' = tm_fl (fun k => decide (h k ≠ c)) l) {u i : Nat} (n : i ≠ tm_dg c u) : tm_sub h u i (tm_rl h c u l') = tm_sub h u i (tm_rl h c u l) := by
  have key : ∀ m : List tm_E, tm_sub h u i (tm_rl h c u m) = tm_fl (fun k => decide (tm_dg (h k) u = i) && decide (h k % 4 ^ u = c % 4 ^ u)) (tm_fl (fun k => decide (h k ≠ c)) m) := by
    intro m
    unfold tm_sub tm_rl
    rw [tm_fl_fl, tm_fl_fl]
    refine tm_fl_congr fun e _ => ?_
    by_cases z : h e.1 = c
    · rw [z, show decide (tm_dg c u = i) = false from decide_eq_false (fun q => n q.symm)]; rfl
    · rw [show decide (h e.1 ≠ c) = true from decide_eq_true z, Bool.and_true]
  rw [key, key, E]
theorem tm_PE_X {fL fB lk lv ln ch lk' lv' ln' ch' pa : Nat → Int32} {a b a' b' c u : Nat} {h : Int32 → Nat} {l : List tm_E} (X : tm_X fL fB a b lk lv ln ch a' b' lk' lv' ln' ch')
    (P : tm_PE (tm_US fL a) (tm_US fB b) h lk lv ln ch c l pa u) : tm_PE (tm_US fL a') (tm_US fB b') h lk' lv' ln' ch' c l pa u := by
  obtain ⟨d, h1, h2, h3, h4, h5⟩ := P
  refine ⟨d, h1, tm_US_le h2 X.2.1, h3, h4, fun i hi => ?_⟩
  rw [X.2.2.2 d h1 h2 i hi]
  exact tm_R_X X (h5 i hi)
section
variable {fl fb sh ld : Int32} {ck : Int64} {lk lv ln ch lm bm fL fB ro sz pa wk wo lK lV op tc en aj aR aK aD sn sA sK sD qK qD qF qL : Nat → Int32} {bg cg : Nat → Int64}
variable {a : Nat}
theorem tm_reb9 {post : SX → Prop} {hd c : Nat} {l l' : List tm_E} (hh : hd < 38) (hc : c < 256) (E : tm_fl (fun k => decide (tm_h sh k ≠ c)) l' = tm_fl (fun k => decide (tm_h sh k ≠ c)) l) :
    ∀ (v b : Nat) (n : Int32) (ch : Nat → Int32), v ≤ 4 → tm_FI fB b 544 → v ≤ b → (∀ u, u < v → tm_PE (tm_US fL a) (tm_US fB b) (tm_h sh) lk lv ln ch c l pa u) → tm_R (tm_US fL a) (tm_US fB b) (tm_h sh) lk lv ln ch (4 - v) (tm_rl (tm_h sh) c v l') n →
    (∀ n' b' ch', b ≤ b' + v → tm_X fL fB a b lk lv ln ch a b' lk lv ln ch' → tm_R (tm_US fL a) (tm_US fB b') (tm_h sh) lk lv ln ch' 4 l' n' → post (fl, nI b', sh, ld, ck, lk, lv, ln, ch', lm, bm, fL, fB, upd ro hd n', sz, pa, wk, wo, lK, lV, op, bg, tc, en, aj, aR, aK, aD, sn, sA, sK, sD, cg, qK, qD, qF, qL)) →
    ∀ m, v < m → wX_rebuild_9 post (nI hd) (nI c) m n (nI v - 1) fl (nI b) sh ld ck lk lv ln ch lm bm fL fB ro sz pa wk wo lK lV op bg tc en aj aR aK aD sn sA sK sD cg qK qD qF qL := by
  intro v
  induction v with
  | zero =>
    intro b n ch hv F hvb P R0 K m hm
    obtain ⟨m, rfl⟩ : ∃ m', m = m' + 1 := ⟨m - 1, by omega⟩
    rw [tm_rl_0] at R0
    exact br_t (by decide) ⟨tm_in hh, nm_r (e' := upd ro hd n) (by rw [nI_clamp (by omega), tm_nar16' (tm_R_nd R0)]) (K n b ch (by omega) tm_X_refl R0)⟩
  | succ v ih =>
    intro b n ch hv F hvb P R0 K m hm
    obtain ⟨m, rfl⟩ : ∃ m', m = m' + 1 := ⟨m - 1, by omega⟩
    have ed := tm_dg_lt c v
    rw [show nI (v + 1) - 1 = nI v from nI_pred v]
    obtain ⟨f, f1, f2, f3, f4, f5⟩ := P v (by omega)
    obtain ⟨b', rfl⟩ : ∃ b', b = b' + 1 := ⟨b - 1, by omega⟩
    -- the children with the new one in place
    have H : ∀ i, i < 4 → tm_R (tm_US fL a) (tm_US fB (b' + 1)) (tm_h sh) lk lv ln ch (3 - v) (tm_sub (tm_h sh) (3 - (3 - v)) i (tm_rl (tm_h sh) c v l')) (if i = tm_dg c v then n else ch (4 * f + i)) := by
      intro i hi
      rw [show 3 - (3 - v) = v by omega]
      by_cases z : i = tm_dg c v
      · rw [if_pos z, z, tm_rl_s, show 3 - v = 4 - (v + 1) by omega]; exact R0
      · rw [if_neg z, tm_FE E z]; exact f5 i hi
    have nds : ∀ i, i < 4 → tm_nd (ch (4 * f + i)) := fun i hi => tm_R_nd (f5 i hi)
    -- a copy
    have cp : ¬ tm_AH (tm_h sh) (tm_rl (tm_h sh) c v l') → wpX_copyBranch (fun r u => match u with | (fl9, fb9, sh9, ld9, ck9, lk9, lv9, ln9, ch9, lm9, bm9, fL9, fB9, ro9, sz9, pa9, wk9, wo9, lK9, lV9, op9, bg9, tc9, en9, aj9, aR9, aK9, aD9, sn9, sA9, sK9, sD9, cg9, qK9, qD9, qF9, qL9) => ∀ x6, x6 = nI v + (-1) → wX_rebuild_9 post (nI hd) (nI c) m r x6 fl9 fb9 sh9 ld9 ck9 lk9 lv9 ln9 ch9 lm9 bm9 fL9 fB9 ro9 sz9 pa9 wk9 wo9 lK9 lV9 op9 bg9 tc9 en9 aj9 aR9 aK9 aD9 sn9 sA9 sK9 sD9 cg9 qK9 qD9 qF9 qL9) (fl, nI (b' + 1), sh, ld, ck, lk, lv, ln, ch, lm, bm, fL, fB, ro, sz, pa, wk, wo, lK, lV, op, bg, tc, en, aj, aR, aK, aD, sn, sA, sK, sD, cg, qK, qD, qF, qL) (pa (nI v).toNatClampNeg) (nI (tm_dg c v)) n := by
      intro na
      rw [nI_clamp (by omega), f3]
      refine tm_copyBranch (a := a) (b := b') rfl F f1 f2 ed (tm_R_nd R0) nds ?_
      intro c0 ch' hc0 u0 X Z
      refine nm_r (tm_m1s _) (ih b' _ ch' (by omega) (tm_FI_le F (by omega)) (by omega) (fun u hu => tm_PE_X X (P u (by omega))) ?_ ?_ m (by omega))
      · rw [show 4 - v = 3 - v + 1 by omega]
        refine tm_R_br na hc0 u0 fun i hi => ?_
        rw [Z i hi]
        exact tm_R_X X (H i hi)
      · intro n' b2 ch2 hb Y R'
        exact K n' b2 ch2 (by omega) (tm_X_trans X Y) R'
    refine br_f (nI_pos (by omega)) (tm_dig hc (by omega) ?_)
    by_cases g : n < 0
    · refine br_t g (br_t (by decide) ⟨tm_in (by omega), cp ?_⟩)
      have := H (tm_dg c v) ed
      rw [if_pos rfl] at this
      exact tm_nAH_sub (tm_R_neg this g)
    · refine br_f g ⟨tm_in (by omega), ?_⟩
      have e1 : pa (nI v).toNatClampNeg = nI f := by rw [nI_clamp (by omega), f3]
      rw [e1]
      refine tm_only (S := tm_US fL a) (T := tm_US fB (b' + 1)) f1 ed (tm_nlt_le g) H ?_ ?_
      · intro r hr aq Cq
        refine br_f (tm_le_nlt hr) (nm_r (tm_m1s _) (ih (b' + 1) r ch (by omega) F (by omega) (fun u hu => P u (by omega)) (tm_R_ch aq Cq) ?_ m (by omega)))
        intro n' b2 ch2 hb Y R'
        exact K n' b2 ch2 (by omega) Y R'
      · intro na
        refine br_t (by decide) ⟨tm_in (by omega), ?_⟩
        have := cp na
        rw [e1] at this ⊢
        exact this
theorem tm_rebuild {post : SX → Prop} {hd c v b : Nat} {n : Int32} {l l' : List tm_E} (hfb : fb = nI b) (F : tm_FI fB b 544) (hb : 4 ≤ b) (hh : hd < 38) (hc : c < 256) (hv : v ≤ 4) (E : tm_fl (fun k => decide (tm_h sh k ≠ c)) l' = tm_fl (fun k => decide (tm_h sh k ≠ c)) l)
    (P : ∀ u, u < v → tm_PE (tm_US fL a) (tm_US fB b) (tm_h sh) lk lv ln ch c l pa u) (R0 : tm_R (tm_US fL a) (tm_US fB b) (tm_h sh) lk lv ln ch (4 - v) (tm_rl (tm_h sh) c v l') n)
    (K : ∀ n' b' ch', b ≤ b' + 4 → tm_X fL fB a b lk lv ln ch a b' lk lv ln ch' → tm_R (tm_US fL a) (tm_US fB b') (tm_h sh) lk lv ln ch' 4 l' n' → post (fl, nI b', sh, ld, ck, lk, lv, ln, ch', lm, bm, fL, fB, upd ro hd n', sz, pa, wk, wo, lK, lV, op, bg, tc, en, aj, aR, aK, aD, sn, sA, sK, sD, cg, qK, qD, qF, qL)) : wpX_rebuild post (fl, fb, sh, ld, ck, lk, lv, ln, ch, lm, bm, fL, fB, ro, sz, pa, wk, wo, lK, lV, op, bg, tc, en, aj, aR, aK, aD, sn, sA, sK, sD, cg, qK, qD, qF, qL) (nI hd) (nI c) (nI v) n := by
  subst hfb
  unfold wpX_rebuild
  refine nm_e ⟨v + 1, ?_⟩
  exact tm_reb9 hh hc E v b n ch hv F (by omega) P R0 (fun n' b' ch' h X R => K n' b' ch' (by omega) X R) _ (Nat.lt_succ_self _)
end
end
section
/-! marks: what is marked is closed under going down -/
def tm_ct (f : Nat → Int32) : Nat → Nat
  | 0 => 0
  | n + 1 => tm_ct f n + (if f n = 0 then 0 else 1)
theorem tm_ct_le (f : Nat → Int32) (n : Nat) : tm_ct f n ≤ n := by
  induction n with
  | zero => exact Nat.le_refl _
  | succ n ih => unfold tm_ct; split <;> omega
theorem tm_ct_congr {f g : Nat → Int32} {n : Nat} (h : ∀ i, i < n → f i = g i) : tm_ct f n = tm_ct g n := by
  induction n with
  | zero => rfl
  | succ n ih => unfold tm_ct; rw [ih fun i hi => h i (by omega), h n (by omega)]
theorem tm_ct_upd {f : Nat → Int32} {j n : Nat} {x : Int32} : tm_ct (upd f j x) n ≤ tm_ct f n + 1 := by
  induction n with
  | zero => exact Nat.zero_le _
  | succ n ih =>
    unfold tm_ct
    by_cases z : j = n
    · have : tm_ct (upd f j x) n = tm_ct f n := tm_ct_congr fun i hi => pk_un (by omega)
      rw [this]
      split <;> split <;> omega
    · rw [pk_un (show n ≠ j from fun e => z e.symm)]
      omega
theorem tm_ct_0 {f : Nat → Int32} {n : Nat} (h : ∀ i, i < n → f i = 0) : tm_ct f n = 0 := by
  induction n with
  | zero => rfl
  | succ n ih => unfold tm_ct; rw [ih fun i hi => h i (by omega), if_pos (h n (by omega))]
def tm_oc (lm : Nat → Int32) (n : Int32) : Prop := n = 0 ∨ ∃ j, j < 384 ∧ n = nI (j + 1) ∧ lm j ≠ 0
def tm_on (lm bm : Nat → Int32) (n : Int32) : Prop := tm_oc lm n ∨ ∃ b, b < 544 ∧ n = -1 - nI b ∧ bm b ≠ 0
def tm_sq (f g : Nat → Int32) : Prop := ∀ j, f j ≠ 0 → g j ≠ 0
theorem tm_sq_refl {f : Nat → Int32} : tm_sq f f := fun _ h => h
theorem tm_sq_trans {f g k : Nat → Int32} (h : tm_sq f g) (h' : tm_sq g k) : tm_sq f k := fun j z => h' j (h j z)
theorem tm_sq_upd {f : Nat → Int32} {j : Nat} : tm_sq f (upd f j 1) := by
  intro i h
  by_cases z : i = j
  · rw [z, pk_us]; decide
  · rw [pk_un z]; exact h
theorem tm_oc_sq {lm lm' : Nat → Int32} {n : Int32} (h : tm_oc lm n) (s : tm_sq lm lm') : tm_oc lm' n := by
  rcases h with h | ⟨j, h1, h2, h3⟩
  · exact Or.inl h
  · exact Or.inr ⟨j, h1, h2, s j h3⟩
theorem tm_on_sq {lm lm' bm bm' : Nat → Int32} {n : Int32} (h : tm_on lm bm n) (s : tm_sq lm lm') (s' : tm_sq bm bm') : tm_on lm' bm' n := by
  rcases h with h | ⟨j, h1, h2, h3⟩
  · exact Or.inl (tm_oc_sq h s)
  · exact Or.inr ⟨j, h1, h2, s' j h3⟩
def tm_cL (lm ln : Nat → Int32) : Prop := ∀ j, j < 384 → lm j ≠ 0 → tm_oc lm (ln j)
def tm_cB (lm bm ch : Nat → Int32) (P : Int32 → Prop) : Prop := ∀ b, b < 544 → bm b ≠ 0 → ∀ i, i < 4 → tm_on lm bm (ch (4 * b + i)) ∨ P (ch (4 * b + i))
theorem tm_CH_mark {S : Nat → Prop} {lk lv ln lm : Nat → Int32} {l : List tm_E} {n : Int32} (L : tm_cL lm ln) (H : tm_CH S lk lv ln l n) (o : tm_oc lm n) : tm_CH (fun j => lm j ≠ 0) lk lv ln l n := by
  induction l generalizing n with
  | nil => exact H
  | cons e t ih =>
    obtain ⟨j, h1, h2, h3, h4, h5, h6⟩ := H
    have hm : lm j ≠ 0 := by
      rcases o with o | ⟨i, g1, g2, g3⟩
      · exact absurd (h3.symm.trans o) (nI_ne0 (by omega) (by omega))
      · have : j + 1 = i + 1 := tm_inj (by omega) (by omega) (h3.symm.trans g2)
        have : j = i := by omega
        rw [this]; exact g3
    exact ⟨j, h1, hm, h3, h4, h5, ih h6 (L j h1 hm)⟩
theorem tm_R_mark {S T : Nat → Prop} {h : Int32 → Nat} {lk lv ln ch lm bm : Nat → Int32} {d : Nat} {l : List tm_E} {n : Int32} (L : tm_cL lm ln) (B : tm_cB lm bm ch (fun _ => False)) (H : tm_R S T h lk lv ln ch d l n) (o : tm_on lm bm n) :
    tm_R (fun j => lm j ≠ 0) (fun b => bm b ≠ 0) h lk lv ln ch d l n := by
  induction d generalizing l n with
  | zero =>
    refine ⟨H.1, tm_CH_mark L H.2 ?_⟩
    rcases o with o | ⟨b, g1, g2, g3⟩
    · exact o
    · exact absurd (tm_CH_nn H.2) (by rw [g2]; exact tm_nb_nle g1)
  | succ d ih =>
    rcases H with H | ⟨H0, b, h1, h2, h3, h4⟩
    · refine Or.inl ⟨H.1, tm_CH_mark L H.2 ?_⟩
      rcases o with o | ⟨b, g1, g2, g3⟩
      · exact o
      · exact absurd (tm_CH_nn H.2) (by rw [g2]; exact tm_nb_nle g1)
    · have hm : bm b ≠ 0 := by
        rcases o with (o | ⟨j, g1, g2, g3⟩) | ⟨i, g1, g2, g3⟩
        · exact absurd (h3.symm.trans o) (tm_nb_n (j := 0) h1 (by omega))
        · exact absurd (h3.symm.trans g2) (tm_nb_n h1 (by omega))
        · rw [tm_nb_inj h1 g1 (h3.symm.trans g2)]; exact g3
      refine Or.inr ⟨H0, b, h1, hm, h3, fun i hi => ih (h4 i hi) ?_⟩
      rcases B b h1 hm i hi with r | r
      · exact r
      · exact r.elim
section
variable {fl fb sh ld : Int32} {ck : Int64} {lk lv ln ch lm bm fL fB ro sz pa wk wo lK lV op tc en aj aR aK aD sn sA sK sD qK qD qF qL : Nat → Int32} {bg cg : Nat → Int64}
variable {S T : Nat → Prop}
theorem tm_mc2 {post : SX → Prop} : ∀ (q : List tm_E) (n : Int32) (lm : Nat → Int32), tm_CH S lk lv ln q n → (∀ j, j < 384 → lm j ≠ 0 → tm_oc lm (ln j) ∨ ln j = n) →
    (∀ lm', tm_sq lm lm' → tm_cL lm' ln → tm_oc lm' n → tm_ct lm' 384 ≤ tm_ct lm 384 + q.length → post (fl, fb, sh, ld, ck, lk, lv, ln, ch, lm', bm, fL, fB, ro, sz, pa, wk, wo, lK, lV, op, bg, tc, en, aj, aR, aK, aD, sn, sA, sK, sD, cg, qK, qD, qF, qL)) → ∀ m, q.length < m → wX_markChain_2 post fl fb sh ld ck m n lk lv ln ch lm bm fL fB ro sz pa wk wo lK lV op bg tc en aj aR aK aD sn sA sK sD cg qK qD qF qL := by
  intro q
  induction q with
  | nil =>
    intro n lm C L K m hm
    obtain ⟨m, rfl⟩ : ∃ m', m = m' + 1 := ⟨m - 1, by omega⟩
    have e : n = 0 := C
    subst e
    refine br_t (by decide) (K lm tm_sq_refl (fun j hj z => ?_) (Or.inl rfl) (Nat.le_add_right _ _))
    rcases L j hj z with r | r
    · exact r
    · exact Or.inl r
  | cons e t ih =>
    intro n lm C L K m hm
    rw [List.length_cons] at hm
    obtain ⟨m, rfl⟩ : ∃ m', m = m' + 1 := ⟨m - 1, by omega⟩
    obtain ⟨j, h1, h2, h3, h4, h5, h6⟩ := C
    subst h3
    have e1 : (nI (j + 1) - 1).toNatClampNeg = j := by rw [tm_pred]; exact nI_clamp (by omega)
    have e2 : vp_in (nI (j + 1) - 1) 384 := by rw [tm_pred]; exact tm_in h1
    refine br_f (tm_pos h1) ⟨e2, ?_⟩
    rw [e1]
    by_cases z : lm j = 0
    · refine br_t z ⟨e2, nm_r (e' := upd lm j 1) (by rw [tm_nb1]) ⟨e2, nm_e (ih (ln j) (upd lm j 1) h6 ?_ ?_ m (by omega))⟩⟩
      · intro i hi w
        by_cases c : i = j
        · rw [c]; exact Or.inr rfl
        · rw [pk_un c] at w
          rcases L i hi w with r | r
          · exact Or.inl (tm_oc_sq r tm_sq_upd)
          · exact Or.inl (Or.inr ⟨j, h1, r, by rw [pk_us]; decide⟩)
      · intro lm' s' c' o' hc
        refine K lm' (tm_sq_trans tm_sq_upd s') c' (Or.inr ⟨j, h1, rfl, s' j (by rw [pk_us]; decide)⟩) ?_
        have := tm_ct_upd (f := lm) (j := j) (n := 384) (x := 1)
        rw [List.length_cons]; omega
    · refine br_f z (K lm tm_sq_refl (fun i hi w => ?_) (Or.inr ⟨j, h1, rfl, z⟩) (Nat.le_add_right _ _))
      rcases L i hi w with r | r
      · exact r
      · exact Or.inr ⟨j, h1, r, z⟩
theorem tm_mark70 {post : SX → Prop} {J : Int32 → Int32 → Int32 → Int32 → Int32 → Int64 → (Nat → Int32) → (Nat → Int32) → (Nat → Int32) → (Nat → Int32) → (Nat → Int32) → (Nat → Int32) → (Nat → Int32) → (Nat → Int32) → (Nat → Int32) → (Nat → Int32) → (Nat → Int32) → (Nat → Int32) → (Nat → Int32) → (Nat → Int32) → (Nat → Int32) → (Nat → Int32) → (Nat → Int64) → (Nat → Int32) → (Nat → Int32) → (Nat → Int32) → (Nat → Int32) → (Nat → Int32) → (Nat → Int32) → (Nat → Int32) → (Nat → Int32) → (Nat → Int32) → (Nat → Int32) → (Nat → Int64) → (Nat → Int32) → (Nat → Int32) → (Nat → Int32) → (Nat → Int32) → Prop} {p b : Nat} (hb : b < 544) (hp : p + 4 ≤ 40) (nd : ∀ i, i < 4 → tm_nd (ch (4 * b + i)))
    (K : ∀ wk', (∀ i, i < p → wk' i = wk i) → (∀ i, i < 4 → wk' (p + i) = ch (4 * b + i)) → J (nI (p + 4)) fl fb sh ld ck lk lv ln ch lm bm fL fB ro sz pa wk' wo lK lV op bg tc en aj aR aK aD sn sA sK sD cg qK qD qF qL) :
    ∀ (r i : Nat) (wk' : Nat → Int32), i + r = 4 → (∀ t, t < p → wk' t = wk t) → (∀ t, t < i → wk' (p + t) = ch (4 * b + t)) → wX_mark_70 post J (nI (4 * b)) fl fb sh ld ck (r + 1) (nI (p + i)) (nI (4 * b + i)) lk lv ln ch lm bm fL fB ro sz pa wk' wo lK lV op bg tc en aj aR aK aD sn sA sK sD cg qK qD qF qL := by
  have e4 : nI (4 * b) + 4 = nI (4 * b + 4) := nI_add (4 * b) 4
  intro r
  induction r with
  | zero =>
    intro i wk' hi h1 h2
    obtain rfl : i = 4 := by omega
    exact br_t (by rw [e4]; exact nI_le (Nat.le_refl _) (by omega)) (K wk' h1 h2)
  | succ r ih =>
    intro i wk' hi h1 h2
    refine br_f (by rw [e4]; exact nI_ge (by omega) (by omega)) (nm_r (e' := nI (p + (i + 1))) (nI_1 _) ⟨tm_in (by omega), tm_in (by omega), nm_r (e' := upd wk' (p + i) (ch (4 * b + i))) ?_ (nm_r (e' := nI (4 * b + (i + 1))) (nI_1 _) (ih (i + 1) _ (by omega) ?_ ?_))⟩)
    · rw [nI_clamp (by omega), nI_clamp (by omega), tm_nar16 (nd i (by omega))]
    · intro t ht
      rw [pk_un (by omega)]; exact h1 t ht
    · intro t ht
      by_cases c : t = i
      · rw [c]; exact pk_us
      · rw [pk_un (by omega)]; exact h2 t (by omega)
end
def tm_sl : List (Nat × List tm_E) → Nat
  | [] => 0
  | x :: st => x.2.length + tm_sl st
noncomputable def tm_sb (h : Int32 → Nat) : List (Nat × List tm_E) → Nat
  | [] => 0
  | x :: st => tm_bc h x.1 x.2 + tm_sb h st
section
variable {fl fb sh ld : Int32} {ck : Int64} {lk lv ln ch lm bm fL fB ro sz pa wk wo lK lV op tc en aj aR aK aD sn sA sK sD qK qD qF qL : Nat → Int32} {bg cg : Nat → Int64}
variable {S T : Nat → Prop}
theorem tm_mark13 {post : SX → Prop} : ∀ (m : Nat) (st : List (Nat × List tm_E)) (lm bm wk : Nat → Int32), tm_ms st < m → tm_ST S T (tm_h sh) lk lv ln ch wk st → tm_cL lm ln → tm_cB lm bm ch (fun n => ∃ p, p < st.length ∧ wk p = n) →
    (∀ lm' bm' wk', tm_sq lm lm' → tm_sq bm bm' → tm_cL lm' ln → tm_cB lm' bm' ch (fun _ => False) → (∀ p, p < st.length → tm_on lm' bm' (wk p)) → tm_ct lm' 384 ≤ tm_ct lm 384 + tm_sl st → tm_ct bm' 544 ≤ tm_ct bm 544 + tm_sb (tm_h sh) st → post (fl, fb, sh, ld, ck, lk, lv, ln, ch, lm', bm', fL, fB, ro, sz, pa, wk', wo, lK, lV, op, bg, tc, en, aj, aR, aK, aD, sn, sA, sK, sD, cg, qK, qD, qF, qL)) →
    wX_mark_13 post m (nI st.length) fl fb sh ld ck lk lv ln ch lm bm fL fB ro sz pa wk wo lK lV op bg tc en aj aR aK aD sn sA sK sD cg qK qD qF qL := by
  intro m
  induction m with
  | zero => intro st lm bm wk hm; omega
  | succ m ih =>
    intro st lm bm wk hm H L B K
    cases st with
    | nil =>
      refine br_t (by decide) (K lm bm wk tm_sq_refl tm_sq_refl L (fun b hb z i hi => ?_) (fun p hp => absurd hp (Nat.not_lt_zero _)) (Nat.le_add_right _ _) (Nat.le_add_right _ _))
      rcases B b hb z i hi with r | ⟨p, hp, _⟩
      · exact Or.inl r
      · exact absurd hp (Nat.not_lt_zero _)
    | cons x st =>
      obtain ⟨d, q⟩ := x
      obtain ⟨H1, H2, H3⟩ := H
      simp only at H1 H2
      have hms : tm_ms ((d, q) :: st) = tm_c d + q.length + tm_ms st := rfl
      have hsl : tm_sl ((d, q) :: st) = q.length + tm_sl st := rfl
      have hsb : tm_sb (tm_h sh) ((d, q) :: st) = tm_bc (tm_h sh) d q + tm_sb (tm_h sh) st := rfl
      have hcp := tm_c_pos d
      refine br_f (nI_nle (Nat.succ_pos _) (by rw [List.length_cons]; omega)) (nm_r (e' := nI st.length) (pk_m1 _) ⟨tm_in (by omega), nm_r (e' := wk st.length) (by rw [nI_clamp (by omega)]) ?_⟩)
      by_cases g : 0 ≤ wk st.length
      · refine br_f (tm_le_nlt g) ?_
        have ⟨a, C⟩ := tm_R_nn H1 g
        unfold wpX_markChain
        refine ⟨q.length + 1, tm_mc2 q _ lm C (fun j hj z => Or.inl (L j hj z)) ?_ _ (Nat.lt_succ_self _)⟩
        intro lm1 s1 L1 o1 c1
        refine ih st lm1 bm wk (by omega) H3 L1 ?_ ?_
        · intro b hb z i hi
          rcases B b hb z i hi with r | ⟨p, hp, r⟩
          · exact Or.inl (tm_on_sq r s1 tm_sq_refl)
          · by_cases e : p = st.length
            · rw [← r, e]; exact Or.inl (Or.inl o1)
            · exact Or.inr ⟨p, by rw [List.length_cons] at hp; omega, r⟩
        · intro lm' bm' wk' t1 t2 t3 t4 t5 t6 t7
          refine K lm' bm' wk' (tm_sq_trans s1 t1) t2 t3 t4 (fun p hp => ?_) (by omega) (by omega)
          by_cases e : p = st.length
          · rw [e]; exact Or.inl (tm_oc_sq o1 t1)
          · exact t5 p (by rw [List.length_cons] at hp; omega)
      · obtain ⟨e, b, he, a, h1, h2, h3, h4⟩ := tm_R_ng H1 g
        subst he
        have nb : (-1 : Int32) - wk st.length = nI b := by rw [h3]; exact tm_nb_b h1
        refine br_t (tm_nle_lt g) ?_
        rw [nb]
        refine ⟨tm_in h1, ?_⟩
        rw [nI_clamp (show b < 2 ^ 31 by omega)]
        by_cases z : bm b = 0
        · refine br_t z ⟨tm_in h1, nm_r (e' := upd bm b 1) (by rw [tm_nb1]) (nm_r (e' := nI (4 * b)) (pk_mul 4 b) ⟨5, ?_⟩)⟩
          refine tm_mark70 (p := st.length) h1 (by omega) (fun i hi => tm_R_nd (h4 i hi)) ?_ 4 0 wk rfl (fun t _ => rfl) (fun t ht => absurd ht (Nat.not_lt_zero _))
          intro wk' w1 w2
          have hm4 := tm_p4_ms (h := tm_h sh) (d := e) (q := q) (st := st)
          have hl4 : tm_sl (tm_p4 (tm_h sh) e q st) = q.length + tm_sl st := by
            have := tm_sub_len (h := tm_h sh) (v := 3 - e) (l := q)
            show _ + (_ + (_ + (_ + tm_sl st))) = _
            simp only
            omega
          have hb4 : 1 + tm_sb (tm_h sh) (tm_p4 (tm_h sh) e q st) = tm_bc (tm_h sh) (e + 1) q + tm_sb (tm_h sh) st := by
            rw [tm_bc_n a]
            show 1 + (_ + (_ + (_ + (_ + tm_sb (tm_h sh) st)))) = _
            simp only
            omega
          have hu := tm_ct_upd (f := bm) (j := b) (n := 544) (x := 1)
          refine ih (tm_p4 (tm_h sh) e q st) lm (upd bm b 1) wk' (by omega) (tm_p4_ST H3 H2 h4 w1 w2) L ?_ ?_
          · intro b' hb' z' i hi
            by_cases eb : b' = b
            · rw [eb]
              exact Or.inr ⟨st.length + i, by rw [tm_p4_len]; omega, w2 i hi⟩
            · rw [pk_un eb] at z'
              rcases B b' hb' z' i hi with r | ⟨p, hp, r⟩
              · exact Or.inl (tm_on_sq r tm_sq_refl tm_sq_upd)
              · by_cases ep : p = st.length
                · rw [← r, ep, h3]
                  exact Or.inl (Or.inr ⟨b, h1, rfl, by rw [pk_us]; decide⟩)
                · rw [List.length_cons] at hp
                  exact Or.inr ⟨p, by rw [tm_p4_len]; omega, by rw [w1 p (by omega)]; exact r⟩
          · intro lm' bm' wk2 t1 t2 t3 t4 t5 t6 t7
            refine K lm' bm' wk2 t1 (tm_sq_trans tm_sq_upd t2) t3 t4 (fun p hp => ?_) (by omega) (by omega)
            by_cases ep : p = st.length
            · rw [ep, h3]
              exact Or.inr ⟨b, h1, rfl, t2 b (by rw [pk_us]; decide)⟩
            · rw [List.length_cons] at hp
              have := t5 p (by rw [tm_p4_len]; omega)
              rw [w1 p (by omega)] at this
              exact this
        · refine br_f z (ih st lm bm wk (by omega) H3 L ?_ ?_)
          · intro b' hb' z' i hi
            rcases B b' hb' z' i hi with r | ⟨p, hp, r⟩
            · exact Or.inl r
            · by_cases ep : p = st.length
              · rw [← r, ep, h3]
                exact Or.inl (Or.inr ⟨b, h1, rfl, z⟩)
              · exact Or.inr ⟨p, by rw [List.length_cons] at hp; omega, r⟩
          · intro lm' bm' wk2 t1 t2 t3 t4 t5 t6 t7
            refine K lm' bm' wk2 t1 t2 t3 t4 (fun p hp => ?_) (by omega) (by omega)
            by_cases ep : p = st.length
            · rw [ep, h3]
              exact Or.inr ⟨b, h1, rfl, t2 b z⟩
            · exact t5 p (by rw [List.length_cons] at hp; omega)
theorem tm_mark {post : SX → Prop} {l : List tm_E} {n : Int32} (H : tm_R S T (tm_h sh) lk lv ln ch 4 l n) (L : tm_cL lm ln) (B : tm_cB lm bm ch (fun _ => False))
    (K : ∀ lm' bm' wk', tm_sq lm lm' → tm_sq bm bm' → tm_cL lm' ln → tm_cB lm' bm' ch (fun _ => False) → tm_on lm' bm' n → tm_ct lm' 384 ≤ tm_ct lm 384 + l.length → tm_ct bm' 544 ≤ tm_ct bm 544 + tm_bc (tm_h sh) 4 l → post (fl, fb, sh, ld, ck, lk, lv, ln, ch, lm', bm', fL, fB, ro, sz, pa, wk', wo, lK, lV, op, bg, tc, en, aj, aR, aK, aD, sn, sA, sK, sD, cg, qK, qD, qF, qL)) : wpX_mark post (fl, fb, sh, ld, ck, lk, lv, ln, ch, lm, bm, fL, fB, ro, sz, pa, wk, wo, lK, lV, op, bg, tc, en, aj, aR, aK, aD, sn, sA, sK, sD, cg, qK, qD, qF, qL) n := by
  unfold wpX_mark
  refine nm_r (e' := nI 1) (by decide) (nm_r (e' := upd wk 0 n) (by rw [tm_nar16' (tm_R_nd H)]) ⟨tm_ms [(4, l)] + 1, ?_⟩)
  refine tm_mark13 (S := S) (T := T) _ [(4, l)] lm bm _ (Nat.lt_succ_self _) ⟨?_, (show 0 + 3 * 4 ≤ 12 by decide), trivial⟩ L ?_ ?_
  · show tm_R S T (tm_h sh) lk lv ln ch 4 l (upd wk 0 n 0)
    rw [pk_us]; exact H
  · intro b hb z i hi
    rcases B b hb z i hi with r | r
    · exact Or.inl r
    · exact r.elim
  · intro lm' bm' wk' t1 t2 t3 t4 t5 t6 t7
    refine K lm' bm' wk' t1 t2 t3 t4 ?_ t6 t7
    have := t5 0 (Nat.zero_lt_succ 0)
    rw [pk_us] at this
    exact this
end
end
section
/-! reserve -/
def tm_sum (f : Nat → Nat) : Nat → Nat
  | 0 => 0
  | n + 1 => tm_sum f n + f n
theorem tm_sum_e {f : Nat → Nat} {c e : Nat} (h : ∀ t, t < 38 → f t ≤ c) (z0 : f e = 0) (z1 : f (e + 1) = 0) (z2 : f (e + 2) = 0) :
    ∀ n, n ≤ 38 → tm_sum f n ≤ c * n ∧ (e < n → tm_sum f n + c ≤ c * n) ∧ (e + 1 < n → tm_sum f n + 2 * c ≤ c * n) ∧ (e + 2 < n → tm_sum f n + 3 * c ≤ c * n) := by
  intro n
  induction n with
  | zero => intro _; exact ⟨Nat.zero_le _, fun h => by omega, fun h => by omega, fun h => by omega⟩
  | succ n ih =>
    intro hn
    obtain ⟨i0, i1, i2, i3⟩ := ih (by omega)
    have hc := h n (by omega)
    have hs : tm_sum f (n + 1) = tm_sum f n + f n := rfl
    rw [hs, Nat.mul_succ]
    refine ⟨by omega, fun he => ?_, fun he => ?_, fun he => ?_⟩
    · by_cases q : n = e
      · rw [q, z0]; rw [q] at i0; omega
      · have := i1 (by omega); omega
    · by_cases q : n = e + 1
      · rw [q, z1]; rw [q] at i1; have := i1 (by omega); omega
      · have := i2 (by omega); omega
    · by_cases q : n = e + 2
      · rw [q, z2]; rw [q] at i2; have := i2 (by omega); omega
      · have := i3 (by omega); omega
section
variable {fl fb sh ld : Int32} {ck : Int64} {lk lv ln ch lm bm fL fB ro sz pa wk wo lK lV op tc en aj aR aK aD sn sA sK sD qK qD qF qL : Nat → Int32} {bg cg : Nat → Int64}
variable {S T : Nat → Prop}
theorem tm_rs141 {post : SX → Prop}
    (K : ∀ p fB', (∀ t, t < p → ∃ j, j < 544 ∧ fB' t = nI j ∧ bm j = 0) → (∀ t, t < p → ∀ t', t' < p → fB' t = fB' t' → t = t') → p + tm_ct bm 544 = 544 → post (fl, nI p, sh, ld, ck, lk, lv, ln, ch, lm, bm, fL, fB', ro, sz, pa, wk, wo, lK, lV, op, bg, tc, en, aj, aR, aK, aD, sn, sA, sK, sD, cg, qK, qD, qF, qL)) :
    ∀ (r i p : Nat) (fB : Nat → Int32), i + r = 544 → (∀ t, t < p → ∃ j, j < i ∧ fB t = nI j ∧ bm j = 0) → (∀ t, t < p → ∀ t', t' < p → fB t = fB t' → t = t') → p + tm_ct bm i = i → wX_reserve_141 post fl sh ld ck (r + 1) (nI i) (nI p) lk lv ln ch lm bm fL fB ro sz pa wk wo lK lV op bg tc en aj aR aK aD sn sA sK sD cg qK qD qF qL := by
  intro r
  induction r with
  | zero =>
    intro i p fB hi h1 h2 h3
    obtain rfl : i = 544 := by omega
    exact br_t (by decide) (K p fB h1 h2 h3)
  | succ r ih =>
    intro i p fB hi h1 h2 h3
    have hcs : tm_ct bm (i + 1) = tm_ct bm i + (if bm i = 0 then 0 else 1) := rfl
    refine br_f (nI_ge (b := 544) (by omega) (by decide)) ⟨tm_in (by omega), ?_⟩
    rw [nI_clamp (show i < 2 ^ 31 by omega)]
    by_cases z : bm i = 0
    · rw [if_pos z] at hcs
      refine br_t z (nm_r (e' := nI (p + 1)) (nI_1 _) ⟨tm_in (by omega), nm_r (e' := upd fB p (nI i)) (by rw [nI_clamp (by omega), tm_nar16' (tm_nd_n (by omega))]) (nm_r (e' := nI (i + 1)) (nI_1 _) (ih (i + 1) (p + 1) _ (by omega) ?_ ?_ (by omega)))⟩)
      · intro t ht
        by_cases c : t = p
        · exact ⟨i, by omega, by rw [c, pk_us], z⟩
        · obtain ⟨j, j1, j2, j3⟩ := h1 t (by omega)
          exact ⟨j, by omega, by rw [pk_un c]; exact j2, j3⟩
      · have old : ∀ t, t < p → fB t ≠ nI i := by
          intro t ht e
          obtain ⟨j, j1, j2, j3⟩ := h1 t ht
          have := tm_inj (by omega) (by omega) (j2.symm.trans e)
          omega
        intro t ht t' ht' e
        by_cases c : t = p
        · by_cases c' : t' = p
          · omega
          · rw [c, pk_us, pk_un c'] at e
            exact absurd e.symm (old t' (by omega))
        · by_cases c' : t' = p
          · rw [c', pk_us, pk_un c] at e
            exact absurd e (old t (by omega))
          · rw [pk_un c, pk_un c'] at e
            exact h2 t (by omega) t' (by omega) e
    · rw [if_neg z] at hcs
      refine br_f z (nm_r (e' := nI (i + 1)) (nI_1 _) (ih (i + 1) p _ (by omega) ?_ h2 (by omega)))
      intro t ht
      obtain ⟨j, j1, j2, j3⟩ := h1 t ht
      exact ⟨j, by omega, j2, j3⟩
theorem tm_rs99 {post : SX → Prop}
    (K : ∀ p fL', (∀ t, t < p → ∃ j, j < 384 ∧ fL' t = nI j ∧ lm j = 0) → (∀ t, t < p → ∀ t', t' < p → fL' t = fL' t' → t = t') → p + tm_ct lm 384 = 384 → ∃ n141, wX_reserve_141 post (nI p) sh ld ck n141 0 fb lk lv ln ch lm bm fL' fB ro sz pa wk wo lK lV op bg tc en aj aR aK aD sn sA sK sD cg qK qD qF qL) :
    ∀ (r i p : Nat) (fL : Nat → Int32), i + r = 384 → (∀ t, t < p → ∃ j, j < i ∧ fL t = nI j ∧ lm j = 0) → (∀ t, t < p → ∀ t', t' < p → fL t = fL t' → t = t') → p + tm_ct lm i = i → wX_reserve_99 post fb sh ld ck (r + 1) (nI i) (nI p) lk lv ln ch lm bm fL fB ro sz pa wk wo lK lV op bg tc en aj aR aK aD sn sA sK sD cg qK qD qF qL := by
  intro r
  induction r with
  | zero =>
    intro i p fL hi h1 h2 h3
    obtain rfl : i = 384 := by omega
    exact br_t (by decide) (K p fL h1 h2 h3)
  | succ r ih =>
    intro i p fL hi h1 h2 h3
    have hcs : tm_ct lm (i + 1) = tm_ct lm i + (if lm i = 0 then 0 else 1) := rfl
    refine br_f (nI_ge (b := 384) (by omega) (by decide)) ⟨tm_in (by omega), ?_⟩
    rw [nI_clamp (show i < 2 ^ 31 by omega)]
    by_cases z : lm i = 0
    · rw [if_pos z] at hcs
      refine br_t z (nm_r (e' := nI (p + 1)) (nI_1 _) ⟨tm_in (by omega), nm_r (e' := upd fL p (nI i)) (by rw [nI_clamp (by omega), tm_nar16' (tm_nd_n (by omega))]) (nm_r (e' := nI (i + 1)) (nI_1 _) (ih (i + 1) (p + 1) _ (by omega) ?_ ?_ (by omega)))⟩)
      · intro t ht
        by_cases c : t = p
        · exact ⟨i, by omega, by rw [c, pk_us], z⟩
        · obtain ⟨j, j1, j2, j3⟩ := h1 t (by omega)
          exact ⟨j, by omega, by rw [pk_un c]; exact j2, j3⟩
      · have old : ∀ t, t < p → fL t ≠ nI i := by
          intro t ht e
          obtain ⟨j, j1, j2, j3⟩ := h1 t ht
          have := tm_inj (by omega) (by omega) (j2.symm.trans e)
          omega
        intro t ht t' ht' e
        by_cases c : t = p
        · by_cases c' : t' = p
          · omega
          · rw [c, pk_us, pk_un c'] at e
            exact absurd e.symm (old t' (by omega))
        · by_cases c' : t' = p
          · rw [c', pk_us, pk_un c] at e
            exact absurd e (old t (by omega))
          · rw [pk_un c, pk_un c'] at e
            exact h2 t (by omega) t' (by omega) e
    · rw [if_neg z] at hcs
      refine br_f z (nm_r (e' := nI (i + 1)) (nI_1 _) (ih (i + 1) p _ (by omega) ?_ h2 (by omega)))
      intro t ht
      obtain ⟨j, j1, j2, j3⟩ := h1 t ht
      exact ⟨j, by omega, j2, j3⟩
theorem tm_rs65 {post : SX → Prop} {l : Nat → List tm_E} (H : ∀ t, t < 38 → tm_R S T (tm_h sh) lk lv ln ch 4 (l t) (ro t))
    (K : ∀ lm' bm' wk', tm_cL lm' ln → tm_cB lm' bm' ch (fun _ => False) → (∀ t, t < 38 → tm_on lm' bm' (ro t)) → tm_ct lm' 384 ≤ tm_sum (fun t => (l t).length) 38 → tm_ct bm' 544 ≤ tm_sum (fun t => tm_bc (tm_h sh) 4 (l t)) 38 → ∃ n99, wX_reserve_99 post 0 sh ld ck n99 0 0 lk lv ln ch lm' bm' fL fB ro sz pa wk' wo lK lV op bg tc en aj aR aK aD sn sA sK sD cg qK qD qF qL) :
    ∀ (r i : Nat) (lm bm wk : Nat → Int32), i + r = 38 → tm_cL lm ln → tm_cB lm bm ch (fun _ => False) → (∀ t, t < i → tm_on lm bm (ro t)) → tm_ct lm 384 ≤ tm_sum (fun t => (l t).length) i → tm_ct bm 544 ≤ tm_sum (fun t => tm_bc (tm_h sh) 4 (l t)) i → wX_reserve_65 post (r + 1) (nI i) fl fb sh ld ck lk lv ln ch lm bm fL fB ro sz pa wk wo lK lV op bg tc en aj aR aK aD sn sA sK sD cg qK qD qF qL := by
  intro r
  induction r with
  | zero =>
    intro i lm bm wk hi h1 h2 h3 h4 h5
    obtain rfl : i = 38 := by omega
    exact br_t (by decide) (K lm bm wk h1 h2 h3 h4 h5)
  | succ r ih =>
    intro i lm bm wk hi h1 h2 h3 h4 h5
    refine br_f (nI_ge (b := 38) (by omega) (by decide)) ⟨tm_in (by omega), ?_⟩
    rw [nI_clamp (show i < 2 ^ 31 by omega)]
    refine tm_mark (H i (by omega)) h1 h2 ?_
    intro lm' bm' wk' t1 t2 t3 t4 t5 t6 t7
    refine nm_r (e' := nI (i + 1)) (nI_1 _) (ih (i + 1) lm' bm' wk' (by omega) t3 t4 (fun t ht => ?_) ?_ ?_)
    · by_cases c : t = i
      · rw [c]; exact t5
      · exact tm_on_sq (h3 t (by omega)) t1 t2
    · show _ ≤ tm_sum (fun t => (l t).length) i + (l i).length
      omega
    · show _ ≤ tm_sum (fun t => tm_bc (tm_h sh) 4 (l t)) i + tm_bc (tm_h sh) 4 (l i)
      omega
theorem tm_rs43 {post : SX → Prop} (K : ∀ bm', (∀ t, t < 544 → bm' t = 0) → ∃ n65, wX_reserve_65 post n65 0 fl fb sh ld ck lk lv ln ch lm bm' fL fB ro sz pa wk wo lK lV op bg tc en aj aR aK aD sn sA sK sD cg qK qD qF qL) :
    ∀ (r i : Nat) (bm : Nat → Int32), i + r = 544 → (∀ t, t < i → bm t = 0) → wX_reserve_43 post fl fb sh ld ck (r + 1) (nI i) lk lv ln ch lm bm fL fB ro sz pa wk wo lK lV op bg tc en aj aR aK aD sn sA sK sD cg qK qD qF qL := by
  intro r
  induction r with
  | zero =>
    intro i bm hi h1
    obtain rfl : i = 544 := by omega
    exact br_t (by decide) (K bm h1)
  | succ r ih =>
    intro i bm hi h1
    refine br_f (nI_ge (b := 544) (by omega) (by decide)) ⟨tm_in (by omega), nm_r (e' := upd bm i 0) (by rw [nI_clamp (by omega), tm_nb0]) (nm_r (e' := nI (i + 1)) (nI_1 _) (ih (i + 1) _ (by omega) fun t ht => ?_))⟩
    by_cases c : t = i
    · rw [c, pk_us]
    · rw [pk_un c]; exact h1 t (by omega)
theorem tm_rs21 {post : SX → Prop} (K : ∀ lm', (∀ t, t < 384 → lm' t = 0) → ∃ n43, wX_reserve_43 post fl fb sh ld ck n43 0 lk lv ln ch lm' bm fL fB ro sz pa wk wo lK lV op bg tc en aj aR aK aD sn sA sK sD cg qK qD qF qL) :
    ∀ (r i : Nat) (lm : Nat → Int32), i + r = 384 → (∀ t, t < i → lm t = 0) → wX_reserve_21 post fl fb sh ld ck (r + 1) (nI i) lk lv ln ch lm bm fL fB ro sz pa wk wo lK lV op bg tc en aj aR aK aD sn sA sK sD cg qK qD qF qL := by
  intro r
  induction r with
  | zero =>
    intro i lm hi h1
    obtain rfl : i = 384 := by omega
    exact br_t (by decide) (K lm h1)
  | succ r ih =>
    intro i lm hi h1
    refine br_f (nI_ge (b := 384) (by omega) (by decide)) ⟨tm_in (by omega), nm_r (e' := upd lm i 0) (by rw [nI_clamp (by omega), tm_nb0]) (nm_r (e' := nI (i + 1)) (nI_1 _) (ih (i + 1) _ (by omega) fun t ht => ?_))⟩
    by_cases c : t = i
    · rw [c, pk_us]
    · rw [pk_un c]; exact h1 t (by omega)
theorem tm_collect {post : SX → Prop} {l : Nat → List tm_E} {e : Nat} (H : ∀ t, t < 38 → tm_R S T (tm_h sh) lk lv ln ch 4 (l t) (ro t)) (hl : ∀ t, t < 38 → (l t).length ≤ 10) (he : e < 36) (z0 : l e = []) (z1 : l (e + 1) = []) (z2 : l (e + 2) = [])
    (K : ∀ a' b' lm' bm' fL' fB' wk', 12 ≤ a' → 12 ≤ b' → tm_FI fL' a' 384 → tm_FI fB' b' 544 → (∀ t, t < 38 → tm_R (tm_US fL' a') (tm_US fB' b') (tm_h sh) lk lv ln ch 4 (l t) (ro t)) → post (nI a', nI b', sh, ld, ck, lk, lv, ln, ch, lm', bm', fL', fB', ro, sz, pa, wk', wo, lK, lV, op, bg, tc, en, aj, aR, aK, aD, sn, sA, sK, sD, cg, qK, qD, qF, qL)) :
    ∃ n21, wX_reserve_21 post fl fb sh ld ck n21 0 lk lv ln ch lm bm fL fB ro sz pa wk wo lK lV op bg tc en aj aR aK aD sn sA sK sD cg qK qD qF qL := by
  refine ⟨385, tm_rs21 ?_ 384 0 lm rfl (fun t ht => absurd ht (Nat.not_lt_zero _))⟩
  intro lm0 hlm0
  refine ⟨545, tm_rs43 ?_ 544 0 bm rfl (fun t ht => absurd ht (Nat.not_lt_zero _))⟩
  intro bm0 hbm0
  refine ⟨39, tm_rs65 (S := S) (T := T) (l := l) H ?_ 38 0 lm0 bm0 wk rfl (fun j hj z => absurd (hlm0 j hj) z) (fun b hb z => absurd (hbm0 b hb) z) (fun t ht => absurd ht (Nat.not_lt_zero _)) (by rw [tm_ct_0 hlm0]; exact Nat.zero_le _) (by rw [tm_ct_0 hbm0]; exact Nat.zero_le _)⟩
  intro lm' bm' wk' cL cB on c1 c2
  have bn : ∀ x : List tm_E, x = [] → tm_bc (tm_h sh) 4 x = 0 := fun x hx => tm_bc_a (by rw [hx]; exact fun y hy => absurd hy List.not_mem_nil)
  have s1 := (tm_sum_e (f := fun t => (l t).length) (c := 10) (e := e) hl (by rw [z0]; rfl) (by rw [z1]; rfl) (by rw [z2]; rfl) 38 (Nat.le_refl _)).2.2.2 (by omega)
  have s2 := (tm_sum_e (f := fun t => tm_bc (tm_h sh) 4 (l t)) (c := 15) (e := e) (fun t ht => tm_bc_4 (hl t ht)) (bn _ z0) (bn _ z1) (bn _ z2) 38 (Nat.le_refl _)).2.2.2 (by omega)
  refine ⟨385, tm_rs99 ?_ 384 0 0 fL rfl (fun t ht => absurd ht (Nat.not_lt_zero _)) (fun t ht => absurd ht (Nat.not_lt_zero _)) rfl⟩
  intro a' fL' f1 f2 f3
  refine ⟨545, tm_rs141 ?_ 544 0 0 fB rfl (fun t ht => absurd ht (Nat.not_lt_zero _)) (fun t ht => absurd ht (Nat.not_lt_zero _)) rfl⟩
  intro b' fB' g1 g2 g3
  refine K a' b' lm' bm' fL' fB' wk' (by omega) (by omega) ⟨by omega, fun i hi => ?_, f2⟩ ⟨by omega, fun i hi => ?_, g2⟩ (fun t ht => ?_)
  · obtain ⟨j, j1, j2, _⟩ := f1 i hi
    exact ⟨j, j1, j2⟩
  · obtain ⟨j, j1, j2, _⟩ := g1 i hi
    exact ⟨j, j1, j2⟩
  · refine tm_R_mono (tm_R_mark cL cB (H t ht) (on t ht)) (fun j hj z i hi q => ?_) (fun j hj z i hi q => ?_) (fun _ _ _ => ⟨rfl, rfl, rfl⟩) (fun _ _ _ _ _ => rfl)
    · obtain ⟨j', j1, j2, j3⟩ := f1 i hi
      have := tm_inj (by omega) (by omega) (j2.symm.trans q)
      rw [this] at j3
      exact z j3
    · obtain ⟨j', j1, j2, j3⟩ := g1 i hi
      have := tm_inj (by omega) (by omega) (j2.symm.trans q)
      rw [this] at j3
      exact z j3
theorem tm_reserve {post : SX → Prop} {l : Nat → List tm_E} {e a b : Nat} (hfl : fl = nI a) (hfb : fb = nI b) (FL : tm_FI fL a 384) (FB : tm_FI fB b 544) (H : ∀ t, t < 38 → tm_R (tm_US fL a) (tm_US fB b) (tm_h sh) lk lv ln ch 4 (l t) (ro t)) (hl : ∀ t, t < 38 → (l t).length ≤ 10) (he : e < 36) (z0 : l e = []) (z1 : l (e + 1) = []) (z2 : l (e + 2) = [])
    (K : ∀ a' b' lm' bm' fL' fB' wk', 12 ≤ a' → 12 ≤ b' → tm_FI fL' a' 384 → tm_FI fB' b' 544 → (∀ t, t < 38 → tm_R (tm_US fL' a') (tm_US fB' b') (tm_h sh) lk lv ln ch 4 (l t) (ro t)) → post (nI a', nI b', sh, ld, ck, lk, lv, ln, ch, lm', bm', fL', fB', ro, sz, pa, wk', wo, lK, lV, op, bg, tc, en, aj, aR, aK, aD, sn, sA, sK, sD, cg, qK, qD, qF, qL)) :
    wpX_reserve post (fl, fb, sh, ld, ck, lk, lv, ln, ch, lm, bm, fL, fB, ro, sz, pa, wk, wo, lK, lV, op, bg, tc, en, aj, aR, aK, aD, sn, sA, sK, sD, cg, qK, qD, qF, qL) := by
  have ha := FL.1
  have hb := FB.1
  have C := tm_collect (post := post) (fl := fl) (fb := fb) (ld := ld) (ck := ck) (lm := lm) (bm := bm) (fL := fL) (fB := fB) (sz := sz) (pa := pa) (wk := wk) (wo := wo) (lK := lK) (lV := lV) H hl he z0 z1 z2 K
  unfold wpX_reserve
  subst hfl hfb
  refine pk_lt a 12 (fun _ => C) (fun h1 => pk_lt b 12 (fun _ => C) (fun h2 => K a b lm bm fL fB wk h1 h2 FL FB H))
end
end
section
/-! the heap as a whole: set, unset, change, give, drop -/
def tm_HP (h : Int32 → Nat) (l : Nat → List tm_E) (a b : Nat) (lk lv ln ch fL fB ro sz : Nat → Int32) : Prop :=
  tm_FI fL a 384 ∧ tm_FI fB b 544 ∧ (∀ t, t < 38 → tm_R (tm_US fL a) (tm_US fB b) h lk lv ln ch 4 (l t) (ro t)) ∧ (∀ t, t < 38 → tm_SO (l t) ∧ (l t).length ≤ 10 ∧ sz t = nI (l t).length)
def tm_HX (sh fl fb : Int32) (lk lv ln ch fL fB ro sz : Nat → Int32) (l : Nat → List tm_E) : Prop :=
  ∃ a b, fl = nI a ∧ fb = nI b ∧ tm_HP (tm_h sh) l a b lk lv ln ch fL fB ro sz
def tm_lu (l : Nat → List tm_E) (i : Nat) (x : List tm_E) : Nat → List tm_E := fun j => if j = i then x else l j
theorem tm_lu_s {l : Nat → List tm_E} {i : Nat} {x : List tm_E} : tm_lu l i x i = x := if_pos rfl
theorem tm_lu_n {l : Nat → List tm_E} {i j : Nat} {x : List tm_E} (h : j ≠ i) : tm_lu l i x j = l j := if_neg h
theorem tm_lu_id {l : Nat → List tm_E} {i : Nat} {x : List tm_E} (h : x = l i) : tm_lu l i x = l := by
  funext j
  by_cases z : j = i
  · rw [z, tm_lu_s, h]
  · exact tm_lu_n z
theorem tm_HP_upd {h : Int32 → Nat} {fL fB lk lv ln ch lk' lv' ln' ch' ro : Nat → Int32} {a b a' b' hd : Nat} {l : Nat → List tm_E} {L : List tm_E} {n : Int32} (X : tm_X fL fB a b lk lv ln ch a' b' lk' lv' ln' ch')
    (H : ∀ t, t < 38 → tm_R (tm_US fL a) (tm_US fB b) h lk lv ln ch 4 (l t) (ro t)) (R : tm_R (tm_US fL a') (tm_US fB b') h lk' lv' ln' ch' 4 L n) :
    ∀ t, t < 38 → tm_R (tm_US fL a') (tm_US fB b') h lk' lv' ln' ch' 4 (tm_lu l hd L t) (upd ro hd n t) := by
  intro t ht
  by_cases z : t = hd
  · rw [z, tm_lu_s, pk_us]; exact R
  · rw [tm_lu_n z, pk_un z]; exact tm_R_X X (H t ht)
theorem tm_sz_upd {l : Nat → List tm_E} {sz : Nat → Int32} {hd : Nat} {L : List tm_E} (H : ∀ t, t < 38 → tm_SO (l t) ∧ (l t).length ≤ 10 ∧ sz t = nI (l t).length) (s : tm_SO L) (n : L.length ≤ 10) :
    ∀ t, t < 38 → tm_SO (tm_lu l hd L t) ∧ (tm_lu l hd L t).length ≤ 10 ∧ upd sz hd (nI L.length) t = nI (tm_lu l hd L t).length := by
  intro t ht
  by_cases z : t = hd
  · rw [z, tm_lu_s, pk_us]; exact ⟨s, n, rfl⟩
  · rw [tm_lu_n z, pk_un z]; exact H t ht
section
variable {fl fb sh ld : Int32} {ck : Int64} {lk lv ln ch lm bm fL fB ro sz pa wk wo lK lV op tc en aj aR aK aD sn sA sK sD qK qD qF qL : Nat → Int32} {bg cg : Nat → Int64}
/-- a goal behind a change of holder hd to L -/
def tm_KX (post : SX → Prop) (hd : Nat) (l : Nat → List tm_E) (L : List tm_E) (sh : Int32) (ck : Int64) (ro wo op : Nat → Int32) (bg : Nat → Int64) (tc en aj aR aK aD sn sA sK sD : Nat → Int32) (cg : Nat → Int64) (qK qD qF qL : Nat → Int32) : Prop :=
  ∀ fl' fb' ld' lk' lv' ln' ch' lm' bm' fL' fB' ro' sz' pa' wk' lK' lV', tm_HX sh fl' fb' lk' lv' ln' ch' fL' fB' ro' sz' (tm_lu l hd L) → (∀ t, t ≠ hd → ro' t = ro t) → post (fl', fb', sh, ld', ck, lk', lv', ln', ch', lm', bm', fL', fB', ro', sz', pa', wk', wo, lK', lV', op, bg, tc, en, aj, aR, aK, aD, sn, sA, sK, sD, cg, qK, qD, qF, qL)
theorem tm_s153 {post : Int32 → SX → Prop} {hd c v a b : Nat} {at' n : Int32} {l : Nat → List tm_E} {L' : List tm_E} (hfl : fl = nI a) (hfb : fb = nI b) (FL : tm_FI fL a 384) (FB : tm_FI fB b 544) (hb : 4 ≤ b) (hh : hd < 38) (hc : c < 256) (hv : v ≤ 4)
    (H : ∀ t, t < 38 → tm_R (tm_US fL a) (tm_US fB b) (tm_h sh) lk lv ln ch 4 (l t) (ro t)) (HS : ∀ t, t < 38 → tm_SO (l t) ∧ (l t).length ≤ 10 ∧ sz t = nI (l t).length)
    (E : tm_fl (fun k => decide (tm_h sh k ≠ c)) L' = tm_fl (fun k => decide (tm_h sh k ≠ c)) (l hd))
    (P : ∀ u, u < v → tm_PE (tm_US fL a) (tm_US fB b) (tm_h sh) lk lv ln ch c (l hd) pa u) (R0 : tm_R (tm_US fL a) (tm_US fB b) (tm_h sh) lk lv ln ch (4 - v) (tm_rl (tm_h sh) c v L') n)
    (s : tm_SO L') (hl : L'.length ≤ 10) (hs : (0 ≤ at' ∧ L'.length = (l hd).length) ∨ (¬ 0 ≤ at' ∧ L'.length = (l hd).length + 1))
    (K : tm_KX (post 1) hd l L' sh ck ro wo op bg tc en aj aR aK aD sn sA sK sD cg qK qD qF qL) : wX_set_153 post (nI hd) at' (nI c) (nI v) n fl fb sh ld ck lk lv ln ch lm bm fL fB ro sz pa wk wo lK lV op bg tc en aj aR aK aD sn sA sK sD cg qK qD qF qL := by
  unfold wX_set_153
  refine tm_rebuild (a := a) hfb FB hb hh hc hv E P R0 ?_
  intro n' b' ch' hb' X R'
  have H2 := tm_HP_upd (hd := hd) X H R'
  have hro : ∀ t, t ≠ hd → upd ro hd n' t = ro t := fun t ht => pk_un ht
  have FB' := tm_FI_le FB X.2.1
  rcases hs with ⟨h0, hn⟩ | ⟨h0, hn⟩
  · refine br_t h0 (K _ _ _ _ _ _ _ _ _ _ _ _ _ _ _ _ _ ⟨a, b', hfl, rfl, FL, FB', H2, ?_⟩ hro)
    have := tm_sz_upd (hd := hd) HS s hl
    have e : upd sz hd (nI L'.length) = sz := by
      funext t
      by_cases z : t = hd
      · rw [z, pk_us, hn, (HS hd hh).2.2]
      · exact pk_un z
    rw [e] at this
    exact this
  · refine br_f h0 ⟨tm_in hh, tm_in hh, nm_r (e' := upd sz hd (nI L'.length)) ?_ (K _ _ _ _ _ _ _ _ _ _ _ _ _ _ _ _ _ ⟨a, b', hfl, rfl, FL, FB', H2, tm_sz_upd HS s hl⟩ hro)⟩
    rw [nI_clamp (by omega), (HS hd hh).2.2, nI_1, ← hn, tm_nar8' (by omega)]
theorem tm_s106 {post : Int32 → SX → Prop} {hd v a b : Nat} {at' k w z0 : Int32} {l : Nat → List tm_E} (hfl : fl = nI a) (hfb : fb = nI b) (FL : tm_FI fL a 384) (FB : tm_FI fB b 544) (ha : 12 ≤ a) (hb : 12 ≤ b) (hh : hd < 38) (hv : v ≤ 4)
    (H : ∀ t, t < 38 → tm_R (tm_US fL a) (tm_US fB b) (tm_h sh) lk lv ln ch 4 (l t) (ro t)) (HS : ∀ t, t < 38 → tm_SO (l t) ∧ (l t).length ≤ 10 ∧ sz t = nI (l t).length)
    (P : ∀ u, u < v → tm_PE (tm_US fL a) (tm_US fB b) (tm_h sh) lk lv ln ch (tm_h sh k) (l hd) pa u) (A : tm_AH (tm_h sh) (tm_rl (tm_h sh) (tm_h sh k) v (l hd))) (C : tm_CH (tm_US fL a) lk lv ln (tm_rl (tm_h sh) (tm_h sh k) v (l hd)) (pa v))
    (hz : (tm_rl (tm_h sh) (tm_h sh k) v (l hd) = [] ∧ z0 = nI (tm_h sh k)) ∨ (∃ e, e ∈ tm_rl (tm_h sh) (tm_h sh k) v (l hd) ∧ z0 = nI (tm_h sh e.1)))
    (hs : (0 ≤ at' ∧ ∃ x, tm_look k (l hd) = some x) ∨ (¬ 0 ≤ at' ∧ tm_look k (l hd) = none ∧ (l hd).length ≠ 10))
    (K : tm_KX (post 1) hd l (tm_ins k w (l hd)) sh ck ro wo op bg tc en aj aR aK aD sn sA sK sD cg qK qD qF qL) : wX_set_106 post (nI hd) k w at' (nI (tm_h sh k)) (nI v) (pa v) z0 fl fb sh ld ck lk lv ln ch lm bm fL fB ro sz pa wk wo lK lV op bg tc en aj aR aK aD sn sA sK sD cg qK qD qF qL := by
  have sl := (HS hd hh).1
  have hlen := (HS hd hh).2.1
  have hc := tm_h_lt sh k
  have sL : tm_SO (tm_ins k w (l hd)) := tm_so_ins sl
  have pk : (fun x => decide (tm_h sh x % 4 ^ v = tm_h sh k % 4 ^ v)) k = true := decide_eq_true rfl
  have erl : tm_rl (tm_h sh) (tm_h sh k) v (tm_ins k w (l hd)) = tm_ins k w (tm_rl (tm_h sh) (tm_h sh k) v (l hd)) := tm_fl_ins_t sl pk
  have E : tm_fl (fun x => decide (tm_h sh x ≠ tm_h sh k)) (tm_ins k w (l hd)) = tm_fl (fun x => decide (tm_h sh x ≠ tm_h sh k)) (l hd) := tm_fl_ins_f sl (decide_eq_false fun z => z rfl)
  have hs' : ((0 ≤ at' ∧ (tm_ins k w (l hd)).length = (l hd).length) ∨ (¬ 0 ≤ at' ∧ (tm_ins k w (l hd)).length = (l hd).length + 1)) ∧ (tm_ins k w (l hd)).length ≤ 10 := by
    rcases hs with ⟨h0, x, hx⟩ | ⟨h0, hx, hn⟩
    · have := tm_len_ins_s (v := w) sl hx
      exact ⟨Or.inl ⟨h0, this⟩, by omega⟩
    · have := tm_len_ins_n (v := w) hx
      exact ⟨Or.inr ⟨h0, this⟩, by omega⟩
  have sq : tm_SO (tm_rl (tm_h sh) (tm_h sh k) v (l hd)) := tm_so_rl sl
  have hql : (tm_rl (tm_h sh) (tm_h sh k) v (l hd)).length ≤ 10 := Nat.le_trans tm_fl_len hlen
  -- both ways end in set_153
  have fin : ∀ (a' b' : Nat) (n ld' : Int32) (lk' lv' ln' ch' lK' lV' : Nat → Int32), 4 ≤ b' → tm_X fL fB a b lk lv ln ch a' b' lk' lv' ln' ch' → tm_R (tm_US fL a') (tm_US fB b') (tm_h sh) lk' lv' ln' ch' (4 - v) (tm_ins k w (tm_rl (tm_h sh) (tm_h sh k) v (l hd))) n →
      wX_set_153 post (nI hd) at' (nI (tm_h sh k)) (nI v) n (nI a') (nI b') sh ld' ck lk' lv' ln' ch' lm bm fL fB ro sz pa wk wo lK' lV' op bg tc en aj aR aK aD sn sA sK sD cg qK qD qF qL := by
    intro a' b' n ld' lk' lv' ln' ch' lK' lV' hb' X R'
    refine tm_s153 (a := a') (b := b') (l := l) (L' := tm_ins k w (l hd)) rfl rfl (tm_FI_le FL X.1) (tm_FI_le FB X.2.1) hb' hh hc hv (fun t ht => tm_R_X X (H t ht)) HS E (fun u hu => tm_PE_X X (P u hu)) ?_ sL hs'.2 hs'.1 K
    rw [erl]; exact R'
  by_cases z : z0 = nI (tm_h sh k)
  · refine br_t z (tm_chainWith (a := a) (b := b) hfl FL (by omega) C sq hql ?_)
    intro n' a' ld' lk' lv' ln' lK' lV' ha' X C'
    subst hfb
    refine fin a' b n' ld' lk' lv' ln' ch lK' lV' (by omega) X (tm_R_ch ?_ C')
    have all : ∀ e, e ∈ tm_rl (tm_h sh) (tm_h sh k) v (l hd) → tm_h sh e.1 = tm_h sh k := by
      rcases hz with ⟨hz, _⟩ | ⟨e, he, hz⟩
      · rw [hz]; exact fun e he => absurd he List.not_mem_nil
      · have he' : tm_h sh e.1 = tm_h sh k := tm_inj (by have := tm_h_lt sh e.1; omega) (by omega) (hz.symm.trans z)
        exact fun x hx => (A x hx e he).trans he'
    have all' : ∀ e, e ∈ tm_ins k w (tm_rl (tm_h sh) (tm_h sh k) v (l hd)) → tm_h sh e.1 = tm_h sh k := by
      intro e he
      rcases (tm_mem_ins sq).mp he with r | r
      · rw [r]
      · exact all e r.1
    exact fun x hx y hy => (all' x hx).trans (all' y hy).symm
  · refine br_f z ?_
    obtain ⟨e, he, hz⟩ : ∃ e, e ∈ tm_rl (tm_h sh) (tm_h sh k) v (l hd) ∧ z0 = nI (tm_h sh e.1) := by
      rcases hz with ⟨_, hz⟩ | hz
      · exact absurd hz z
      · exact hz
    obtain ⟨a', rfl⟩ : ∃ a', a = a' + 1 := ⟨a - 1, by omega⟩
    refine tm_newLeaf (a := a') (b := b) hfl FL tm_nd_0 ?_
    intro j lk' lv' ln' hj u X ek ev en
    subst hz
    subst hfb
    refine tm_part (a := a') (b := b) (k := k) (v := w) rfl FB (by omega) hc sq (List.ne_nil_of_mem he) (fun x hx => A x hx e he) rfl (fun q => z (congrArg nI q)) hv (tm_mem_rl.mp he).2 (tm_CH_X X C) ⟨j, hj, u, rfl, ek, ev, en⟩ ?_
    intro n' b' ch' hb' Y R'
    exact fin a' b' n' ld lk' lv' ln' ch' lK lV (by omega) (tm_X_trans X Y) R'
theorem tm_s49 {post : Int32 → SX → Prop} {hd e : Nat} {at' k w : Int32} {l : Nat → List tm_E} (HX : tm_HX sh fl fb lk lv ln ch fL fB ro sz l) (hh : hd < 38) (he : e < 36) (y0 : l e = []) (y1 : l (e + 1) = []) (y2 : l (e + 2) = [])
    (hs : (0 ≤ at' ∧ ∃ x, tm_look k (l hd) = some x) ∨ (¬ 0 ≤ at' ∧ tm_look k (l hd) = none ∧ (l hd).length ≠ 10))
    (K : tm_KX (post 1) hd l (tm_ins k w (l hd)) sh ck ro wo op bg tc en aj aR aK aD sn sA sK sD cg qK qD qF qL) : wX_set_49 post (nI hd) k w at' fl fb sh ld ck lk lv ln ch lm bm fL fB ro sz pa wk wo lK lV op bg tc en aj aR aK aD sn sA sK sD cg qK qD qF qL := by
  obtain ⟨a0, b0, hfl, hfb, FL, FB, H, HS⟩ := HX
  unfold wX_set_49
  refine tm_reserve hfl hfb FL FB H (fun t ht => (HS t ht).2.1) he y0 y1 y2 ?_
  intro a b lm' bm' fL' fB' wk' ha hb FL' FB' H'
  refine tm_hash ?_
  refine ⟨tm_in hh, ?_⟩
  rw [nI_clamp (show hd < 2 ^ 31 by omega)]
  refine tm_descend (S := tm_US fL' a) (T := tm_US fB' b) (l := l hd) (tm_h_lt _ _) (H' hd hh) ?_
  intro v pa' hv P A C
  refine ⟨tm_in (by omega), nm_r (e' := pa' v) (by rw [nI_clamp (by omega)]) ?_⟩
  rcases tm_CH_s C with ⟨r, rq⟩ | ⟨j, x, t, rq, h1, h2, h3, h4, h5, h6⟩
  · refine br_t (by rw [r]; decide) ?_
    exact tm_s106 (a := a) (b := b) rfl rfl FL' FB' ha hb hh hv H' HS P A C (Or.inl ⟨rq, rfl⟩) hs K
  · refine br_f (by rw [h3]; exact tm_pos h1) ⟨by rw [h3, tm_pred]; exact tm_in h1, ?_⟩
    have e1 : lk (pa' v - 1).toNatClampNeg = x.1 := by rw [h3, tm_pred, nI_clamp (by omega)]; exact h4
    rw [e1]
    refine tm_hash ?_
    exact tm_s106 (a := a) (b := b) rfl rfl FL' FB' ha hb hh hv H' HS P A C (Or.inr ⟨x, by rw [rq]; exact List.mem_cons_self, rfl⟩) hs K
theorem tm_set {post : Int32 → SX → Prop} {hd e : Nat} {k w : Int32} {l : Nat → List tm_E} (HX : tm_HX sh fl fb lk lv ln ch fL fB ro sz l) (hh : hd < 38) (he : e < 36) (y0 : l e = []) (y1 : l (e + 1) = []) (y2 : l (e + 2) = [])
    (K1 : (tm_look k (l hd) = none → (l hd).length ≠ 10) → tm_KX (post 1) hd l (tm_ins k w (l hd)) sh ck ro wo op bg tc en aj aR aK aD sn sA sK sD cg qK qD qF qL)
    (K0 : tm_look k (l hd) = none → (l hd).length = 10 → post 0 (fl, fb, sh, ld, ck, lk, lv, ln, ch, lm, bm, fL, fB, ro, sz, pa, wk, wo, lK, lV, op, bg, tc, en, aj, aR, aK, aD, sn, sA, sK, sD, cg, qK, qD, qF, qL)) : wpX_set post (fl, fb, sh, ld, ck, lk, lv, ln, ch, lm, bm, fL, fB, ro, sz, pa, wk, wo, lK, lV, op, bg, tc, en, aj, aR, aK, aD, sn, sA, sK, sD, cg, qK, qD, qF, qL) (nI hd) k w := by
  have HX0 := HX
  obtain ⟨a0, b0, hfl, hfb, FL, FB, H, HS⟩ := HX
  have hsz := (HS hd hh).2.2
  have hlen := (HS hd hh).2.1
  unfold wpX_set
  refine ⟨tm_in hh, ?_⟩
  rw [nI_clamp (show hd < 2 ^ 31 by omega)]
  refine tm_find (HS hd hh).1 (H hd hh) ?_
  rintro r (⟨rfl, hn⟩ | ⟨j, hj, rfl, hx⟩)
  · refine br_t (by decide) (br_f (by decide) ⟨tm_in hh, ?_⟩)
    rw [nI_clamp (show hd < 2 ^ 31 by omega), hsz]
    refine pk_eq _ 10 (fun q => K0 hn q) (fun q => ?_)
    exact tm_s49 HX0 hh he y0 y1 y2 (Or.inr ⟨by decide, hn, q⟩) (K1 fun _ => q)
  · have no : tm_look k (l hd) = none → (l hd).length ≠ 10 := fun q => by rw [hx] at q; exact absurd q (by simp)
    refine br_f (nI_pos (by omega)) ⟨tm_in hj, ?_⟩
    rw [nI_clamp (show j < 2 ^ 31 by omega)]
    by_cases q : lv j = w
    · refine br_t q ?_
      rw [q] at hx
      have := K1 no fl fb ld lk lv ln ch lm bm fL fB ro sz pa wk lK lV
      rw [tm_lu_id (tm_ins_same (HS hd hh).1 hx)] at this
      exact this HX0 (fun _ _ => rfl)
    · exact br_f q (br_t (nI_pos' (by omega)) (tm_s49 HX0 hh he y0 y1 y2 (Or.inl ⟨nI_pos' (by omega), _, hx⟩) (K1 no)))
theorem tm_unset {post : Int32 → SX → Prop} {hd e : Nat} {k : Int32} {l : Nat → List tm_E} (HX : tm_HX sh fl fb lk lv ln ch fL fB ro sz l) (hh : hd < 38) (he : e < 36) (y0 : l e = []) (y1 : l (e + 1) = []) (y2 : l (e + 2) = [])
    (K1 : (∃ x, tm_look k (l hd) = some x) → tm_KX (post 1) hd l (tm_del k (l hd)) sh ck ro wo op bg tc en aj aR aK aD sn sA sK sD cg qK qD qF qL)
    (K0 : tm_look k (l hd) = none → post 0 (fl, fb, sh, ld, ck, lk, lv, ln, ch, lm, bm, fL, fB, ro, sz, pa, wk, wo, lK, lV, op, bg, tc, en, aj, aR, aK, aD, sn, sA, sK, sD, cg, qK, qD, qF, qL)) : wpX_unset post (fl, fb, sh, ld, ck, lk, lv, ln, ch, lm, bm, fL, fB, ro, sz, pa, wk, wo, lK, lV, op, bg, tc, en, aj, aR, aK, aD, sn, sA, sK, sD, cg, qK, qD, qF, qL) (nI hd) k := by
  obtain ⟨a0, b0, hfl, hfb, FL, FB, H, HS⟩ := HX
  have hsz := (HS hd hh).2.2
  have hlen := (HS hd hh).2.1
  have sl := (HS hd hh).1
  unfold wpX_unset
  refine ⟨tm_in hh, ?_⟩
  rw [nI_clamp (show hd < 2 ^ 31 by omega)]
  refine tm_find (HS hd hh).1 (H hd hh) ?_
  rintro r (⟨rfl, hn⟩ | ⟨j, hj, rfl, hx⟩)
  · exact br_f (by decide) (K0 hn)
  · refine br_t (nI_pos' (by omega)) ?_
    refine tm_reserve hfl hfb FL FB H (fun t ht => (HS t ht).2.1) he y0 y1 y2 ?_
    intro a b lm' bm' fL' fB' wk' ha hb FL' FB' H'
    refine tm_hash ?_
    refine ⟨tm_in hh, ?_⟩
    refine tm_descend (S := tm_US fL' a) (T := tm_US fB' b) (l := l hd) (tm_h_lt _ _) (H' hd hh) ?_
    intro v pa' hv P A C
    refine ⟨tm_in (by omega), ?_⟩
    rw [nI_clamp (show v < 2 ^ 31 by omega)]
    have hk : tm_look k (tm_rl (tm_h sh) (tm_h sh k) v (l hd)) = some (lv j) := by rw [tm_look_rl]; exact hx
    refine tm_chainWithout (a := a) (b := b) rfl FL' (by omega) C (tm_so_rl sl) (Nat.le_trans tm_fl_len hlen) ⟨_, tm_look_mem hk⟩ ?_
    intro n' a' ld' lk' lv' ln' lK' lV' ha' X C'
    have E : tm_fl (fun x => decide (tm_h sh x ≠ tm_h sh k)) (tm_del k (l hd)) = tm_fl (fun x => decide (tm_h sh x ≠ tm_h sh k)) (l hd) := tm_fl_del_f (decide_eq_false fun z => z rfl)
    refine tm_rebuild (a := a') (b := b) (l := l hd) (l' := tm_del k (l hd)) rfl FB' (by omega) hh (tm_h_lt _ _) hv E (fun u hu => tm_PE_X X (P u hu)) ?_ ?_
    · refine tm_R_ch ?_ ?_
      · exact fun x hx y hy => A x (tm_mem_rl.mpr ⟨(tm_mem_del.mp (tm_mem_rl.mp hx).1).1, (tm_mem_rl.mp hx).2⟩) y (tm_mem_rl.mpr ⟨(tm_mem_del.mp (tm_mem_rl.mp hy).1).1, (tm_mem_rl.mp hy).2⟩)
      · have : tm_rl (tm_h sh) (tm_h sh k) v (tm_del k (l hd)) = tm_del k (tm_rl (tm_h sh) (tm_h sh k) v (l hd)) := tm_fl_del
        rw [this]; exact C'
    · intro n2 b' ch' hb' Y R'
      have XY := tm_X_trans X Y
      have hd1 := tm_len_del sl hx
      refine ⟨tm_in hh, tm_in hh, nm_r (e' := upd sz hd (nI (tm_del k (l hd)).length)) ?_ (K1 ⟨_, hx⟩ _ _ _ _ _ _ _ _ _ _ _ _ _ _ _ _ _ ⟨a', b', rfl, rfl, tm_FI_le FL' XY.1, tm_FI_le FB' XY.2.1, tm_HP_upd XY H' R', tm_sz_upd HS (tm_so_del sl) (by omega)⟩ (fun t ht => pk_un ht))⟩
      rw [hsz, ← hd1, nI_pred, tm_nar8' (by omega)]
def tm_nv (k d : Int32) (l : List tm_E) : Int32 := match tm_look k l with
  | none => d
  | some w => w + d
theorem tm_change {post : Int32 → SX → Prop} {hd e : Nat} {k d : Int32} {l : Nat → List tm_E} (HX : tm_HX sh fl fb lk lv ln ch fL fB ro sz l) (hh : hd < 38) (he : e < 36) (y0 : l e = []) (y1 : l (e + 1) = []) (y2 : l (e + 2) = [])
    (K1 : (tm_look k (l hd) = none → (l hd).length ≠ 10) → tm_KX (post 1) hd l (tm_ins k (tm_nv k d (l hd)) (l hd)) sh ck ro wo op bg tc en aj aR aK aD sn sA sK sD cg qK qD qF qL)
    (K0 : tm_look k (l hd) = none → (l hd).length = 10 → post 0 (fl, fb, sh, ld, ck, lk, lv, ln, ch, lm, bm, fL, fB, ro, sz, pa, wk, wo, lK, lV, op, bg, tc, en, aj, aR, aK, aD, sn, sA, sK, sD, cg, qK, qD, qF, qL)) : wpX_change post (fl, fb, sh, ld, ck, lk, lv, ln, ch, lm, bm, fL, fB, ro, sz, pa, wk, wo, lK, lV, op, bg, tc, en, aj, aR, aK, aD, sn, sA, sK, sD, cg, qK, qD, qF, qL) (nI hd) k d := by
  have HX0 := HX
  obtain ⟨a0, b0, hfl, hfb, FL, FB, H, HS⟩ := HX
  unfold wpX_change
  refine ⟨tm_in hh, ?_⟩
  have st : ∀ w, w = tm_nv k d (l hd) → wX_change_34 post w k (nI hd) fl fb sh ld ck lk lv ln ch lm bm fL fB ro sz pa wk wo lK lV op bg tc en aj aR aK aD sn sA sK sD cg qK qD qF qL := by
    intro w hw
    subst hw
    unfold wX_change_34
    refine tm_set HX0 hh he y0 y1 y2 ?_ ?_
    · intro h1 fl' fb' ld' lk' lv' ln' ch' lm' bm' fL' fB' ro' sz' pa' wk' lK' lV' HX' hr
      exact ⟨narrow_b1, K1 h1 _ _ _ _ _ _ _ _ _ _ _ _ _ _ _ _ _ HX' hr⟩
    · intro h1 h2
      exact ⟨narrow_b0, K0 h1 h2⟩
  rw [nI_clamp (show hd < 2 ^ 31 by omega)]
  refine tm_find (HS hd hh).1 (H hd hh) ?_
  rintro r (⟨rfl, hn⟩ | ⟨j, hj, rfl, hx⟩)
  · refine br_f (by decide) (st d ?_)
    unfold tm_nv; rw [hn]
  · refine br_t (nI_pos' (by omega)) ⟨tm_in hj, st _ ?_⟩
    unfold tm_nv; rw [hx, nI_clamp (show j < 2 ^ 31 by omega)]
theorem tm_give {post : Int32 → SX → Prop} {to from' : Nat} {l : Nat → List tm_E} (HX : tm_HX sh fl fb lk lv ln ch fL fB ro sz l) (ht : to < 38) (hf : from' < 38)
    (K : ∀ ro' sz', tm_HX sh fl fb lk lv ln ch fL fB ro' sz' (tm_lu l to (l from')) → (∀ t, t ≠ to → ro' t = ro t) → post (nI (l from').length) (fl, fb, sh, ld, ck, lk, lv, ln, ch, lm, bm, fL, fB, ro', sz', pa, wk, wo, lK, lV, op, bg, tc, en, aj, aR, aK, aD, sn, sA, sK, sD, cg, qK, qD, qF, qL)) : wpX_give post (fl, fb, sh, ld, ck, lk, lv, ln, ch, lm, bm, fL, fB, ro, sz, pa, wk, wo, lK, lV, op, bg, tc, en, aj, aR, aK, aD, sn, sA, sK, sD, cg, qK, qD, qF, qL) (nI to) (nI from') := by
  obtain ⟨a0, b0, hfl, hfb, FL, FB, H, HS⟩ := HX
  have hsz := (HS from' hf).2.2
  have hlen := (HS from' hf).2.1
  have hs := (HS from' hf).1
  unfold wpX_give
  refine ⟨tm_in hf, tm_in ht, nm_r (e' := upd ro to (ro from')) (by rw [nI_clamp (by omega), nI_clamp (by omega), tm_nar16 (tm_R_nd (H from' hf))]) ⟨tm_in hf, tm_in ht, nm_r (e' := upd sz to (nI (l from').length)) (by rw [nI_clamp (by omega), nI_clamp (by omega), hsz, tm_nar8 (by omega)]) ?_⟩⟩
  rw [nI_clamp (show from' < 2 ^ 31 by omega), hsz]
  exact K _ _ ⟨a0, b0, hfl, hfb, FL, FB, tm_HP_upd tm_X_refl H (H from' hf), tm_sz_upd HS hs hlen⟩ (fun t h => pk_un h)
def tm_ld (l : Nat → List tm_E) (f n : Nat) : Nat → List tm_E := fun j => if f ≤ j ∧ j < f + n then [] else l j
theorem tm_ld_s {l : Nat → List tm_E} {f n j : Nat} (h : f ≤ j ∧ j < f + n) : tm_ld l f n j = [] := if_pos h
theorem tm_ld_n {l : Nat → List tm_E} {f n j : Nat} (h : ¬ (f ≤ j ∧ j < f + n)) : tm_ld l f n j = l j := if_neg h
theorem tm_drop2 {post : SX → Prop} {f : Nat} {l : Nat → List tm_E} (hf : f + 4 ≤ 38)
    (K : ∀ ro' sz', tm_HX sh fl fb lk lv ln ch fL fB ro' sz' (tm_ld l f 4) → post (fl, fb, sh, ld, ck, lk, lv, ln, ch, lm, bm, fL, fB, ro', sz', pa, wk, wo, lK, lV, op, bg, tc, en, aj, aR, aK, aD, sn, sA, sK, sD, cg, qK, qD, qF, qL)) :
    ∀ (r i : Nat) (ro sz : Nat → Int32), i + r = 4 → tm_HX sh fl fb lk lv ln ch fL fB ro sz (tm_ld l f i) → wX_drop_2 post (nI f) fl fb sh ld ck (r + 1) (nI (f + i)) lk lv ln ch lm bm fL fB ro sz pa wk wo lK lV op bg tc en aj aR aK aD sn sA sK sD cg qK qD qF qL := by
  have e4 : nI f + 4 = nI (f + 4) := nI_add f 4
  intro r
  induction r with
  | zero =>
    intro i ro sz hi HX
    obtain rfl : i = 4 := by omega
    exact br_t (by rw [e4]; exact nI_le (Nat.le_refl _) (by omega)) (K ro sz HX)
  | succ r ih =>
    intro i ro sz hi HX
    obtain ⟨a0, b0, hfl, hfb, FL, FB, H, HS⟩ := HX
    refine br_f (by rw [e4]; exact nI_ge (by omega) (by omega)) ⟨tm_in (by omega), nm_r (e' := upd ro (f + i) 0) (by rw [nI_clamp (by omega), tm_sh0]) ⟨tm_in (by omega), nm_r (e' := upd sz (f + i) (nI ([] : List tm_E).length)) (by rw [nI_clamp (by omega), tm_by0]; rfl) (nm_r (e' := nI (f + (i + 1))) (nI_1 _) (ih (i + 1) _ _ (by omega) ?_))⟩⟩
    have e : tm_ld l f (i + 1) = tm_lu (tm_ld l f i) (f + i) [] := by
      funext j
      by_cases z : j = f + i
      · rw [z, tm_lu_s, tm_ld_s (by omega)]
      · rw [tm_lu_n z]
        by_cases y : f ≤ j ∧ j < f + i
        · rw [tm_ld_s y, tm_ld_s (by omega)]
        · rw [tm_ld_n y, tm_ld_n (by omega)]
    rw [e]
    exact ⟨a0, b0, hfl, hfb, FL, FB, tm_HP_upd tm_X_refl H tm_R_nil, tm_sz_upd HS tm_so_nil (by decide)⟩
theorem tm_drop {post : SX → Prop} {f : Nat} {l : Nat → List tm_E} (HX : tm_HX sh fl fb lk lv ln ch fL fB ro sz l) (hf : f + 4 ≤ 38)
    (K : ∀ ro' sz', tm_HX sh fl fb lk lv ln ch fL fB ro' sz' (tm_ld l f 4) → post (fl, fb, sh, ld, ck, lk, lv, ln, ch, lm, bm, fL, fB, ro', sz', pa, wk, wo, lK, lV, op, bg, tc, en, aj, aR, aK, aD, sn, sA, sK, sD, cg, qK, qD, qF, qL)) : wpX_drop post (fl, fb, sh, ld, ck, lk, lv, ln, ch, lm, bm, fL, fB, ro, sz, pa, wk, wo, lK, lV, op, bg, tc, en, aj, aR, aK, aD, sn, sA, sK, sD, cg, qK, qD, qF, qL) (nI f) := by
  unfold wpX_drop
  have e : tm_ld l f 0 = l := by
    funext j
    exact tm_ld_n (by omega)
  refine ⟨5, tm_drop2 hf K 4 0 ro sz rfl ?_⟩
  rw [e]; exact HX
end
end
section
/-! the reference: rows of at most ten entries in some order -/
def tm_YR (yk yv ys : Nat → Int32) (r : Nat) (l : List tm_E) : Prop :=
  ys r = nI l.length ∧ l.length ≤ 10 ∧ tm_SO l ∧ (∀ i, i < l.length → (yk (r * 10 + i), yv (r * 10 + i)) ∈ l) ∧ (∀ e, e ∈ l → ∃ i, i < l.length ∧ (yk (r * 10 + i), yv (r * 10 + i)) = e) ∧
  (∀ i, i < l.length → ∀ j, j < l.length → yk (r * 10 + i) = yk (r * 10 + j) → i = j)
def tm_YF (r : Nat) (yk yv ys yk' yv' ys' : Nat → Int32) : Prop :=
  (∀ x, (x < r * 10 ∨ r * 10 + 10 ≤ x) → yk' x = yk x ∧ yv' x = yv x) ∧ ∀ t, t ≠ r → ys' t = ys t
def tm_HY (D : Nat → Prop) (yk yv ys : Nat → Int32) (l : Nat → List tm_E) : Prop := ∀ t, D t → tm_YR yk yv ys t (l t)
section
variable {yk yv ys yk' yv' ys' : Nat → Int32} {D D' : Nat → Prop} {l : Nat → List tm_E}
theorem tm_YR_eq {r : Nat} {L : List tm_E} (H : tm_YR yk yv ys r L) (e : ∀ i, i < 10 → yk' (r * 10 + i) = yk (r * 10 + i) ∧ yv' (r * 10 + i) = yv (r * 10 + i)) (es : ys' r = ys r) : tm_YR yk' yv' ys' r L := by
  obtain ⟨h1, h2, h3, h4, h5, h6⟩ := H
  refine ⟨es.trans h1, h2, h3, fun i hi => ?_, fun x hx => ?_, fun i hi j hj q => ?_⟩
  · rw [(e i (by omega)).1, (e i (by omega)).2]; exact h4 i hi
  · obtain ⟨i, hi, q⟩ := h5 x hx
    exact ⟨i, hi, by rw [(e i (by omega)).1, (e i (by omega)).2]; exact q⟩
  · rw [(e i (by omega)).1, (e j (by omega)).1] at q
    exact h6 i hi j hj q
theorem tm_YF_o {r t : Nat} {L : List tm_E} (F : tm_YF r yk yv ys yk' yv' ys') (n : t ≠ r) (H : tm_YR yk yv ys t L) : tm_YR yk' yv' ys' t L :=
  tm_YR_eq H (fun i hi => F.1 _ (by omega)) (F.2 t n)
theorem tm_HY_lu {r : Nat} {L : List tm_E} (H : tm_HY D yk yv ys l) (F : tm_YF r yk yv ys yk' yv' ys') (R : tm_YR yk' yv' ys' r L) (d : ∀ t, D' t → t ≠ r → D t) : tm_HY D' yk' yv' ys' (tm_lu l r L) := by
  intro t ht
  by_cases z : t = r
  · rw [z, tm_lu_s]; exact R
  · rw [tm_lu_n z]; exact tm_YF_o F z (H t (d t ht z))
theorem tm_HY_sub (H : tm_HY D yk yv ys l) (d : ∀ t, D' t → D t) : tm_HY D' yk yv ys l := fun t ht => H t (d t ht)
theorem tm_YR_nil {r : Nat} (h : ys r = 0) : tm_YR yk yv ys r [] :=
  ⟨h, by decide, tm_so_nil, fun i hi => absurd hi (Nat.not_lt_zero _), fun e he => absurd he List.not_mem_nil, fun i hi => absurd hi (Nat.not_lt_zero _)⟩
end
theorem tm_10 (r i : Nat) : nI r * 10 + nI i = nI (r * 10 + i) := by
  rw [show (10 : Int32) = nI 10 from rfl, pk_mul, nI_add]
section
variable {yk yv ys op tc en yc aR aK aD aj sA sK sD sn wK wD wC : Nat → Int32}
theorem ty_find {post : Int32 → Prop} {r : Nat} {L : List tm_E} {k : Int32} (hr : r < 39) (H : tm_YR yk yv ys r L)
    (hp : ∀ x, ((x = -1 ∧ tm_look k L = none) ∨ (∃ i, i < L.length ∧ x = nI (r * 10 + i) ∧ yk (r * 10 + i) = k ∧ tm_look k L = some (yv (r * 10 + i)))) → post x) : wpY_find post (yk, yv, ys, op, tc, en, yc, aR, aK, aD, aj, sA, sK, sD, sn, wK, wD, wC) (nI r) k := by
  obtain ⟨h1, h2, h3, h4, h5, h6⟩ := H
  unfold wpY_find
  refine ⟨L.length + 1, ?_⟩
  have lp : ∀ d i, i + d = L.length → (∀ t, t < i → yk (r * 10 + t) ≠ k) → wY_find_2 post (nI r) k yk yv ys op tc en yc aR aK aD aj sA sK sD sn wK wD wC (d + 1) (nI i) := by
    intro d
    induction d with
    | zero =>
      intro i hi hn
      refine ⟨tm_in hr, ?_⟩
      rw [nI_clamp (show r < 2 ^ 31 by omega), h1]
      refine br_t (nI_le (by omega) (by omega)) (hp _ (Or.inl ⟨rfl, tm_look_none.mpr fun e he q => ?_⟩))
      obtain ⟨t, ht, et⟩ := h5 e he
      exact hn t (by omega) (by rw [← q, ← et])
    | succ d ih =>
      intro i hi hn
      refine ⟨tm_in hr, ?_⟩
      rw [nI_clamp (show r < 2 ^ 31 by omega), h1]
      refine br_f (nI_ge (by omega) (by omega)) ?_
      rw [tm_10]
      refine ⟨tm_in (by omega), ?_⟩
      rw [nI_clamp (show r * 10 + i < 2 ^ 31 by omega)]
      by_cases c : yk (r * 10 + i) = k
      · refine br_t c (hp _ (Or.inr ⟨i, by omega, rfl, c, (tm_look_some h3).mpr ?_⟩))
        have := h4 i (by omega)
        rw [c] at this
        exact this
      · refine br_f c (nm_r (e' := nI (i + 1)) (nI_1 _) (ih (i + 1) (by omega) fun t ht => ?_))
        by_cases z : t = i
        · rw [z]; exact c
        · exact hn t (by omega)
  exact lp L.length 0 (by omega) (fun t ht => absurd ht (Nat.not_lt_zero _))
theorem ty_set49 {post : Int32 → SY → Prop} {p : Nat} {k w : Int32} (hp : p < 390) (K : post 1 (upd yk p k, upd yv p w, ys, op, tc, en, yc, aR, aK, aD, aj, sA, sK, sD, sn, wK, wD, wC)) : wY_set_49 post k w (nI p) yk yv ys op tc en yc aR aK aD aj sA sK sD sn wK wD wC := by
  unfold wY_set_49
  exact ⟨tm_in hp, nm_r (e' := upd yk p k) (by rw [nI_clamp (by omega)]) ⟨tm_in hp, nm_r (e' := upd yv p w) (by rw [nI_clamp (by omega)]) K⟩⟩
theorem ty_set {post : Int32 → SY → Prop} {r : Nat} {L : List tm_E} {k w : Int32} (hr : r < 39) (H : tm_YR yk yv ys r L)
    (K1 : (tm_look k L = none → L.length ≠ 10) → ∀ yk' yv' ys', tm_YR yk' yv' ys' r (tm_ins k w L) → tm_YF r yk yv ys yk' yv' ys' → post 1 (yk', yv', ys', op, tc, en, yc, aR, aK, aD, aj, sA, sK, sD, sn, wK, wD, wC))
    (K0 : tm_look k L = none → L.length = 10 → post 0 (yk, yv, ys, op, tc, en, yc, aR, aK, aD, aj, sA, sK, sD, sn, wK, wD, wC)) : wpY_set post (yk, yv, ys, op, tc, en, yc, aR, aK, aD, aj, sA, sK, sD, sn, wK, wD, wC) (nI r) k w := by
  have H0 := H
  obtain ⟨h1, h2, h3, h4, h5, h6⟩ := H
  unfold wpY_set
  refine ty_find hr H0 ?_
  rintro x (⟨rfl, hn⟩ | ⟨i, hi, rfl, hk, hx⟩)
  · refine br_f (by decide) ⟨tm_in hr, ?_⟩
    rw [nI_clamp (show r < 2 ^ 31 by omega), h1]
    refine pk_eq _ 10 (fun q => K0 hn q) (fun q => ⟨tm_in hr, nm_r (e' := nI (r * 10 + L.length)) (tm_10 _ _) ⟨tm_in hr, tm_in hr, nm_r (e' := upd ys r (nI (L.length + 1))) (by rw [nI_1]) (ty_set49 (by omega) (K1 (fun _ => q) _ _ _ ?_ ?_))⟩⟩)
    · have hl := tm_len_ins_n (v := w) hn
      refine ⟨by rw [pk_us, hl], by omega, tm_so_ins h3, fun i hi => ?_, fun e he => ?_, fun i hi j hj e => ?_⟩
      · rw [tm_mem_ins h3]
        by_cases z : i = L.length
        · rw [z, pk_us, pk_us]; exact Or.inl rfl
        · rw [pk_un (by omega), pk_un (by omega)]
          have := h4 i (by omega)
          exact Or.inr ⟨this, tm_look_none.mp hn _ this⟩
      · rcases (tm_mem_ins h3).mp he with z | ⟨z, _⟩
        · exact ⟨L.length, by omega, by rw [pk_us, pk_us, z]⟩
        · obtain ⟨i, hi, q⟩ := h5 e z
          exact ⟨i, by omega, by rw [pk_un (by omega), pk_un (by omega)]; exact q⟩
      · have old : ∀ t, t < L.length → yk (r * 10 + t) ≠ k := fun t ht => tm_look_none.mp hn _ (h4 t ht)
        by_cases z : i = L.length
        · by_cases z' : j = L.length
          · omega
          · rw [z, pk_us, pk_un (by omega)] at e
            exact absurd e.symm (old j (by omega))
        · by_cases z' : j = L.length
          · rw [z', pk_us, pk_un (by omega)] at e
            exact absurd e (old i (by omega))
          · rw [pk_un (by omega), pk_un (by omega)] at e
            exact h6 i (by omega) j (by omega) e
    · exact ⟨fun x hx => ⟨pk_un (by omega), pk_un (by omega)⟩, fun t ht => pk_un ht⟩
  · have no : tm_look k L = none → L.length ≠ 10 := fun q => by rw [hx] at q; exact absurd q (by simp)
    refine br_t (nI_pos' (by omega)) (ty_set49 (by omega) (K1 no _ _ _ ?_ ?_))
    · have hl := tm_len_ins_s (v := w) h3 hx
      have ek : upd yk (r * 10 + i) k = yk := by
        funext x
        by_cases z : x = r * 10 + i
        · rw [z, pk_us, hk]
        · exact pk_un z
      rw [ek]
      refine ⟨by rw [hl]; exact h1, by omega, tm_so_ins h3, fun j hj => ?_, fun e he => ?_, fun j hj j' hj' e => h6 j (by omega) j' (by omega) e⟩
      · rw [tm_mem_ins h3]
        by_cases z : j = i
        · rw [z, pk_us, hk]; exact Or.inl rfl
        · rw [pk_un (by omega)]
          refine Or.inr ⟨h4 j (by omega), fun q => z (h6 j (by omega) i hi (q.trans hk.symm))⟩
      · rcases (tm_mem_ins h3).mp he with z | ⟨z, nz⟩
        · exact ⟨i, by omega, by rw [pk_us, hk, z]⟩
        · obtain ⟨j, hj, q⟩ := h5 e z
          refine ⟨j, by omega, ?_⟩
          have : j ≠ i := fun w => nz (by rw [← q, w]; exact hk)
          rw [pk_un (by omega)]; exact q
    · exact ⟨fun x hx => ⟨pk_un (by omega), pk_un (by omega)⟩, fun t ht => rfl⟩
theorem ty_adj {post : Int32 → SY → Prop} {r : Nat} {L : List tm_E} {k d : Int32} (hr : r < 39) (H : tm_YR yk yv ys r L)
    (K1 : (tm_look k L = none → L.length ≠ 10) → ∀ yk' yv' ys', tm_YR yk' yv' ys' r (tm_ins k (tm_nv k d L) L) → tm_YF r yk yv ys yk' yv' ys' → post 1 (yk', yv', ys', op, tc, en, yc, aR, aK, aD, aj, sA, sK, sD, sn, wK, wD, wC))
    (K0 : tm_look k L = none → L.length = 10 → post 0 (yk, yv, ys, op, tc, en, yc, aR, aK, aD, aj, sA, sK, sD, sn, wK, wD, wC)) : wpY_adjusted post (yk, yv, ys, op, tc, en, yc, aR, aK, aD, aj, sA, sK, sD, sn, wK, wD, wC) (nI r) k d := by
  unfold wpY_adjusted
  have st : ∀ w, w + d = tm_nv k d L → wY_adjusted_24 post (nI r) k d w yk yv ys op tc en yc aR aK aD aj sA sK sD sn wK wD wC := by
    intro w hw
    unfold wY_adjusted_24
    rw [hw]
    refine ty_set hr H ?_ ?_
    · intro h1 yk' yv' ys' R F
      exact ⟨narrow_b1, K1 h1 _ _ _ R F⟩
    · intro h1 h2
      exact ⟨narrow_b0, K0 h1 h2⟩
  have hl := H.2.1
  refine ty_find hr H ?_
  rintro x (⟨rfl, hn⟩ | ⟨i, hi, rfl, hk, hx⟩)
  · refine br_f (by decide) (st 0 ?_)
    unfold tm_nv; rw [hn]; exact Int32.zero_add _
  · refine br_t (nI_pos' (by omega)) ⟨tm_in (by omega), st _ ?_⟩
    unfold tm_nv; rw [hx, nI_clamp (show r * 10 + i < 2 ^ 31 by omega)]
end
def tm_cp (f : Nat → Int32) (s t i : Nat) : Nat → Int32 := fun x => if t * 10 ≤ x ∧ x < t * 10 + i then f (s * 10 + (x - t * 10)) else f x
theorem tm_cp_0 {f : Nat → Int32} {s t : Nat} : tm_cp f s t 0 = f := by
  funext x; exact if_neg (by omega)
theorem tm_cp_s {f : Nat → Int32} {s t i : Nat} (h : i < 10) : upd (tm_cp f s t i) (t * 10 + i) (tm_cp f s t i (s * 10 + i)) = tm_cp f s t (i + 1) := by
  have e : tm_cp f s t i (s * 10 + i) = f (s * 10 + i) := if_neg (by omega)
  rw [e]
  funext x
  by_cases z : x = t * 10 + i
  · subst z
    rw [pk_us]
    refine (Eq.trans (if_pos (by omega)) ?_).symm
    exact congrArg f (by omega)
  · rw [pk_un z]
    by_cases c : t * 10 ≤ x ∧ x < t * 10 + i
    · exact (if_pos c).trans (if_pos (by omega)).symm
    · exact (if_neg c).trans (if_neg (by omega)).symm
theorem tm_cp_in {f : Nat → Int32} {s t i : Nat} (h : i < 10) : tm_cp f s t 10 (t * 10 + i) = f (s * 10 + i) := by
  refine (if_pos (by omega)).trans (congrArg f (by omega))
theorem tm_cp_out {f : Nat → Int32} {s t x : Nat} (h : x < t * 10 ∨ t * 10 + 10 ≤ x) : tm_cp f s t 10 x = f x := if_neg (by omega)
theorem tm_YR_cp {yk yv ys : Nat → Int32} {s t : Nat} {L : List tm_E} (H : tm_YR yk yv ys s L) : tm_YR (tm_cp yk s t 10) (tm_cp yv s t 10) (upd ys t (ys s)) t L := by
  obtain ⟨h1, h2, h3, h4, h5, h6⟩ := H
  refine ⟨by rw [pk_us]; exact h1, h2, h3, fun i hi => ?_, fun e he => ?_, fun i hi j hj e => ?_⟩
  · rw [tm_cp_in (by omega), tm_cp_in (by omega)]; exact h4 i hi
  · obtain ⟨i, hi, q⟩ := h5 e he
    exact ⟨i, hi, by rw [tm_cp_in (by omega), tm_cp_in (by omega)]; exact q⟩
  · rw [tm_cp_in (by omega), tm_cp_in (by omega)] at e
    exact h6 i hi j hj e
section
variable {yk yv ys op tc en yc aR aK aD aj sA sK sD sn wK wD wC : Nat → Int32}
variable {D D' : Nat → Prop} {l : Nat → List tm_E}
theorem ty_copy0 {post : SY → Prop} {s t : Nat} (hs : s < 39) (ht : t < 39) (K : post (tm_cp yk s t 10, tm_cp yv s t 10, upd ys t (ys s), op, tc, en, yc, aR, aK, aD, aj, sA, sK, sD, sn, wK, wD, wC)) : wpY_copy post (yk, yv, ys, op, tc, en, yc, aR, aK, aD, aj, sA, sK, sD, sn, wK, wD, wC) (nI s) (nI t) := by
  unfold wpY_copy
  refine ⟨11, ?_⟩
  have lp : ∀ d i, i + d = 10 → wY_copy_2 post (nI s) (nI t) (d + 1) (nI i) (tm_cp yk s t i) (tm_cp yv s t i) ys op tc en yc aR aK aD aj sA sK sD sn wK wD wC := by
    intro d
    induction d with
    | zero =>
      intro i hi
      obtain rfl : i = 10 := by omega
      exact br_t (by decide) ⟨tm_in hs, tm_in ht, nm_r (e' := upd ys t (ys s)) (by rw [nI_clamp (by omega), nI_clamp (by omega)]) K⟩
    | succ d ih =>
      intro i hi
      refine br_f (nI_ge (b := 10) (by omega) (by decide)) ?_
      rw [tm_10, tm_10]
      refine ⟨tm_in (by omega), tm_in (by omega), nm_r (e' := tm_cp yk s t (i + 1)) (by rw [nI_clamp (by omega), nI_clamp (by omega)]; exact tm_cp_s (by omega)) ⟨tm_in (by omega), tm_in (by omega), nm_r (e' := tm_cp yv s t (i + 1)) (by rw [nI_clamp (by omega), nI_clamp (by omega)]; exact tm_cp_s (by omega)) (nm_r (e' := nI (i + 1)) (nI_1 _) (ih (i + 1) (by omega)))⟩⟩
  have := lp 10 0 rfl
  rw [tm_cp_0, tm_cp_0] at this
  exact this
theorem ty_copy {post : SY → Prop} {s t : Nat} (hs : s < 39) (ht : t < 39) (H : tm_HY D yk yv ys l) (hD : D s) (d : ∀ x, D' x → x ≠ t → D x)
    (K : ∀ yk' yv' ys', tm_HY D' yk' yv' ys' (tm_lu l t (l s)) → ys' t = nI (l s).length → post (yk', yv', ys', op, tc, en, yc, aR, aK, aD, aj, sA, sK, sD, sn, wK, wD, wC)) : wpY_copy post (yk, yv, ys, op, tc, en, yc, aR, aK, aD, aj, sA, sK, sD, sn, wK, wD, wC) (nI s) (nI t) := by
  refine ty_copy0 hs ht (K _ _ _ (tm_HY_lu H ⟨fun x hx => ⟨tm_cp_out hx, tm_cp_out hx⟩, fun x hx => pk_un hx⟩ (tm_YR_cp (H s hD)) d) ?_)
  rw [pk_us]; exact (H s hD).1
end
end
section
/-! the relation -/
/-- the rows that count: variables, refs, agents; what a transaction under way sees -/
def tm_D (op tc : Nat → Int32) (x : Nat) : Prop := x < 10 ∨ ∃ t r, t < 3 ∧ r < 4 ∧ op t ≠ 0 ∧ (x = 10 + (4 * t + r) ∨ (x = 22 + (4 * t + r) ∧ tc (4 * t + r) ≠ 0))
theorem tm_D_lt {op tc : Nat → Int32} {x : Nat} (h : tm_D op tc x) : x < 34 := by
  rcases h with h | ⟨t, r, h1, h2, _, h3 | h3⟩ <;> omega
theorem tm_D_upd {op tc : Nat → Int32} {x y : Nat} {v : Int32} (h : tm_D op (upd tc y v) x) (n : x ≠ 22 + y) : tm_D op tc x := by
  rcases h with h | ⟨t, r, h1, h2, h3, h4 | ⟨h4, h5⟩⟩
  · exact Or.inl h
  · exact Or.inr ⟨t, r, h1, h2, h3, Or.inl h4⟩
  · refine Or.inr ⟨t, r, h1, h2, h3, Or.inr ⟨h4, ?_⟩⟩
    rw [pk_un (by omega)] at h5
    exact h5
def tm_FX (l : Nat → List tm_E) (sh fl fb : Int32) (lk lv ln ch fL fB ro sz yk yv ys op tc : Nat → Int32) : Prop :=
  tm_HX sh fl fb lk lv ln ch fL fB ro sz l ∧ (l 35 = [] ∧ l 36 = [] ∧ l 37 = []) ∧ tm_HY (tm_D op tc) yk yv ys l
def tm_TA (aj aR tc : Nat → Int32) : Prop := ∀ t, t < 3 → ∃ n, n ≤ 8 ∧ aj t = nI n ∧ ∀ i, i < n → ∃ r, r < 4 ∧ aR (8 * t + i) = nI r ∧ tc (4 * t + r) = 2
def tm_TS (sn sA : Nat → Int32) : Prop := ∀ t, t < 3 → ∃ n, n ≤ 6 ∧ sn t = nI n ∧ ∀ i, i < n → ∃ g, g < 2 ∧ sA (6 * t + i) = nI g
def tm_TF (en tc : Nat → Int32) : Prop := (∀ x, x < 12 → en x = 0 ∨ en x = 1) ∧ (∀ x, x < 12 → tc x = 0 ∨ tc x = 1 ∨ tc x = 2)
def tm_TC (k : Nat) (ck : Int64) (op : Nat → Int32) (bg cg : Nat → Int64) (yc : Nat → Int32) : Prop :=
  ∃ (c : Nat) (B G : Nat → Nat), c ≤ k ∧ ck = lN c ∧ (∀ t, t < 3 → bg t = lN (B t) ∧ B t ≤ c) ∧ (∀ r, r < 4 → cg r = lN (G r) ∧ G r ≤ c) ∧
    (∀ t, t < 3 → op t ≠ 0 → ∀ r, r < 4 → (yc (4 * t + r) = 0 ↔ ¬ B t < G r))
def tm_QU (qK qD qF qL wK wD wC : Nat → Int32) : Prop := ∀ g, g < 2 → ∃ f n, f < 8 ∧ n ≤ 8 ∧ qF g = nI f ∧ qL g = nI n ∧ wC g = nI n ∧
  ∀ i, i < n → qK (8 * g + (f + i) % 8) = wK (8 * g + i) ∧ qD (8 * g + (f + i) % 8) = wD (8 * g + i)
def i_Rel (k : Nat) (u : SX) (v : SY) : Prop := match u with
  | (fl, fb, sh, ld, ck, lk, lv, ln, ch, lm, bm, fL, fB, ro, sz, pa, wk, wo, lK, lV, op, bg, tc, en, aj, aR, aK, aD, sn, sA, sK, sD, cg, qK, qD, qF, qL) => ∃ (yk yv ys yc wK wD wC : Nat → Int32) (l : Nat → List tm_E), v = (yk, yv, ys, op, tc, en, yc, aR, aK, aD, aj, sA, sK, sD, sn, wK, wD, wC) ∧ tm_FX l sh fl fb lk lv ln ch fL fB ro sz yk yv ys op tc ∧ tm_TA aj aR tc ∧ tm_TS sn sA ∧ tm_TF en tc ∧ tm_TC k ck op bg cg yc ∧ tm_QU qK qD qF qL wK wD wC
section
variable {fl fb sh ld : Int32} {ck : Int64} {lk lv ln ch lm bm fL fB ro sz pa wk wo lK lV op tc en aj aR aK aD sn sA sK sD qK qD qF qL : Nat → Int32} {bg cg : Nat → Int64}
variable {yk yv ys yc wK wD wC : Nat → Int32}
variable {l : Nat → List tm_E} {k : Nat}
theorem tm_mk (h1 : tm_FX l sh fl fb lk lv ln ch fL fB ro sz yk yv ys op tc) (h2 : tm_TA aj aR tc) (h3 : tm_TS sn sA) (h4 : tm_TF en tc) (h5 : tm_TC k ck op bg cg yc) (h6 : tm_QU qK qD qF qL wK wD wC) : i_Rel k (fl, fb, sh, ld, ck, lk, lv, ln, ch, lm, bm, fL, fB, ro, sz, pa, wk, wo, lK, lV, op, bg, tc, en, aj, aR, aK, aD, sn, sA, sK, sD, cg, qK, qD, qF, qL) (yk, yv, ys, op, tc, en, yc, aR, aK, aD, aj, sA, sK, sD, sn, wK, wD, wC) :=
  ⟨yk, yv, ys, yc, wK, wD, wC, l, rfl, h1, h2, h3, h4, h5, h6⟩
end
theorem tm_el {P : SX → SY → Prop} {k : Nat} {u : SX} {v : SY}
    (h : ∀ fl fb sh ld ck lk lv ln ch lm bm fL fB ro sz pa wk wo lK lV op bg tc en aj aR aK aD sn sA sK sD cg qK qD qF qL yk yv ys yc wK wD wC l, tm_FX l sh fl fb lk lv ln ch fL fB ro sz yk yv ys op tc → tm_TA aj aR tc → tm_TS sn sA → tm_TF en tc → tm_TC k ck op bg cg yc → tm_QU qK qD qF qL wK wD wC → P (fl, fb, sh, ld, ck, lk, lv, ln, ch, lm, bm, fL, fB, ro, sz, pa, wk, wo, lK, lV, op, bg, tc, en, aj, aR, aK, aD, sn, sA, sK, sD, cg, qK, qD, qF, qL) (yk, yv, ys, op, tc, en, yc, aR, aK, aD, aj, sA, sK, sD, sn, wK, wD, wC)) (I : i_Rel k u v) : P u v := by
  obtain ⟨fl, fb, sh, ld, ck, lk, lv, ln, ch, lm, bm, fL, fB, ro, sz, pa, wk, wo, lK, lV, op, bg, tc, en, aj, aR, aK, aD, sn, sA, sK, sD, cg, qK, qD, qF, qL⟩ := u
  obtain ⟨yk, yv, ys, yc, wK, wD, wC, l, rfl, h1, h2, h3, h4, h5, h6⟩ := I
  exact h _ _ _ _ _ _ _ _ _ _ _ _ _ _ _ _ _ _ _ _ _ _ _ _ _ _ _ _ _ _ _ _ _ _ _ _ _ _ _ _ _ _ _ _ _ h1 h2 h3 h4 h5 h6
theorem tm_up {k m : Nat} {ck : Int64} {op : Nat → Int32} {bg cg : Nat → Int64} {yc : Nat → Int32} (h : tm_TC k ck op bg cg yc) (g : k ≤ m) : tm_TC m ck op bg cg yc := by
  obtain ⟨c, B, G, h1, h2⟩ := h
  exact ⟨c, B, G, by omega, h2⟩
theorem i_up {k : Nat} {u : SX} {v : SY} (h : i_Rel k u v) : i_Rel (k + 5) u v := by
  refine tm_el (P := fun u v => i_Rel (k + 5) u v) ?_ h
  intro fl fb sh ld ck lk lv ln ch lm bm fL fB ro sz pa wk wo lK lV op bg tc en aj aR aK aD sn sA sK sD cg qK qD qF qL yk yv ys yc wK wD wC l h1 h2 h3 h4 h5 h6
  exact tm_mk h1 h2 h3 h4 (tm_up h5 (by omega)) h6
theorem tm_dec (p : Int32) (N : Nat) : (∃ j, j < N ∧ p = nI j) ∨ (∀ j, j < N → p ≠ nI j) := by
  by_cases h : ∃ j, j < N ∧ p = nI j
  · exact Or.inl h
  · exact Or.inr fun j hj e => h ⟨j, hj, e⟩
theorem tm_out_i {post : Int32 → Prop} {j : Nat} (N : Nat) (h : j < N) (p : post 0) (hN : N < 2 ^ 31 := by decide) : wpX_outside post (nI j) (nI N) := by
  unfold wpX_outside
  refine br_t (nI_pos' (by omega)) ?_
  unfold wX_outside_9
  exact br_t (nI_lt h hN) ⟨narrow_b0, p⟩
theorem tm_out_o {post : Int32 → Prop} {p : Int32} (N : Nat) (h : ∀ j, j < N → p ≠ nI j) (q : post 1) (hN : N < 2 ^ 31 := by decide) : wpX_outside post p (nI N) := by
  unfold wpX_outside
  refine br_c (fun h0 => ?_) (fun h0 => ?_)
  · unfold wX_outside_9
    refine br_f (fun hl => ?_) ⟨narrow_b1, q⟩
    obtain ⟨j, hj, rfl⟩ := nI_of (x := p) (tm_le_nlt h0)
    rw [nI_ltI hj hN] at hl
    exact h j hl rfl
  · unfold wX_outside_9
    exact br_c (fun _ => ⟨narrow_b1, q⟩) (fun _ => ⟨narrow_b1, q⟩)
section
variable {yk yv ys op tc en yc aR aK aD aj sA sK sD sn wK wD wC : Nat → Int32}
theorem ty_am_i {post : Int32 → Prop} {j : Nat} (N : Nat) (h : j < N) (p : post 1) (hN : N < 2 ^ 31 := by decide) : wpY_among post (yk, yv, ys, op, tc, en, yc, aR, aK, aD, aj, sA, sK, sD, sn, wK, wD, wC) (nI j) (nI N) := by
  unfold wpY_among
  exact br_f (nI_pos (by omega)) (br_f (nI_ge h hN) p)
theorem ty_am_o {post : Int32 → Prop} {p : Int32} (N : Nat) (h : ∀ j, j < N → p ≠ nI j) (q : post 0) (hN : N < 2 ^ 31 := by decide) : wpY_among post (yk, yv, ys, op, tc, en, yc, aR, aK, aD, aj, sA, sK, sD, sn, wK, wD, wC) p (nI N) := by
  unfold wpY_among
  refine br_c (fun _ => q) (fun h0 => br_t ?_ q)
  obtain ⟨j, hj, rfl⟩ := nI_of (x := p) h0
  by_cases z : j < N
  · exact absurd rfl (h j z)
  · exact nI_le (by omega) hj
theorem ty_op_i {post : Int32 → Prop} {t : Nat} (ht : t < 3) (c1 : op t ≠ 0 → post 1) (c0 : op t = 0 → post 0) : wpY_isOpen post (yk, yv, ys, op, tc, en, yc, aR, aK, aD, aj, sA, sK, sD, sn, wK, wD, wC) (nI t) := by
  unfold wpY_isOpen
  refine br_f (nI_pos (by omega)) (br_f (nI_ge (b := 3) ht (by decide)) ⟨tm_in ht, ?_⟩)
  rw [nI_clamp (show t < 2 ^ 31 by omega)]
  exact br_c c0 c1
theorem ty_op_o {post : Int32 → Prop} {p : Int32} (h : ∀ j, j < 3 → p ≠ nI j) (q : post 0) : wpY_isOpen post (yk, yv, ys, op, tc, en, yc, aR, aK, aD, aj, sA, sK, sD, sn, wK, wD, wC) p := by
  unfold wpY_isOpen
  refine br_c (fun _ => q) (fun h0 => br_t ?_ q)
  obtain ⟨j, hj, rfl⟩ := nI_of (x := p) h0
  by_cases z : j < 3
  · exact absurd rfl (h j z)
  · exact nI_le (a := 3) (by omega) hj
end
section
variable {fl fb sh ld : Int32} {ck : Int64} {lk lv ln ch lm bm fL fB ro sz pa wk wo lK lV op tc en aj aR aK aD sn sA sK sD qK qD qF qL : Nat → Int32} {bg cg : Nat → Int64}
theorem tm_cl_i {post : Int32 → Prop} {t : Nat} (ht : t < 3) (c1 : op t ≠ 0 → post 0) (c0 : op t = 0 → post 1) : wpX_closed post (fl, fb, sh, ld, ck, lk, lv, ln, ch, lm, bm, fL, fB, ro, sz, pa, wk, wo, lK, lV, op, bg, tc, en, aj, aR, aK, aD, sn, sA, sK, sD, cg, qK, qD, qF, qL) (nI t) := by
  unfold wpX_closed
  refine tm_out_i 3 ht ?_
  refine br_t rfl ⟨tm_in ht, ?_⟩
  rw [nI_clamp (show t < 2 ^ 31 by omega)]
  exact br_c c0 c1
theorem tm_cl_o {post : Int32 → Prop} {p : Int32} (h : ∀ j, j < 3 → p ≠ nI j) (q : post 1) : wpX_closed post (fl, fb, sh, ld, ck, lk, lv, ln, ch, lm, bm, fL, fB, ro, sz, pa, wk, wo, lK, lV, op, bg, tc, en, aj, aR, aK, aD, sn, sA, sK, sD, cg, qK, qD, qF, qL) p := by
  unfold wpX_closed
  refine tm_out_o 3 h ?_
  exact br_f (by decide) q
end
theorem tm_k4 (x : Nat) : (4 : Int32) + nI x = nI (4 + x) := nI_add 4 x
theorem tm_k8 (x : Nat) : (8 : Int32) + nI x = nI (8 + x) := nI_add 8 x
theorem tm_k10 (x : Nat) : (10 : Int32) + nI x = nI (10 + x) := nI_add 10 x
theorem tm_k22 (x : Nat) : (22 : Int32) + nI x = nI (22 + x) := nI_add 22 x
theorem tm_k34 (x : Nat) : (34 : Int32) + nI x = nI (34 + x) := nI_add 34 x
theorem tm_k35 (x : Nat) : (35 : Int32) + nI x = nI (35 + x) := nI_add 35 x
theorem tm_m4 (x : Nat) : (4 : Int32) * nI x = nI (4 * x) := pk_mul 4 x
theorem tm_m6 (x : Nat) : (6 : Int32) * nI x = nI (6 * x) := pk_mul 6 x
theorem tm_m8 (x : Nat) : (8 : Int32) * nI x = nI (8 * x) := pk_mul 8 x
theorem tm_n4 (x : Nat) : nI x * (4 : Int32) = nI (4 * x) := by rw [Nat.mul_comm]; exact pk_mul x 4
theorem tm_n6 (x : Nat) : nI x * (6 : Int32) = nI (6 * x) := by rw [Nat.mul_comm]; exact pk_mul x 6
theorem tm_n8 (x : Nat) : nI x * (8 : Int32) = nI (8 * x) := by rw [Nat.mul_comm]; exact pk_mul x 8
/-! the methods that only read -/
theorem i_vc_size {k : Nat} {u : SX} {v : SY} (I : i_Rel k u v) (hk : k + 5 ≤ 2561) (v1 : Int32) : wpX_size (fun r => wpY_size (fun r' => r' = r ∧ i_Rel (k + 5) u v) v v1) u v1 := by
  have I5 := i_up I
  revert I5
  refine tm_el (P := fun u v => i_Rel (k + 5) u v → wpX_size (fun r => wpY_size (fun r' => r' = r ∧ i_Rel (k + 5) u v) v v1) u v1) ?_ I
  intro fl fb sh ld ck lk lv ln ch lm bm fL fB ro sz pa wk wo lK lV op bg tc en aj aR aK aD sn sA sK sD cg qK qD qF qL yk yv ys yc wK wD wC l FX TA TS TF TC QU I5
  obtain ⟨HX, HE, HY⟩ := FX
  unfold wpX_size
  rcases tm_dec v1 4 with ⟨j, hj, rfl⟩ | ho
  · refine tm_out_i 4 hj (br_t rfl ⟨tm_in (by omega), ?_⟩)
    unfold wpY_size
    refine ty_am_i 4 hj (br_f (by decide) ⟨tm_in (by omega), ?_, I5⟩)
    obtain ⟨a0, b0, hfl, hfb, FL, FB, H, HS⟩ := HX
    rw [nI_clamp (show j < 2 ^ 31 by omega), (HS j (by omega)).2.2, (HY j (Or.inl (by omega))).1]
  · refine tm_out_o 4 ho (br_f (by decide) ?_)
    unfold wpY_size
    exact ty_am_o 4 ho (br_t rfl ⟨rfl, I5⟩)
theorem i_vc_waiting {k : Nat} {u : SX} {v : SY} (I : i_Rel k u v) (hk : k + 5 ≤ 2561) (v1 : Int32) : wpX_waiting (fun r => wpY_waiting (fun r' => r' = r ∧ i_Rel (k + 5) u v) v v1) u v1 := by
  have I5 := i_up I
  revert I5
  refine tm_el (P := fun u v => i_Rel (k + 5) u v → wpX_waiting (fun r => wpY_waiting (fun r' => r' = r ∧ i_Rel (k + 5) u v) v v1) u v1) ?_ I
  intro fl fb sh ld ck lk lv ln ch lm bm fL fB ro sz pa wk wo lK lV op bg tc en aj aR aK aD sn sA sK sD cg qK qD qF qL yk yv ys yc wK wD wC l FX TA TS TF TC QU I5
  unfold wpX_waiting
  rcases tm_dec v1 2 with ⟨j, hj, rfl⟩ | ho
  · refine tm_out_i 2 hj (br_t rfl ⟨tm_in (by omega), ?_⟩)
    unfold wpY_waiting
    refine ty_am_i 2 hj (br_f (by decide) ⟨tm_in (by omega), ?_, I5⟩)
    obtain ⟨f, n, h1, h2, h3, h4, h5, h6⟩ := QU j hj
    rw [nI_clamp (show j < 2 ^ 31 by omega), h4, h5]
  · refine tm_out_o 2 ho (br_f (by decide) ?_)
    unfold wpY_waiting
    exact ty_am_o 2 ho (br_t rfl ⟨rfl, I5⟩)
theorem i_vc_get {k : Nat} {u : SX} {v : SY} (I : i_Rel k u v) (hk : k + 5 ≤ 2561) (v1 : Int32) (v2 : Int32) (v3 : Int32) : wpX_get (fun r => wpY_get (fun r' => r' = r ∧ i_Rel (k + 5) u v) v v1 v2 v3) u v1 v2 v3 := by
  have I5 := i_up I
  revert I5
  refine tm_el (P := fun u v => i_Rel (k + 5) u v → wpX_get (fun r => wpY_get (fun r' => r' = r ∧ i_Rel (k + 5) u v) v v1 v2 v3) u v1 v2 v3) ?_ I
  intro fl fb sh ld ck lk lv ln ch lm bm fL fB ro sz pa wk wo lK lV op bg tc en aj aR aK aD sn sA sK sD cg qK qD qF qL yk yv ys yc wK wD wC l FX TA TS TF TC QU I5
  obtain ⟨HX, HE, HY⟩ := FX
  unfold wpX_get
  rcases tm_dec v1 4 with ⟨j, hj, rfl⟩ | ho
  · refine tm_out_i 4 hj (br_t rfl ⟨tm_in (by omega), ?_⟩)
    obtain ⟨a0, b0, hfl, hfb, FL, FB, H, HS⟩ := HX
    rw [nI_clamp (show j < 2 ^ 31 by omega)]
    refine tm_find (HS j (by omega)).1 (H j (by omega)) ?_
    have hy := (HY j (Or.inl (by omega))).2.1
    rintro r (⟨rfl, hn⟩ | ⟨i, hi, rfl, hx⟩)
    · refine br_f (by decide) ?_
      unfold wpY_get
      refine ty_am_i 4 hj (br_f (by decide) ?_)
      refine ty_find (by omega) (HY j (Or.inl (by omega))) ?_
      rintro x (⟨rfl, _⟩ | ⟨i, hi, rfl, hk', hx⟩)
      · exact br_f (by decide) ⟨rfl, I5⟩
      · rw [hn] at hx; exact absurd hx (by simp)
    · refine br_t (nI_pos' (by omega)) ⟨tm_in hi, ?_⟩
      unfold wpY_get
      refine ty_am_i 4 hj (br_f (by decide) ?_)
      refine ty_find (by omega) (HY j (Or.inl (by omega))) ?_
      rintro x (⟨rfl, hn⟩ | ⟨i', hi', rfl, hk', hx'⟩)
      · rw [hn] at hx; exact absurd hx (by simp)
      · refine br_t (nI_pos' (by omega)) ⟨tm_in (by omega), ?_, I5⟩
        rw [nI_clamp (show i < 2 ^ 31 by omega), nI_clamp (show j * 10 + i' < 2 ^ 31 by omega)]
        rw [hx] at hx'
        exact (Option.some.inj hx').symm
  · refine tm_out_o 4 ho (br_f (by decide) (br_f (by decide) ?_))
    unfold wpY_get
    exact ty_am_o 4 ho (br_t rfl ⟨rfl, I5⟩)
end
section
/-! put, remove, ensure, send, load, store, act -/
theorem tm_E_lu {l : Nat → List tm_E} {j : Nat} {x : List tm_E} (h : j < 35) (E : l 35 = [] ∧ l 36 = [] ∧ l 37 = []) : tm_lu l j x 35 = [] ∧ tm_lu l j x 36 = [] ∧ tm_lu l j x 37 = [] :=
  ⟨(tm_lu_n (by omega)).trans E.1, (tm_lu_n (by omega)).trans E.2.1, (tm_lu_n (by omega)).trans E.2.2⟩
theorem tm_HX_sz {sh fl fb : Int32} {lk lv ln ch fL fB ro sz : Nat → Int32} {l : Nat → List tm_E} (H : tm_HX sh fl fb lk lv ln ch fL fB ro sz l) {t : Nat} (ht : t < 38) : sz t = nI (l t).length ∧ (l t).length ≤ 10 ∧ tm_SO (l t) := by
  obtain ⟨a0, b0, _, _, _, _, _, HS⟩ := H
  exact ⟨(HS t ht).2.2, (HS t ht).2.1, (HS t ht).1⟩
theorem i_vc_put {k : Nat} {u : SX} {v : SY} (I : i_Rel k u v) (hk : k + 5 ≤ 2561) (v1 : Int32) (v2 : Int32) (v3 : Int32) : wpX_put (fun r u' => wpY_put (fun r' v' => r' = r ∧ i_Rel (k + 5) u' v') v v1 v2 v3) u v1 v2 v3 := by
  refine tm_el (P := fun u v => wpX_put (fun r u' => wpY_put (fun r' v' => r' = r ∧ i_Rel (k + 5) u' v') v v1 v2 v3) u v1 v2 v3) ?_ I
  intro fl fb sh ld ck lk lv ln ch lm bm fL fB ro sz pa wk wo lK lV op bg tc en aj aR aK aD sn sA sK sD cg qK qD qF qL yk yv ys yc wK wD wC l FX TA TS TF TC QU
  have FX0 := FX
  obtain ⟨HX, E, HY⟩ := FX
  have TC5 := tm_up TC (show k ≤ k + 5 by omega)
  unfold wpX_put
  rcases tm_dec v1 4 with ⟨j, hj, rfl⟩ | ho
  · refine tm_out_i 4 hj (br_t rfl ?_)
    refine tm_set HX (show j < 38 by omega) (show 35 < 36 by omega) E.1 E.2.1 E.2.2 ?_ ?_
    · intro hno fl' fb' ld' lk' lv' ln' ch' lm' bm' fL' fB' ro' sz' pa' wk' lK' lV' HX' hr
      refine br_f (by decide) ⟨tm_in (by omega), ?_⟩
      unfold wpY_put
      refine ty_am_i 4 hj (br_f (by decide) ?_)
      refine ty_set (by omega) (HY j (Or.inl (by omega))) ?_ ?_
      · intro _ yk' yv' ys' R F
        refine br_f (by decide) ⟨tm_in (by omega), ?_, tm_mk ⟨HX', tm_E_lu (by omega) E, tm_HY_lu HY F R (fun t h _ => h)⟩ TA TS TF TC5 QU⟩
        rw [nI_clamp (show j < 2 ^ 31 by omega), (tm_HX_sz HX' (show j < 38 by omega)).1, tm_lu_s, R.1]
      · exact fun h1 h2 => absurd h2 (hno h1)
    · intro h1 h2
      refine br_t rfl ?_
      unfold wpY_put
      refine ty_am_i 4 hj (br_f (by decide) ?_)
      refine ty_set (by omega) (HY j (Or.inl (by omega))) ?_ ?_
      · exact fun hno => absurd h2 (hno h1)
      · exact fun _ _ => br_t rfl ⟨rfl, tm_mk FX0 TA TS TF TC5 QU⟩
  · refine tm_out_o 4 ho (br_f (by decide) ?_)
    unfold wpY_put
    exact ty_am_o 4 ho (br_t rfl ⟨rfl, tm_mk FX0 TA TS TF TC5 QU⟩)
theorem ty_rem {yk yv ys : Nat → Int32} {r i : Nat} {L : List tm_E} {k : Int32} (H : tm_YR yk yv ys r L) (hi : i < L.length) (hk : yk (r * 10 + i) = k) (hx : tm_look k L = some (yv (r * 10 + i))) :
    tm_YR (upd yk (r * 10 + i) (yk (r * 10 + (L.length - 1)))) (upd yv (r * 10 + i) (yv (r * 10 + (L.length - 1)))) (upd ys r (nI (L.length - 1))) r (tm_del k L) := by
  obtain ⟨h1, h2, h3, h4, h5, h6⟩ := H
  have hl := tm_len_del h3 hx
  have hl' : (tm_del k L).length = L.length - 1 := by omega
  -- slot t of the new row is slot g t of the old one
  have g : ∀ t, t < L.length - 1 → ∃ s, s < L.length ∧ s ≠ i ∧ (t ≠ i → s = t) ∧ (t = i → s = L.length - 1) ∧ upd yk (r * 10 + i) (yk (r * 10 + (L.length - 1))) (r * 10 + t) = yk (r * 10 + s) ∧ upd yv (r * 10 + i) (yv (r * 10 + (L.length - 1))) (r * 10 + t) = yv (r * 10 + s) := by
    intro t ht
    by_cases z : t = i
    · refine ⟨L.length - 1, by omega, by omega, fun q => absurd z q, fun _ => rfl, ?_, ?_⟩
      · rw [z, pk_us]
      · rw [z, pk_us]
    · exact ⟨t, by omega, z, fun _ => rfl, fun q => absurd q z, pk_un (by omega), pk_un (by omega)⟩
  refine ⟨by rw [pk_us, hl'], by omega, tm_so_del h3, fun t ht => ?_, fun e he => ?_, fun t ht t' ht' q => ?_⟩
  · obtain ⟨s, s1, s2, _, _, s3, s4⟩ := g t (by omega)
    rw [s3, s4]
    refine tm_mem_del.mpr ⟨h4 s s1, fun q => s2 (h6 s s1 i hi (q.trans hk.symm))⟩
  · have ⟨e1, e2⟩ := tm_mem_del.mp he
    obtain ⟨s, s1, s2⟩ := h5 e e1
    have si : s ≠ i := fun q => e2 (by rw [← s2, q]; exact hk)
    by_cases z : s = L.length - 1
    · refine ⟨i, by omega, ?_⟩
      rw [pk_us, pk_us, ← z]; exact s2
    · refine ⟨s, by omega, ?_⟩
      rw [pk_un (by omega), pk_un (by omega)]; exact s2
  · obtain ⟨s, s1, s2, s5, s6, s3, s4⟩ := g t (by omega)
    obtain ⟨s', s1', s2', s5', s6', s3', s4'⟩ := g t' (by omega)
    rw [s3, s3'] at q
    have e := h6 s s1 s' s1' q
    by_cases z : t = i
    · by_cases z' : t' = i
      · omega
      · have := s6 z; have := s5' z'; omega
    · by_cases z' : t' = i
      · have := s5 z; have := s6' z'; omega
      · have := s5 z; have := s5' z'; omega
theorem i_vc_remove {k : Nat} {u : SX} {v : SY} (I : i_Rel k u v) (hk : k + 5 ≤ 2561) (v1 : Int32) (v2 : Int32) : wpX_remove (fun r u' => wpY_remove (fun r' v' => r' = r ∧ i_Rel (k + 5) u' v') v v1 v2) u v1 v2 := by
  refine tm_el (P := fun u v => wpX_remove (fun r u' => wpY_remove (fun r' v' => r' = r ∧ i_Rel (k + 5) u' v') v v1 v2) u v1 v2) ?_ I
  intro fl fb sh ld ck lk lv ln ch lm bm fL fB ro sz pa wk wo lK lV op bg tc en aj aR aK aD sn sA sK sD cg qK qD qF qL yk yv ys yc wK wD wC l FX TA TS TF TC QU
  have FX0 := FX
  obtain ⟨HX, E, HY⟩ := FX
  have TC5 := tm_up TC (show k ≤ k + 5 by omega)
  unfold wpX_remove
  rcases tm_dec v1 4 with ⟨j, hj, rfl⟩ | ho
  · have HYj := HY j (Or.inl (by omega))
    have hl := HYj.2.1
    refine tm_out_i 4 hj (br_t rfl ?_)
    refine tm_unset HX (show j < 38 by omega) (show 35 < 36 by omega) E.1 E.2.1 E.2.2 ?_ ?_
    · rintro ⟨x, hx⟩ fl' fb' ld' lk' lv' ln' ch' lm' bm' fL' fB' ro' sz' pa' wk' lK' lV' HX' hr
      refine br_f (by decide) ?_
      unfold wpY_remove
      refine ty_am_i 4 hj (br_f (by decide) ?_)
      refine ty_find (by omega) HYj ?_
      rintro y (⟨rfl, hn⟩ | ⟨i, hi, rfl, hk', hx'⟩)
      · rw [hn] at hx; exact absurd hx (by simp)
      · have el : nI j * 10 + ys (nI j).toNatClampNeg - 1 = nI (j * 10 + ((l j).length - 1)) := by
          rw [nI_clamp (show j < 2 ^ 31 by omega), HYj.1, tm_10, show j * 10 + (l j).length = j * 10 + ((l j).length - 1) + 1 by omega, nI_pred]
        refine br_t (nI_pos' (by omega)) ⟨tm_in (by omega), nm_r el ⟨tm_in (by omega), tm_in (by omega), nm_r (e' := upd yk (j * 10 + i) (yk (j * 10 + ((l j).length - 1)))) (by rw [nI_clamp (by omega), nI_clamp (by omega)]) ⟨tm_in (by omega), tm_in (by omega), nm_r (e' := upd yv (j * 10 + i) (yv (j * 10 + ((l j).length - 1)))) (by rw [nI_clamp (by omega), nI_clamp (by omega)]) ⟨tm_in (by omega), tm_in (by omega), nm_r (e' := upd ys j (nI ((l j).length - 1))) ?_ ⟨rfl, ?_⟩⟩⟩⟩⟩
        · rw [nI_clamp (show j < 2 ^ 31 by omega), HYj.1]
          obtain ⟨m, hm⟩ : ∃ m, (l j).length = m + 1 := ⟨(l j).length - 1, by omega⟩
          rw [hm, nI_pred]; rfl
        · exact tm_mk ⟨HX', tm_E_lu (by omega) E, tm_HY_lu HY ⟨fun x hx => ⟨pk_un (by omega), pk_un (by omega)⟩, fun t ht => pk_un ht⟩ (ty_rem HYj hi hk' hx') (fun t h _ => h)⟩ TA TS TF TC5 QU
    · intro hn
      refine br_t rfl ?_
      unfold wpY_remove
      refine ty_am_i 4 hj (br_f (by decide) ?_)
      refine ty_find (by omega) HYj ?_
      rintro y (⟨rfl, _⟩ | ⟨i, hi, rfl, hk', hx'⟩)
      · exact br_f (by decide) ⟨rfl, tm_mk FX0 TA TS TF TC5 QU⟩
      · rw [hn] at hx'; exact absurd hx' (by simp)
  · refine tm_out_o 4 ho (br_f (by decide) ?_)
    unfold wpY_remove
    exact ty_am_o 4 ho (br_t rfl ⟨rfl, tm_mk FX0 TA TS TF TC5 QU⟩)
theorem i_vc_ensure {k : Nat} {u : SX} {v : SY} (I : i_Rel k u v) (hk : k + 5 ≤ 2561) (v1 : Int32) (v2 : Int32) : wpX_ensure (fun r u' => wpY_ensure (fun r' v' => r' = r ∧ i_Rel (k + 5) u' v') v v1 v2) u v1 v2 := by
  refine tm_el (P := fun u v => wpX_ensure (fun r u' => wpY_ensure (fun r' v' => r' = r ∧ i_Rel (k + 5) u' v') v v1 v2) u v1 v2) ?_ I
  intro fl fb sh ld ck lk lv ln ch lm bm fL fB ro sz pa wk wo lK lV op bg tc en aj aR aK aD sn sA sK sD cg qK qD qF qL yk yv ys yc wK wD wC l FX TA TS TF TC QU
  have TC5 := tm_up TC (show k ≤ k + 5 by omega)
  have J := tm_mk (ld := ld) (lm := lm) (bm := bm) (pa := pa) (wk := wk) (wo := wo) (lK := lK) (lV := lV) (aK := aK) (aD := aD) (sK := sK) (sD := sD) FX TA TS TF TC5 QU
  unfold wpX_ensure
  rcases tm_dec v1 3 with ⟨t, ht, rfl⟩ | ho
  · refine tm_cl_i ht (fun o => br_t rfl ?_) (fun o => br_f (by decide) ?_)
    · rcases tm_dec v2 4 with ⟨r, hr, rfl⟩ | hr
      · refine tm_out_i 4 hr (br_t rfl ?_)
        rw [tm_m4, nI_add]
        refine ⟨tm_in (by omega), nm_r (e' := upd en (4 * t + r) 1) (by rw [nI_clamp (by omega), tm_nb1]) ?_⟩
        unfold wpY_ensure
        refine ty_op_i ht (fun _ => br_f (by decide) ?_) (fun z => absurd z o)
        refine ty_am_i 4 hr (br_f (by decide) ?_)
        rw [tm_n4, nI_add]
        refine ⟨tm_in (by omega), nm_r (e' := upd en (4 * t + r) 1) (by rw [nI_clamp (by omega), tm_nb1]) ⟨rfl, tm_mk FX TA TS ⟨fun x hx => ?_, TF.2⟩ TC5 QU⟩⟩
        by_cases z : x = 4 * t + r
        · rw [z, pk_us]; exact Or.inr rfl
        · rw [pk_un z]; exact TF.1 x hx
      · refine tm_out_o 4 hr (br_f (by decide) ?_)
        unfold wpY_ensure
        refine ty_op_i ht (fun _ => br_f (by decide) ?_) (fun z => absurd z o)
        exact ty_am_o 4 hr (br_t rfl ⟨rfl, J⟩)
    · unfold wpY_ensure
      exact ty_op_i ht (fun z => absurd o z) (fun _ => br_t rfl ⟨rfl, J⟩)
  · refine tm_cl_o ho (br_f (by decide) ?_)
    unfold wpY_ensure
    exact ty_op_o ho (br_t rfl ⟨rfl, J⟩)
end
section
/-! load, store, send, act -/
def tm_sx (tc : Nat → Int32) (x : Nat) : Nat := if tc x = 0 then 10 + x else 22 + x
theorem tm_sx_lt {tc : Nat → Int32} {x : Nat} (h : x < 12) : tm_sx tc x < 34 := by
  unfold tm_sx; split <;> omega
theorem tm_D_sx {op tc : Nat → Int32} {t r : Nat} (ht : t < 3) (hr : r < 4) (o : op t ≠ 0) : tm_D op tc (tm_sx tc (4 * t + r)) := by
  refine Or.inr ⟨t, r, ht, hr, o, ?_⟩
  unfold tm_sx
  by_cases z : tc (4 * t + r) = 0
  · rw [if_pos z]; exact Or.inl rfl
  · rw [if_neg z]; exact Or.inr ⟨rfl, z⟩
section
variable {fl fb sh ld : Int32} {ck : Int64} {lk lv ln ch lm bm fL fB ro sz pa wk wo lK lV op tc en aj aR aK aD sn sA sK sD qK qD qF qL : Nat → Int32} {bg cg : Nat → Int64}
theorem tm_seen {post : Int32 → Prop} {t r : Nat} (ht : t < 3) (hr : r < 4) (K : post (nI (tm_sx tc (4 * t + r)))) : wpX_seen post (fl, fb, sh, ld, ck, lk, lv, ln, ch, lm, bm, fL, fB, ro, sz, pa, wk, wo, lK, lV, op, bg, tc, en, aj, aR, aK, aD, sn, sA, sK, sD, cg, qK, qD, qF, qL) (nI t) (nI r) := by
  unfold wpX_seen
  rw [tm_m4, tm_k10, tm_k22, nI_add, nI_add, nI_add]
  refine ⟨tm_in (by omega), ?_⟩
  rw [nI_clamp (show 4 * t + r < 2 ^ 31 by omega)]
  unfold tm_sx at K
  refine br_c (fun z => ?_) (fun z => ?_)
  · rw [if_pos z, ← Nat.add_assoc] at K; exact K
  · rw [if_neg z, ← Nat.add_assoc] at K; exact K
end
section
variable {yk yv ys op tc en yc aR aK aD aj sA sK sD sn wK wD wC : Nat → Int32}
theorem ty_seen {post : Int32 → Prop} {t r : Nat} (ht : t < 3) (hr : r < 4) (K : post (nI (tm_sx tc (4 * t + r)))) : wpY_seen post (yk, yv, ys, op, tc, en, yc, aR, aK, aD, aj, sA, sK, sD, sn, wK, wD, wC) (nI t) (nI r) := by
  unfold wpY_seen
  rw [tm_n4, tm_k10, tm_k22, nI_add, nI_add, nI_add]
  refine ⟨tm_in (by omega), ?_⟩
  rw [nI_clamp (show 4 * t + r < 2 ^ 31 by omega)]
  unfold tm_sx at K
  refine br_c (fun z => ?_) (fun z => ?_)
  · rw [if_pos z, ← Nat.add_assoc] at K; exact K
  · rw [if_neg z, ← Nat.add_assoc] at K; exact K
end
theorem tm_n1_ne {j : Nat} (h : j < 2 ^ 31) : nI j ≠ -1 := by
  intro e
  have e' := congrArg Int32.toInt e
  rw [nI_toInt h, show (-1 : Int32).toInt = -1 from by decide] at e'
  omega
theorem i_vc_load {k : Nat} {u : SX} {v : SY} (I : i_Rel k u v) (hk : k + 5 ≤ 2561) (v1 : Int32) (v2 : Int32) (v3 : Int32) : wpX_load (fun r u' => wpY_load (fun r' v' => r' = r ∧ i_Rel (k + 5) u' v') v v1 v2 v3) u v1 v2 v3 := by
  refine tm_el (P := fun u v => wpX_load (fun r u' => wpY_load (fun r' v' => r' = r ∧ i_Rel (k + 5) u' v') v v1 v2 v3) u v1 v2 v3) ?_ I
  intro fl fb sh ld ck lk lv ln ch lm bm fL fB ro sz pa wk wo lK lV op bg tc en aj aR aK aD sn sA sK sD cg qK qD qF qL yk yv ys yc wK wD wC l FX TA TS TF TC QU
  have TC5 := tm_up TC (show k ≤ k + 5 by omega)
  have J := tm_mk (ld := ld) (lm := lm) (bm := bm) (pa := pa) (wk := wk) (wo := wo) (lK := lK) (lV := lV) (aK := aK) (aD := aD) (sK := sK) (sD := sD) FX TA TS TF TC5 QU
  obtain ⟨HX, E, HY⟩ := FX
  rcases tm_dec v3 4 with ⟨j, hj, rfl⟩ | ho
  · by_cases z : v1 = -1
    · subst z
      unfold wpX_load
      refine br_t rfl ?_
      unfold wX_load_10
      refine tm_out_i 4 hj (br_t rfl (br_f (by decide) ?_))
      unfold wX_load_32
      rcases tm_dec v2 6 with ⟨r, hr, rfl⟩ | hr
      · refine tm_out_i 6 hr (br_t rfl (br_f (by decide) ?_))
        unfold wX_load_53
        refine br_f (by decide) ?_
        unfold wX_load_70
        rw [tm_k4]
        refine tm_give HX (by omega) (by omega) ?_
        intro ro' sz' HX' _
        unfold wpY_load
        refine ty_am_i 4 hj (br_f (by decide) (br_t (nI_pos' (by omega)) (br_t rfl (br_t (nI_le (b := 5) (by omega) (by decide)) ?_))))
        rw [tm_k4]
        refine ty_copy (D := tm_D op tc) (D' := tm_D op tc) (l := l) (by omega) (by omega) HY (Or.inl (by omega)) (fun x h _ => h) ?_
        intro yk' yv' ys' HY' hys
        refine ⟨tm_in (by omega), ?_, tm_mk ⟨HX', tm_E_lu (by omega) E, HY'⟩ TA TS TF TC5 QU⟩
        rw [nI_clamp (by omega), hys]
      · refine tm_out_o 6 hr (br_f (by decide) ?_)
        unfold wpY_load
        refine ty_am_i 4 hj (br_f (by decide) (br_c (fun h0 => br_t rfl (br_f (fun h5 => ?_) ⟨rfl, J⟩)) (fun _ => ⟨rfl, J⟩)))
        obtain ⟨r, hr', rfl⟩ := nI_of2 (M := 5) (n := 5) (by decide) (tm_le_nlt h0) h5
        exact hr r (by omega) rfl
    · unfold wpX_load
      refine br_f z ?_
      unfold wX_load_10
      refine tm_out_i 4 hj (br_t rfl (br_t rfl ?_))
      unfold wX_load_32
      rcases tm_dec v2 4 with ⟨r, hr, rfl⟩ | hr
      · refine tm_out_i 4 hr (br_t rfl (br_t rfl ?_))
        rcases tm_dec v1 3 with ⟨t, ht, rfl⟩ | ht
        · refine tm_cl_i ht (fun o => br_t rfl ?_) (fun o => br_f (by decide) ?_)
          · unfold wX_load_53
            refine br_t rfl ?_
            refine tm_seen ht hr ?_
            unfold wX_load_70
            have hs := tm_sx_lt (tc := tc) (show 4 * t + r < 12 by omega)
            refine tm_give HX (by omega) (by omega) ?_
            intro ro' sz' HX' _
            unfold wpY_load
            refine ty_am_i 4 hj (br_f (by decide) (br_t (nI_pos' (by omega)) (br_f z ?_)))
            refine ty_op_i ht (fun _ => br_f (by decide) (br_t (nI_le (b := 3) (by omega) (by decide)) ?_)) (fun q => absurd q o)
            refine ty_seen ht hr ?_
            refine ty_copy (D := tm_D op tc) (D' := tm_D op tc) (l := l) (by omega) (by omega) HY (tm_D_sx ht hr o) (fun x h _ => h) ?_
            intro yk' yv' ys' HY' hys
            refine ⟨tm_in (by omega), ?_, tm_mk ⟨HX', tm_E_lu (by omega) E, HY'⟩ TA TS TF TC5 QU⟩
            rw [nI_clamp (by omega), hys]
          · unfold wpY_load
            refine ty_am_i 4 hj (br_f (by decide) (br_t (nI_pos' (by omega)) (br_f z ?_)))
            exact ty_op_i ht (fun q => absurd o q) (fun _ => br_t rfl ⟨rfl, J⟩)
        · refine tm_cl_o ht (br_f (by decide) ?_)
          unfold wpY_load
          refine ty_am_i 4 hj (br_f (by decide) (br_t (nI_pos' (by omega)) (br_f z ?_)))
          exact ty_op_o ht (br_t rfl ⟨rfl, J⟩)
      · refine tm_out_o 4 hr (br_f (by decide) ?_)
        unfold wpY_load
        refine ty_am_i 4 hj (br_f (by decide) (br_c (fun h0 => br_f z ?_) (fun _ => ⟨rfl, J⟩)))
        have h3 : ¬ v2 ≤ 3 := fun h5 => by
          obtain ⟨r, hr', rfl⟩ := nI_of2 (M := 3) (n := 3) (by decide) (tm_le_nlt h0) h5
          exact hr r (by omega) rfl
        rcases tm_dec v1 3 with ⟨t, ht, rfl⟩ | ht
        · exact ty_op_i ht (fun _ => br_f (by decide) (br_f h3 ⟨rfl, J⟩)) (fun _ => br_t rfl ⟨rfl, J⟩)
        · exact ty_op_o ht (br_t rfl ⟨rfl, J⟩)
  · have both : ∀ z0, wX_load_10 (fun r u' => wpY_load (fun r' v' => r' = r ∧ i_Rel (k + 5) u' v') (yk, yv, ys, op, tc, en, yc, aR, aK, aD, aj, sA, sK, sD, sn, wK, wD, wC) v1 v2 v3) v1 v2 v3 z0 fl fb sh ld ck lk lv ln ch lm bm fL fB ro sz pa wk wo lK lV op bg tc en aj aR aK aD sn sA sK sD cg qK qD qF qL := by
      intro z0
      unfold wX_load_10
      refine tm_out_o 4 ho (br_f (by decide) ?_)
      unfold wpY_load
      exact ty_am_o 4 ho (br_t rfl ⟨rfl, J⟩)
    unfold wpX_load
    exact br_c (fun _ => both 1) (fun _ => both 0)
theorem i_vc_store {k : Nat} {u : SX} {v : SY} (I : i_Rel k u v) (hk : k + 5 ≤ 2561) (v1 : Int32) (v2 : Int32) (v3 : Int32) : wpX_store (fun r u' => wpY_store (fun r' v' => r' = r ∧ i_Rel (k + 5) u' v') v v1 v2 v3) u v1 v2 v3 := by
  refine tm_el (P := fun u v => wpX_store (fun r u' => wpY_store (fun r' v' => r' = r ∧ i_Rel (k + 5) u' v') v v1 v2 v3) u v1 v2 v3) ?_ I
  intro fl fb sh ld ck lk lv ln ch lm bm fL fB ro sz pa wk wo lK lV op bg tc en aj aR aK aD sn sA sK sD cg qK qD qF qL yk yv ys yc wK wD wC l FX TA TS TF TC QU
  have TC5 := tm_up TC (show k ≤ k + 5 by omega)
  have J := tm_mk (ld := ld) (lm := lm) (bm := bm) (pa := pa) (wk := wk) (wo := wo) (lK := lK) (lV := lV) (aK := aK) (aD := aD) (sK := sK) (sD := sD) FX TA TS TF TC5 QU
  obtain ⟨HX, E, HY⟩ := FX
  unfold wpX_store
  rcases tm_dec v1 3 with ⟨t, ht, rfl⟩ | ht
  · refine tm_cl_i ht (fun o => br_t rfl ?_) (fun o => br_f (by decide) ?_)
    · rcases tm_dec v2 4 with ⟨r, hr, rfl⟩ | hr
      · refine tm_out_i 4 hr (br_t rfl ?_)
        rcases tm_dec v3 4 with ⟨j, hj, rfl⟩ | hj
        · refine tm_out_i 4 hj (br_t rfl (nm_r (e' := nI (4 * t + r)) (by rw [tm_m4, nI_add]) ⟨tm_in (by omega), ?_⟩))
          rw [nI_clamp (show 4 * t + r < 2 ^ 31 by omega)]
          by_cases c2 : tc (4 * t + r) = 2
          · refine br_t c2 ?_
            unfold wpY_store
            refine ty_op_i ht (fun _ => br_f (by decide) ?_) (fun q => absurd q o)
            refine ty_am_i 4 hr (br_f (by decide) ?_)
            refine ty_am_i 4 hj (br_f (by decide) ?_)
            rw [tm_n4, nI_add]
            refine ⟨tm_in (by omega), ?_⟩
            rw [nI_clamp (show 4 * t + r < 2 ^ 31 by omega)]
            exact br_t c2 ⟨rfl, J⟩
          · refine br_f c2 ⟨tm_in (by omega), nm_r (e' := upd tc (4 * t + r) 1) (by rw [tm_by1]) ?_⟩
            rw [tm_k22]
            refine tm_give HX (by omega) (by omega) ?_
            intro ro' sz' HX' _
            unfold wpY_store
            refine ty_op_i ht (fun _ => br_f (by decide) ?_) (fun q => absurd q o)
            refine ty_am_i 4 hr (br_f (by decide) ?_)
            refine ty_am_i 4 hj (br_f (by decide) ?_)
            rw [tm_n4, tm_k22, nI_add, nI_add]
            refine ⟨tm_in (by omega), ?_⟩
            rw [nI_clamp (show 4 * t + r < 2 ^ 31 by omega), Nat.add_assoc]
            refine br_f c2 ⟨tm_in (by omega), nm_e ?_⟩
            refine ty_copy (D := tm_D op tc) (D' := tm_D op (upd tc (4 * t + r) 1)) (l := l) (by omega) (by omega) HY (Or.inl (by omega)) (fun x h n => tm_D_upd h n) ?_
            intro yk' yv' ys' HY' hys
            refine ⟨tm_in (by omega), ?_, tm_mk ⟨HX', tm_E_lu (by omega) E, HY'⟩ ?_ TS ⟨TF.1, ?_⟩ TC5 QU⟩
            · have := (HY' j (Or.inl (by omega))).1
              rw [nI_clamp (by omega), this, tm_lu_n (by omega)]
            · intro t' ht'
              obtain ⟨n, n1, n2, n3⟩ := TA t' ht'
              refine ⟨n, n1, n2, fun i hi => ?_⟩
              obtain ⟨r', r1, r2, r3⟩ := n3 i hi
              refine ⟨r', r1, r2, ?_⟩
              rw [pk_un (fun q => c2 (by rw [← q]; exact r3))]; exact r3
            · intro x hx
              by_cases q : x = 4 * t + r
              · rw [q, pk_us]; exact Or.inr (Or.inl rfl)
              · rw [pk_un q]; exact TF.2 x hx
        · refine tm_out_o 4 hj (br_f (by decide) ?_)
          unfold wpY_store
          refine ty_op_i ht (fun _ => br_f (by decide) ?_) (fun q => absurd q o)
          refine ty_am_i 4 hr (br_f (by decide) ?_)
          exact ty_am_o 4 hj (br_t rfl ⟨rfl, J⟩)
      · refine tm_out_o 4 hr (br_f (by decide) ?_)
        unfold wpY_store
        refine ty_op_i ht (fun _ => br_f (by decide) ?_) (fun q => absurd q o)
        exact ty_am_o 4 hr (br_t rfl ⟨rfl, J⟩)
    · unfold wpY_store
      exact ty_op_i ht (fun q => absurd o q) (fun _ => br_t rfl ⟨rfl, J⟩)
  · refine tm_cl_o ht (br_f (by decide) ?_)
    unfold wpY_store
    exact ty_op_o ht (br_t rfl ⟨rfl, J⟩)
end
section
/-! enqueue, send, act -/
theorem tm_QU_enq {qK qD qF qL wK wD wC : Nat → Int32} (Q : tm_QU qK qD qF qL wK wD wC) {g f n : Nat} (hg : g < 2) (hf : f < 8) (hn : n < 8) (ef : qF g = nI f) (en : qL g = nI n) (k d : Int32) :
    tm_QU (upd qK (8 * g + (f + n) % 8) k) (upd qD (8 * g + (f + n) % 8) d) qF (upd qL g (nI (n + 1))) (upd wK (8 * g + n) k) (upd wD (8 * g + n) d) (upd wC g (nI (n + 1))) := by
  intro g' hg'
  obtain ⟨f', n', h1, h2, h3, h4, h5, h6⟩ := Q g' hg'
  by_cases z : g' = g
  · subst z
    obtain rfl : f' = f := tm_inj (by omega) (by omega) (h3.symm.trans ef)
    obtain rfl : n' = n := tm_inj (by omega) (by omega) (h4.symm.trans en)
    refine ⟨f', n' + 1, h1, by omega, h3, pk_us, pk_us, fun i hi => ?_⟩
    by_cases q : i = n'
    · subst q
      rw [pk_us, pk_us, pk_us, pk_us]; exact ⟨rfl, rfl⟩
    · have := h6 i (by omega)
      rw [pk_un (by omega), pk_un (by omega), pk_un (by omega), pk_un (by omega)]
      exact this
  · refine ⟨f', n', h1, h2, h3, by rw [pk_un z]; exact h4, by rw [pk_un z]; exact h5, fun i hi => ?_⟩
    have := h6 i hi
    rw [pk_un (by omega), pk_un (by omega), pk_un (by omega), pk_un (by omega)]
    exact this
section
variable {fl fb sh ld : Int32} {ck : Int64} {lk lv ln ch lm bm fL fB ro sz pa wk wo lK lV op tc en aj aR aK aD sn sA sK sD qK qD qF qL : Nat → Int32} {bg cg : Nat → Int64}
theorem tm_enq {post : SX → Prop} {g f n : Nat} {k d : Int32} (hg : g < 2) (hf : f < 8) (hn : n < 8) (ef : qF g = nI f) (eL : qL g = nI n)
    (K : post (fl, fb, sh, ld, ck, lk, lv, ln, ch, lm, bm, fL, fB, ro, sz, pa, wk, wo, lK, lV, op, bg, tc, en, aj, aR, aK, aD, sn, sA, sK, sD, cg, upd qK (8 * g + (f + n) % 8) k, upd qD (8 * g + (f + n) % 8) d, qF, upd qL g (nI (n + 1)))) : wpX_enqueue post (fl, fb, sh, ld, ck, lk, lv, ln, ch, lm, bm, fL, fB, ro, sz, pa, wk, wo, lK, lV, op, bg, tc, en, aj, aR, aK, aD, sn, sA, sK, sD, cg, qK, qD, qF, qL) (nI g) k d := by
  unfold wpX_enqueue
  dsimp only
  have e : (8 : Int32) * nI g + ((nI f + nI n) &&& 7) = nI (8 * g + (f + n) % 8) := by
    rw [nI_add, pk_andN (by omega) 3 (by decide), tm_m8, nI_add]
  rw [nI_clamp (show g < 2 ^ 31 by omega), eL, ef]
  refine ⟨tm_in hg, tm_in hg, tm_in hg, nm_r (e' := upd qL g (nI (n + 1))) (by rw [nI_1, tm_nar8' (by omega)]) (nm_r e ⟨tm_in (by omega), nm_r (e' := upd qK (8 * g + (f + n) % 8) k) (by rw [nI_clamp (by omega)]) ⟨tm_in (by omega), nm_r (e' := upd qD (8 * g + (f + n) % 8) d) (by rw [nI_clamp (by omega)]) K⟩⟩)⟩
end
section
variable {yk yv ys op tc en yc aR aK aD aj sA sK sD sn wK wD wC : Nat → Int32}
theorem ty_enq {post : Int32 → SY → Prop} {g n : Nat} {k d : Int32} (hg : g < 2) (hn : n < 8) (eL : wC g = nI n)
    (K : post (nI (n + 1)) (yk, yv, ys, op, tc, en, yc, aR, aK, aD, aj, sA, sK, sD, sn, upd wK (8 * g + n) k, upd wD (8 * g + n) d, upd wC g (nI (n + 1)))) : wpY_enqueue post (yk, yv, ys, op, tc, en, yc, aR, aK, aD, aj, sA, sK, sD, sn, wK, wD, wC) (nI g) k d := by
  unfold wpY_enqueue
  dsimp only
  have e : nI g * (8 : Int32) + nI n = nI (8 * g + n) := by rw [tm_n8, nI_add]
  rw [nI_clamp (show g < 2 ^ 31 by omega), eL, e]
  refine ⟨tm_in hg, tm_in (by omega), nm_r (e' := upd wK (8 * g + n) k) (by rw [nI_clamp (by omega)]) ⟨tm_in hg, tm_in (by omega), nm_r (e' := upd wD (8 * g + n) d) (by rw [nI_clamp (by omega)]) ⟨tm_in hg, tm_in hg, nm_r (e' := upd wC g (nI (n + 1))) (by rw [nI_1]) ⟨tm_in hg, ?_⟩⟩⟩⟩
  rw [pk_us]; exact K
end
theorem i_vc_send {k : Nat} {u : SX} {v : SY} (I : i_Rel k u v) (hk : k + 5 ≤ 2561) (v1 : Int32) (v2 : Int32) (v3 : Int32) (v4 : Int32) : wpX_send (fun r u' => wpY_send (fun r' v' => r' = r ∧ i_Rel (k + 5) u' v') v v1 v2 v3 v4) u v1 v2 v3 v4 := by
  refine tm_el (P := fun u v => wpX_send (fun r u' => wpY_send (fun r' v' => r' = r ∧ i_Rel (k + 5) u' v') v v1 v2 v3 v4) u v1 v2 v3 v4) ?_ I
  intro fl fb sh ld ck lk lv ln ch lm bm fL fB ro sz pa wk wo lK lV op bg tc en aj aR aK aD sn sA sK sD cg qK qD qF qL yk yv ys yc wK wD wC l FX TA TS TF TC QU
  have TC5 := tm_up TC (show k ≤ k + 5 by omega)
  have J := tm_mk (ld := ld) (lm := lm) (bm := bm) (pa := pa) (wk := wk) (wo := wo) (lK := lK) (lV := lV) (aK := aK) (aD := aD) (sK := sK) (sD := sD) FX TA TS TF TC5 QU
  unfold wpX_send
  rcases tm_dec v2 2 with ⟨g, hg, rfl⟩ | hg
  · refine tm_out_i 2 hg (br_t rfl ?_)
    by_cases z : v1 = -1
    · subst z
      refine br_t rfl ?_
      unfold wX_send_23
      obtain ⟨f, n, h1, h2, h3, h4, h5, h6⟩ := QU g hg
      refine br_t rfl ⟨tm_in hg, ?_⟩
      rw [nI_clamp (show g < 2 ^ 31 by omega), h4]
      refine pk_eq n 8 (fun q => ?_) (fun q => ?_)
      · unfold wpY_send
        refine ty_am_i 2 hg (br_f (by decide) (br_t rfl ?_))
        unfold wY_send_24
        refine br_t rfl ⟨tm_in hg, ?_⟩
        rw [nI_clamp (show g < 2 ^ 31 by omega), h5]
        exact br_t (congrArg nI q) ⟨rfl, J⟩
      · refine tm_enq hg h1 (by omega) h3 h4 ?_
        refine ⟨tm_in hg, ?_⟩
        rw [pk_us]
        unfold wpY_send
        refine ty_am_i 2 hg (br_f (by decide) (br_t rfl ?_))
        unfold wY_send_24
        refine br_t rfl ⟨tm_in hg, ?_⟩
        rw [nI_clamp (show g < 2 ^ 31 by omega), h5]
        refine br_f (fun e => q (tm_inj (by omega) (by omega) e)) ?_
        refine ty_enq hg (by omega) h5 ?_
        exact ⟨rfl, tm_mk FX TA TS TF TC5 (tm_QU_enq QU hg h1 (by omega) h3 h4 v3 v4)⟩
    · refine br_f z ?_
      rcases tm_dec v1 3 with ⟨t, ht, rfl⟩ | ht
      · refine tm_cl_i ht (fun o => br_t rfl ?_) (fun o => br_f (by decide) ?_)
        · obtain ⟨n, n1, n2, n3⟩ := TS t ht
          unfold wX_send_23
          refine br_f z ⟨tm_in ht, ?_⟩
          rw [nI_clamp (show t < 2 ^ 31 by omega), n2]
          refine pk_eq n 6 (fun q => ?_) (fun q => ?_)
          · unfold wpY_send
            refine ty_am_i 2 hg (br_f (by decide) (br_f z ?_))
            refine ty_op_i ht (fun _ => br_f (by decide) ?_) (fun q => absurd q o)
            unfold wY_send_24
            refine br_f z ⟨tm_in ht, ?_⟩
            rw [nI_clamp (show t < 2 ^ 31 by omega), n2]
            exact br_t (congrArg nI q) ⟨rfl, J⟩
          · have e6 : (6 : Int32) * nI t + nI n = nI (6 * t + n) := by rw [tm_m6, nI_add]
            have e6' : nI t * (6 : Int32) + nI n = nI (6 * t + n) := by rw [tm_n6, nI_add]
            refine ⟨tm_in ht, tm_in ht, nm_r (e' := upd sn t (nI (n + 1))) (by rw [nI_1, tm_nar8' (by omega)]) (nm_r e6 ⟨tm_in (by omega), nm_r (e' := upd sA (6 * t + n) (nI g)) (by rw [nI_clamp (by omega), tm_nar8' (by omega)]) ⟨tm_in (by omega), nm_r (e' := upd sK (6 * t + n) v3) (by rw [nI_clamp (by omega)]) ⟨tm_in (by omega), nm_r (e' := upd sD (6 * t + n) v4) (by rw [nI_clamp (by omega)]) ⟨tm_in ht, ?_⟩⟩⟩⟩)⟩
            rw [pk_us]
            unfold wpY_send
            refine ty_am_i 2 hg (br_f (by decide) (br_f z ?_))
            refine ty_op_i ht (fun _ => br_f (by decide) ?_) (fun q => absurd q o)
            unfold wY_send_24
            refine br_f z ⟨tm_in ht, ?_⟩
            rw [nI_clamp (show t < 2 ^ 31 by omega), n2]
            refine br_f (fun e => q (tm_inj (by omega) (by omega) e)) ⟨tm_in ht, nm_r e6' ⟨tm_in (by omega), nm_r (e' := upd sA (6 * t + n) (nI g)) (by rw [nI_clamp (by omega)]) ⟨tm_in (by omega), nm_r (e' := upd sK (6 * t + n) v3) (by rw [nI_clamp (by omega)]) ⟨tm_in (by omega), nm_r (e' := upd sD (6 * t + n) v4) (by rw [nI_clamp (by omega)]) ⟨tm_in ht, tm_in ht, nm_r (e' := upd sn t (nI (n + 1))) (by rw [nI_1]) ⟨tm_in ht, pk_us, ?_⟩⟩⟩⟩⟩⟩
            refine tm_mk FX TA ?_ TF TC5 QU
            intro t' ht'
            by_cases q' : t' = t
            · subst q'
              refine ⟨n + 1, by omega, pk_us, fun i hi => ?_⟩
              by_cases w : i = n
              · exact ⟨g, hg, by rw [w, pk_us]⟩
              · obtain ⟨g', g1, g2⟩ := n3 i (by omega)
                exact ⟨g', g1, by rw [pk_un (by omega)]; exact g2⟩
            · obtain ⟨m, m1, m2, m3⟩ := TS t' ht'
              refine ⟨m, m1, by rw [pk_un q']; exact m2, fun i hi => ?_⟩
              obtain ⟨g', g1, g2⟩ := m3 i hi
              exact ⟨g', g1, by rw [pk_un (by omega)]; exact g2⟩
        · unfold wpY_send
          refine ty_am_i 2 hg (br_f (by decide) (br_f z ?_))
          exact ty_op_i ht (fun q => absurd o q) (fun _ => br_t rfl ⟨rfl, J⟩)
      · refine tm_cl_o ht (br_f (by decide) ?_)
        unfold wpY_send
        refine ty_am_i 2 hg (br_f (by decide) (br_f z ?_))
        exact ty_op_o ht (br_t rfl ⟨rfl, J⟩)
  · refine tm_out_o 2 hg (br_f (by decide) ?_)
    unfold wpY_send
    exact ty_am_o 2 hg (br_t rfl ⟨rfl, J⟩)
section
variable {yk yv ys op tc en yc aR aK aD aj sA sK sD sn wK wD wC : Nat → Int32}
/-- the reference's queue moves up by one -/
theorem ty_act58 {post : Int32 → SY → Prop} {g n : Nat} {k d : Int32} (hg : g < 2) (hn : n < 8) (eL : wC g = nI n)
    (K : ∀ wK' wD', (∀ x, (x < 8 * g ∨ 8 * g + n ≤ x) → wK' x = wK x ∧ wD' x = wD x) → (∀ i, i < n → wK' (8 * g + i) = wK (8 * g + i + 1) ∧ wD' (8 * g + i) = wD (8 * g + i + 1)) →
      wpY_adjusted (fun r u => match u with | (yk9, yv9, ys9, op9, tc9, en9, yc9, aR9, aK9, aD9, aj9, sA9, sK9, sD9, sn9, wK9, wD9, wC9) => ((r = 0 → post (-2) (yk9, yv9, ys9, op9, tc9, en9, yc9, aR9, aK9, aD9, aj9, sA9, sK9, sD9, sn9, wK9, wD9, wC9)) ∧ (¬ r = 0 → post 1 (yk9, yv9, ys9, op9, tc9, en9, yc9, aR9, aK9, aD9, aj9, sA9, sK9, sD9, sn9, wK9, wD9, wC9)))) (yk, yv, ys, op, tc, en, yc, aR, aK, aD, aj, sA, sK, sD, sn, wK', wD', wC) (8 + nI g) k d) :
    ∀ (r i : Nat) (wK' wD' : Nat → Int32), i + r = n → (∀ x, (x < 8 * g ∨ 8 * g + i ≤ x) → wK' x = wK x ∧ wD' x = wD x) → (∀ t, t < i → wK' (8 * g + t) = wK (8 * g + t + 1) ∧ wD' (8 * g + t) = wD (8 * g + t + 1)) →
      wY_act_58 post (nI g) k d (r + 1) (nI (8 * g + i)) yk yv ys op tc en yc aR aK aD aj sA sK sD sn wK' wD' wC := by
  intro r
  induction r with
  | zero =>
    intro i wK' wD' hi h1 h2
    obtain rfl : i = n := by omega
    refine ⟨tm_in hg, ?_⟩
    rw [nI_clamp (show g < 2 ^ 31 by omega), eL, tm_n8, nI_add]
    exact br_t (nI_le (Nat.le_refl _) (by omega)) (K wK' wD' h1 h2)
  | succ r ih =>
    intro i wK' wD' hi h1 h2
    refine ⟨tm_in hg, ?_⟩
    rw [nI_clamp (show g < 2 ^ 31 by omega), eL, tm_n8, nI_add]
    refine br_f (nI_ge (by omega) (by omega)) ?_
    rw [nI_1]
    have e1 := h1 (8 * g + i + 1) (by omega)
    refine ⟨tm_in (by omega), tm_in (by omega), nm_r (e' := upd wK' (8 * g + i) (wK (8 * g + i + 1))) (by rw [nI_clamp (by omega), nI_clamp (by omega), e1.1]) ⟨tm_in (by omega), tm_in (by omega), nm_r (e' := upd wD' (8 * g + i) (wD (8 * g + i + 1))) (by rw [nI_clamp (by omega), nI_clamp (by omega), e1.2]) (nm_e (ih (i + 1) _ _ (by omega) ?_ ?_))⟩⟩
    · intro x hx
      rw [pk_un (by omega), pk_un (by omega)]; exact h1 x (by omega)
    · intro t ht
      by_cases z : t = i
      · rw [z, pk_us, pk_us]; exact ⟨rfl, rfl⟩
      · rw [pk_un (by omega), pk_un (by omega)]; exact h2 t (by omega)
end
section
variable {yk yv ys op tc en yc aR aK aD aj sA sK sD sn wK wD wC : Nat → Int32}
theorem ty_act {post : Int32 → SY → Prop} {g m : Nat} (hg : g < 2) (hm : m < 8) (eL : wC g = nI (m + 1))
    (K : ∀ wK' wD', (∀ x, (x < 8 * g ∨ 8 * g + m ≤ x) → wK' x = wK x ∧ wD' x = wD x) → (∀ i, i < m → wK' (8 * g + i) = wK (8 * g + i + 1) ∧ wD' (8 * g + i) = wD (8 * g + i + 1)) →
      wpY_adjusted (fun r u => match u with | (yk9, yv9, ys9, op9, tc9, en9, yc9, aR9, aK9, aD9, aj9, sA9, sK9, sD9, sn9, wK9, wD9, wC9) => ((r = 0 → post (-2) (yk9, yv9, ys9, op9, tc9, en9, yc9, aR9, aK9, aD9, aj9, sA9, sK9, sD9, sn9, wK9, wD9, wC9)) ∧ (¬ r = 0 → post 1 (yk9, yv9, ys9, op9, tc9, en9, yc9, aR9, aK9, aD9, aj9, sA9, sK9, sD9, sn9, wK9, wD9, wC9)))) (yk, yv, ys, op, tc, en, yc, aR, aK, aD, aj, sA, sK, sD, sn, wK', wD', upd wC g (nI m)) (nI (8 + g)) (wK (8 * g)) (wD (8 * g))) : wpY_act post (yk, yv, ys, op, tc, en, yc, aR, aK, aD, aj, sA, sK, sD, sn, wK, wD, wC) (nI g) := by
  unfold wpY_act
  refine ty_am_i 2 hg (br_f (by decide) ⟨tm_in hg, ?_⟩)
  rw [nI_clamp (show g < 2 ^ 31 by omega), eL, tm_n8]
  refine br_f (nI_ne0 (by omega) (by omega)) ⟨tm_in (by omega), nm_r (e' := wK (8 * g)) (by rw [nI_clamp (by omega)]) ⟨tm_in (by omega), nm_r (e' := wD (8 * g)) (by rw [nI_clamp (by omega)]) ⟨tm_in hg, tm_in hg, nm_r (e' := upd wC g (nI m)) (by rw [nI_pred]) (nm_e ⟨m + 1, ?_⟩)⟩⟩⟩
  refine ty_act58 (wC := upd wC g (nI m)) hg hm pk_us ?_ m 0 wK wD (by omega) (fun _ _ => ⟨rfl, rfl⟩) (fun t ht => absurd ht (Nat.not_lt_zero _))
  intro wK' wD' h1 h2
  rw [tm_k8]
  exact K wK' wD' h1 h2
end
theorem tm_QU_act {qK qD qF qL wK wD wC wK' wD' : Nat → Int32} (Q : tm_QU qK qD qF qL wK wD wC) {g f n : Nat} (hg : g < 2) (hf : f < 8) (ef : qF g = nI f) (en : qL g = nI (n + 1)) (hn : n < 8)
    (h1 : ∀ x, (x < 8 * g ∨ 8 * g + n ≤ x) → wK' x = wK x ∧ wD' x = wD x) (h2 : ∀ i, i < n → wK' (8 * g + i) = wK (8 * g + i + 1) ∧ wD' (8 * g + i) = wD (8 * g + i + 1)) :
    tm_QU qK qD (upd qF g (nI ((f + 1) % 8))) (upd qL g (nI n)) wK' wD' (upd wC g (nI n)) := by
  intro g' hg'
  obtain ⟨f', n', k1, k2, k3, k4, k5, k6⟩ := Q g' hg'
  by_cases z : g' = g
  · subst z
    obtain rfl : f' = f := tm_inj (by omega) (by omega) (k3.symm.trans ef)
    obtain rfl : n' = n + 1 := tm_inj (by omega) (by omega) (k4.symm.trans en)
    refine ⟨(f' + 1) % 8, n, by omega, by omega, pk_us, pk_us, pk_us, fun i hi => ?_⟩
    have a := k6 (i + 1) (by omega)
    have b := h2 i hi
    rw [b.1, b.2, show ((f' + 1) % 8 + i) % 8 = (f' + (i + 1)) % 8 by omega]
    exact a
  · refine ⟨f', n', k1, k2, by rw [pk_un z]; exact k3, by rw [pk_un z]; exact k4, by rw [pk_un z]; exact k5, fun i hi => ?_⟩
    have a := k6 i hi
    have b := h1 (8 * g' + i) (by omega)
    rw [b.1, b.2]; exact a
theorem i_vc_act {k : Nat} {u : SX} {v : SY} (I : i_Rel k u v) (hk : k + 5 ≤ 2561) (v1 : Int32) : wpX_act (fun r u' => wpY_act (fun r' v' => r' = r ∧ i_Rel (k + 5) u' v') v v1) u v1 := by
  refine tm_el (P := fun u v => wpX_act (fun r u' => wpY_act (fun r' v' => r' = r ∧ i_Rel (k + 5) u' v') v v1) u v1) ?_ I
  intro fl fb sh ld ck lk lv ln ch lm bm fL fB ro sz pa wk wo lK lV op bg tc en aj aR aK aD sn sA sK sD cg qK qD qF qL yk yv ys yc wK wD wC l FX TA TS TF TC QU
  have TC5 := tm_up TC (show k ≤ k + 5 by omega)
  have J := tm_mk (ld := ld) (lm := lm) (bm := bm) (pa := pa) (wk := wk) (wo := wo) (lK := lK) (lV := lV) (aK := aK) (aD := aD) (sK := sK) (sD := sD) FX TA TS TF TC5 QU
  obtain ⟨HX, E, HY⟩ := FX
  unfold wpX_act
  rcases tm_dec v1 2 with ⟨g, hg, rfl⟩ | hg
  · obtain ⟨f, n, h1, h2, h3, h4, h5, h6⟩ := QU g hg
    refine tm_out_i 2 hg (br_t rfl ⟨tm_in hg, ?_⟩)
    rw [nI_clamp (show g < 2 ^ 31 by omega), h4, h3]
    refine pk_eq n 0 (fun q => ?_) (fun q => ?_)
    · unfold wpY_act
      refine ty_am_i 2 hg (br_f (by decide) ⟨tm_in hg, ?_⟩)
      rw [nI_clamp (show g < 2 ^ 31 by omega), h5]
      exact br_t (congrArg nI q) ⟨rfl, J⟩
    · obtain ⟨m, rfl⟩ : ∃ m, n = m + 1 := ⟨n - 1, by omega⟩
      have e8 : (8 : Int32) * nI g + nI f = nI (8 * g + f) := by rw [tm_m8, nI_add]
      have ef : (nI f + 1) &&& 7 = nI ((f + 1) % 8) := by rw [nI_1, pk_andN (by omega) 3 (by decide)]
      refine ⟨tm_in hg, nm_r e8 ⟨tm_in hg, tm_in hg, nm_r (e' := upd qF g (nI ((f + 1) % 8))) (by rw [ef, tm_nar8' (by omega)]) ⟨tm_in hg, tm_in hg, nm_r (e' := upd qL g (nI m)) (by rw [nI_pred, tm_nar8' (by omega)]) ⟨tm_in (by omega), tm_in (by omega), ?_⟩⟩⟩⟩
      have q0 := h6 0 (by omega)
      rw [Nat.add_zero, Nat.mod_eq_of_lt h1, Nat.add_zero] at q0
      rw [nI_clamp (show 8 * g + f < 2 ^ 31 by omega), q0.1, q0.2, tm_k8]
      have HYg := HY (8 + g) (Or.inl (by omega))
      refine tm_change HX (show 8 + g < 38 by omega) (show 35 < 36 by omega) E.1 E.2.1 E.2.2 ?_ ?_
      · intro hno fl' fb' ld' lk' lv' ln' ch' lm' bm' fL' fB' ro' sz' pa' wk' lK' lV' HX' hr
        refine br_f (by decide) ?_
        refine ty_act hg (by omega) h5 ?_
        intro wK' wD' w1 w2
        refine ty_adj (by omega) HYg ?_ ?_
        · intro _ yk' yv' ys' R F
          exact br_f (by decide) ⟨rfl, tm_mk ⟨HX', tm_E_lu (by omega) E, tm_HY_lu HY F R (fun t h _ => h)⟩ TA TS TF TC5 (tm_QU_act QU hg h1 h3 h4 (by omega) w1 w2)⟩
        · exact fun q1 q2 => absurd q2 (hno q1)
      · intro q1 q2
        refine br_t rfl ?_
        refine ty_act hg (by omega) h5 ?_
        intro wK' wD' w1 w2
        refine ty_adj (by omega) HYg ?_ ?_
        · exact fun hno => absurd q2 (hno q1)
        · intro _ _
          exact br_t rfl ⟨rfl, tm_mk ⟨HX, E, HY⟩ TA TS TF TC5 (tm_QU_act QU hg h1 h3 h4 (by omega) w1 w2)⟩
  · refine tm_out_o 2 hg (br_f (by decide) ?_)
    unfold wpY_act
    exact ty_am_o 2 hg (br_t rfl ⟨rfl, J⟩)
end
section
/-! the constructors, begin -/
section
variable {fl fb sh ld : Int32} {ck : Int64} {lk lv ln ch lm bm fL fB ro sz pa wk wo lK lV op tc en aj aR aK aD sn sA sK sD qK qD qF qL : Nat → Int32} {bg cg : Nat → Int64}
theorem tm_in309 {post : SX → Prop} (K : ∀ fB', (∀ t, t < 544 → fB' t = nI (543 - t)) → post (fl, nI 544, sh, ld, ck, lk, lv, ln, ch, lm, bm, fL, fB', ro, sz, pa, wk, wo, lK, lV, op, bg, tc, en, aj, aR, aK, aD, sn, sA, sK, sD, cg, qK, qD, qF, qL)) :
    ∀ (r i : Nat) (fB : Nat → Int32), i + r = 544 → (∀ t, t < i → fB t = nI (543 - t)) → wX_init_309 post fl sh ld ck (r + 1) (nI i) (nI i) lk lv ln ch lm bm fL fB ro sz pa wk wo lK lV op bg tc en aj aR aK aD sn sA sK sD cg qK qD qF qL := by
  intro r
  induction r with
  | zero =>
    intro i fB hi h
    obtain rfl : i = 544 := by omega
    exact br_t (by decide) (K fB h)
  | succ r ih =>
    intro i fB hi h
    have e : (543 : Int32) - nI i = nI (543 - i) := pk_sub (a := 543) (by omega)
    refine br_f (nI_ge (b := 544) (by omega) (by decide)) (nm_r (e' := nI (i + 1)) (nI_1 _) ⟨tm_in (by omega), nm_r (e' := upd fB i (nI (543 - i))) (by rw [nI_clamp (by omega), e, tm_nar16' (tm_nd_n (by omega))]) (nm_r (e' := nI (i + 1)) (nI_1 _) (ih (i + 1) _ (by omega) fun t ht => ?_))⟩)
    by_cases z : t = i
    · rw [z, pk_us]
    · rw [pk_un z]; exact h t (by omega)
theorem tm_in272 {post : SX → Prop} (K : ∀ fL', (∀ t, t < 384 → fL' t = nI (383 - t)) → ∃ n309, wX_init_309 post (nI 384) sh ld ck n309 0 fb lk lv ln ch lm bm fL' fB ro sz pa wk wo lK lV op bg tc en aj aR aK aD sn sA sK sD cg qK qD qF qL) :
    ∀ (r i : Nat) (fL : Nat → Int32), i + r = 384 → (∀ t, t < i → fL t = nI (383 - t)) → wX_init_272 post fb sh ld ck (r + 1) (nI i) (nI i) lk lv ln ch lm bm fL fB ro sz pa wk wo lK lV op bg tc en aj aR aK aD sn sA sK sD cg qK qD qF qL := by
  intro r
  induction r with
  | zero =>
    intro i fL hi h
    obtain rfl : i = 384 := by omega
    exact br_t (by decide) (K fL h)
  | succ r ih =>
    intro i fL hi h
    have e : (383 : Int32) - nI i = nI (383 - i) := pk_sub (a := 383) (by omega)
    refine br_f (nI_ge (b := 384) (by omega) (by decide)) (nm_r (e' := nI (i + 1)) (nI_1 _) ⟨tm_in (by omega), nm_r (e' := upd fL i (nI (383 - i))) (by rw [nI_clamp (by omega), e, tm_nar16' (tm_nd_n (by omega))]) (nm_r (e' := nI (i + 1)) (nI_1 _) (ih (i + 1) _ (by omega) fun t ht => ?_))⟩)
    by_cases z : t = i
    · rw [z, pk_us]
    · rw [pk_un z]; exact h t (by omega)
end
theorem tm_FI_0 {f : Nat → Int32} {N : Nat} (hN : N < 2 ^ 31) (h : ∀ t, t < N → f t = nI (N - 1 - t)) : tm_FI f N N := by
  refine ⟨Nat.le_refl _, fun i hi => ⟨N - 1 - i, by omega, h i hi⟩, fun i hi j hj e => ?_⟩
  rw [h i hi, h j hj] at e
  have := tm_inj (by omega) (by omega) e
  omega
theorem i_vc0 (k0 : Int32) : wpX_init (fun u => wpY_init (fun v => i_Rel 1 u v) k0) k0 := by
  unfold wpX_init
  refine nm_e ⟨385, ?_⟩
  refine tm_in272 ?_ 384 0 _ rfl (fun t ht => absurd ht (Nat.not_lt_zero _))
  intro fL' hL
  refine ⟨545, tm_in309 ?_ 544 0 _ rfl (fun t ht => absurd ht (Nat.not_lt_zero _))⟩
  intro fB' hB
  unfold wpY_init
  refine tm_mk (l := fun _ => []) ⟨⟨384, 544, rfl, rfl, tm_FI_0 (by decide) hL, tm_FI_0 (by decide) hB, fun t ht => tm_R_nil, fun t ht => ⟨tm_so_nil, Nat.zero_le _, rfl⟩⟩, ⟨rfl, rfl, rfl⟩, fun t ht => tm_YR_nil rfl⟩ ?_ ?_ ?_ ?_ ?_
  · exact fun t ht => ⟨0, by omega, rfl, fun i hi => absurd hi (Nat.not_lt_zero _)⟩
  · exact fun t ht => ⟨0, by omega, rfl, fun i hi => absurd hi (Nat.not_lt_zero _)⟩
  · exact ⟨fun x hx => Or.inl rfl, fun x hx => Or.inl rfl⟩
  · exact ⟨0, fun _ => 0, fun _ => 0, by omega, rfl, fun t ht => ⟨rfl, Nat.le_refl _⟩, fun t ht => ⟨rfl, Nat.le_refl _⟩, fun t ht q => absurd rfl q⟩
  · exact fun g hg => ⟨0, 0, by omega, by omega, rfl, rfl, rfl, fun i hi => absurd hi (Nat.not_lt_zero _)⟩
def tm_z4 (f : Nat → Int32) (b i : Nat) : Nat → Int32 := fun x => if b ≤ x ∧ x < b + i then 0 else f x
theorem tm_z4_0 {f : Nat → Int32} {b : Nat} : tm_z4 f b 0 = f := by
  funext x; exact if_neg (by omega)
theorem tm_z4_s {f : Nat → Int32} {b i : Nat} : upd (tm_z4 f b i) (b + i) 0 = tm_z4 f b (i + 1) := by
  funext x
  by_cases z : x = b + i
  · subst z
    rw [pk_us]
    exact (if_pos (by omega)).symm
  · rw [pk_un z]
    by_cases c : b ≤ x ∧ x < b + i
    · exact (if_pos c).trans (if_pos (by omega)).symm
    · exact (if_neg c).trans (if_neg (by omega)).symm
theorem tm_z4_i {f : Nat → Int32} {b i x : Nat} (h : b ≤ x ∧ x < b + i) : tm_z4 f b i x = 0 := if_pos h
theorem tm_z4_o {f : Nat → Int32} {b i x : Nat} (h : ¬ (b ≤ x ∧ x < b + i)) : tm_z4 f b i x = f x := if_neg h
def tm_bl (l : Nat → List tm_E) (t : Nat) : Nat → Nat → List tm_E
  | 0 => l
  | r + 1 => tm_lu (tm_bl l t r) (10 + (4 * t + r)) (tm_bl l t r (4 + r))
theorem tm_bl_E {l : Nat → List tm_E} {t : Nat} (ht : t < 3) (E : l 35 = [] ∧ l 36 = [] ∧ l 37 = []) : ∀ r, r ≤ 4 → tm_bl l t r 35 = [] ∧ tm_bl l t r 36 = [] ∧ tm_bl l t r 37 = [] := by
  intro r
  induction r with
  | zero => exact fun _ => E
  | succ r ih => exact fun hr => tm_E_lu (by omega) (ih (by omega))
section
variable {fl fb sh ld : Int32} {ck : Int64} {lk lv ln ch lm bm fL fB ro sz pa wk wo lK lV op tc en aj aR aK aD sn sA sK sD qK qD qF qL : Nat → Int32} {bg cg : Nat → Int64}
theorem tm_bg52 {post : Int32 → SX → Prop} {l : Nat → List tm_E} {t : Nat} (ht : t < 3)
    (K : ∀ ro' sz', tm_HX sh fl fb lk lv ln ch fL fB ro' sz' (tm_bl l t 4) → post 1 (fl, fb, sh, ld, ck, lk, lv, ln, ch, lm, bm, fL, fB, ro', sz', pa, wk, wo, lK, lV, op, bg, tm_z4 tc (4 * t) 4, tm_z4 en (4 * t) 4, aj, aR, aK, aD, sn, sA, sK, sD, cg, qK, qD, qF, qL)) :
    ∀ (r i : Nat) (ro sz : Nat → Int32), i + r = 4 → tm_HX sh fl fb lk lv ln ch fL fB ro sz (tm_bl l t i) → wX_begin_52 post (nI t) (r + 1) (nI i) fl fb sh ld ck lk lv ln ch lm bm fL fB ro sz pa wk wo lK lV op bg (tm_z4 tc (4 * t) i) (tm_z4 en (4 * t) i) aj aR aK aD sn sA sK sD cg qK qD qF qL := by
  intro r
  induction r with
  | zero =>
    intro i ro sz hi HX
    obtain rfl : i = 4 := by omega
    exact br_t (by decide) (K ro sz HX)
  | succ r ih =>
    intro i ro sz hi HX
    refine br_f (nI_ge (b := 4) (by omega) (by decide)) ?_
    rw [tm_m4, tm_k10, tm_k4, nI_add, nI_add, Nat.add_assoc]
    refine tm_give HX (by omega) (by omega) ?_
    intro ro' sz' HX' _
    exact ⟨tm_in (by omega), nm_r (e' := tm_z4 tc (4 * t) (i + 1)) (by rw [nI_clamp (by omega), tm_by0, tm_z4_s]) ⟨tm_in (by omega), nm_r (e' := tm_z4 en (4 * t) (i + 1)) (by rw [nI_clamp (by omega), tm_nb0, tm_z4_s]) (nm_r (e' := nI (i + 1)) (nI_1 _) (ih (i + 1) ro' sz' (by omega) HX'))⟩⟩
end
section
variable {yk yv ys op tc en yc aR aK aD aj sA sK sD sn wK wD wC : Nat → Int32}
theorem ty_bg29 {post : Int32 → SY → Prop} {l : Nat → List tm_E} {t : Nat} {D : Nat → Prop} (ht : t < 3) (hD : ∀ x, x < 10 → D x)
    (K : ∀ yk' yv' ys', tm_HY (fun x => D x ∨ (10 + 4 * t ≤ x ∧ x < 10 + (4 * t + 4))) yk' yv' ys' (tm_bl l t 4) → post 1 (yk', yv', ys', op, tm_z4 tc (4 * t) 4, tm_z4 en (4 * t) 4, tm_z4 yc (4 * t) 4, aR, aK, aD, upd aj t 0, sA, sK, sD, upd sn t 0, wK, wD, wC)) :
    ∀ (r i : Nat) (yk yv ys : Nat → Int32), i + r = 4 → tm_HY (fun x => D x ∨ (10 + 4 * t ≤ x ∧ x < 10 + (4 * t + i))) yk yv ys (tm_bl l t i) → wY_begin_29 post (nI t) (r + 1) (nI i) yk yv ys op (tm_z4 tc (4 * t) i) (tm_z4 en (4 * t) i) (tm_z4 yc (4 * t) i) aR aK aD aj sA sK sD sn wK wD wC := by
  intro r
  induction r with
  | zero =>
    intro i yk yv ys hi HY
    obtain rfl : i = 4 := by omega
    exact br_t (by decide) ⟨tm_in ht, nm_r (e' := upd aj t 0) (by rw [nI_clamp (by omega)]) ⟨tm_in ht, nm_r (e' := upd sn t 0) (by rw [nI_clamp (by omega)]) (K yk yv ys HY)⟩⟩
  | succ r ih =>
    intro i yk yv ys hi HY
    refine br_f (nI_ge (b := 4) (by omega) (by decide)) ?_
    rw [tm_n4, tm_k10, tm_k4, nI_add, nI_add, Nat.add_assoc]
    refine ty_copy (D := fun x => D x ∨ (10 + 4 * t ≤ x ∧ x < 10 + (4 * t + i))) (D' := fun x => D x ∨ (10 + 4 * t ≤ x ∧ x < 10 + (4 * t + (i + 1)))) (l := tm_bl l t i) (by omega) (by omega) HY (Or.inl (hD _ (by omega))) (fun x h h' => h.elim Or.inl (fun h => Or.inr (by omega))) ?_
    intro yk' yv' ys' HY' _
    exact ⟨tm_in (by omega), nm_r (e' := tm_z4 tc (4 * t) (i + 1)) (by rw [nI_clamp (by omega), tm_z4_s]) ⟨tm_in (by omega), nm_r (e' := tm_z4 en (4 * t) (i + 1)) (by rw [nI_clamp (by omega), tm_nb0, tm_z4_s]) ⟨tm_in (by omega), nm_r (e' := tm_z4 yc (4 * t) (i + 1)) (by rw [nI_clamp (by omega), tm_nb0, tm_z4_s]) (nm_r (e' := nI (i + 1)) (nI_1 _) (ih (i + 1) yk' yv' ys' (by omega) HY'))⟩⟩⟩
end
theorem i_vc_begin {k : Nat} {u : SX} {v : SY} (I : i_Rel k u v) (hk : k + 5 ≤ 2561) (v1 : Int32) : wpX_begin (fun r u' => wpY_begin (fun r' v' => r' = r ∧ i_Rel (k + 5) u' v') v v1) u v1 := by
  refine tm_el (P := fun u v => wpX_begin (fun r u' => wpY_begin (fun r' v' => r' = r ∧ i_Rel (k + 5) u' v') v v1) u v1) ?_ I
  intro fl fb sh ld ck lk lv ln ch lm bm fL fB ro sz pa wk wo lK lV op bg tc en aj aR aK aD sn sA sK sD cg qK qD qF qL yk yv ys yc wK wD wC l FX TA TS TF TC QU
  have TC5 := tm_up TC (show k ≤ k + 5 by omega)
  have J := tm_mk (ld := ld) (lm := lm) (bm := bm) (pa := pa) (wk := wk) (wo := wo) (lK := lK) (lV := lV) (aK := aK) (aD := aD) (sK := sK) (sD := sD) FX TA TS TF TC5 QU
  obtain ⟨HX, E, HY⟩ := FX
  unfold wpX_begin
  rcases tm_dec v1 3 with ⟨t, ht, rfl⟩ | ht
  · refine tm_out_i 3 ht (br_t rfl ⟨tm_in ht, ?_⟩)
    rw [nI_clamp (show t < 2 ^ 31 by omega)]
    by_cases o : op t = 0
    · refine br_t o ⟨tm_in ht, nm_r (e' := upd op t 1) (by rw [tm_nb1]) ⟨tm_in ht, nm_e ⟨tm_in ht, nm_r (e' := upd aj t 0) (by rw [tm_by0]) ⟨tm_in ht, nm_r (e' := upd sn t 0) (by rw [tm_by0]) ⟨5, ?_⟩⟩⟩⟩⟩
      have := tm_bg52 (post := fun r u' => wpY_begin (fun r' v' => r' = r ∧ i_Rel (k + 5) u' v') (yk, yv, ys, op, tc, en, yc, aR, aK, aD, aj, sA, sK, sD, sn, wK, wD, wC) (nI t)) (l := l) (t := t) (fl := fl) (fb := fb) (sh := sh) (ld := ld) (ck := ck) (lk := lk) (lv := lv) (ln := ln) (ch := ch) (lm := lm) (bm := bm) (fL := fL) (fB := fB) (pa := pa) (wk := wk) (wo := wo) (lK := lK) (lV := lV) (op := upd op t 1) (bg := vp_updL bg t ck) (tc := tc) (en := en) (aj := upd aj t 0) (aR := aR) (aK := aK) (aD := aD) (sn := upd sn t 0) (sA := sA) (sK := sK) (sD := sD) (cg := cg) (qK := qK) (qD := qD) (qF := qF) (qL := qL) ht ?_ 4 0 ro sz rfl HX
      · rw [tm_z4_0, tm_z4_0] at this
        exact this
      · intro ro' sz' HX'
        unfold wpY_begin
        refine ty_am_i 3 ht (br_f (by decide) ⟨tm_in ht, ?_⟩)
        rw [nI_clamp (show t < 2 ^ 31 by omega)]
        refine br_t o ⟨tm_in ht, nm_r (e' := upd op t 1) (by rw [tm_nb1]) ⟨5, ?_⟩⟩
        have := ty_bg29 (post := fun r' v' => r' = 1 ∧ i_Rel (k + 5) (fl, fb, sh, ld, ck, lk, lv, ln, ch, lm, bm, fL, fB, ro', sz', pa, wk, wo, lK, lV, upd op t 1, vp_updL bg t ck, tm_z4 tc (4 * t) 4, tm_z4 en (4 * t) 4, upd aj t 0, aR, aK, aD, upd sn t 0, sA, sK, sD, cg, qK, qD, qF, qL) v') (l := l) (t := t) (op := upd op t 1) (tc := tc) (en := en) (yc := yc) (aR := aR) (aK := aK) (aD := aD) (aj := aj) (sA := sA) (sK := sK) (sD := sD) (sn := sn) (wK := wK) (wD := wD) (wC := wC) ht (D := tm_D op tc) (fun x hx => Or.inl hx) ?_ 4 0 yk yv ys rfl (tm_HY_sub HY (fun x h => h.elim id (fun h => absurd h (by omega))))
        · rw [tm_z4_0, tm_z4_0, tm_z4_0] at this
          exact this
        · intro yk' yv' ys' HY'
          refine ⟨rfl, tm_mk ⟨HX', tm_bl_E ht E 4 (Nat.le_refl _), tm_HY_sub HY' (fun x h => ?_)⟩ ?_ ?_ ?_ ?_ QU⟩
          · rcases h with h | ⟨t', r', h1, h2, h3, h4⟩
            · exact Or.inl (Or.inl h)
            · by_cases z : t' = t
              · subst z
                rcases h4 with h4 | ⟨h4, h5⟩
                · exact Or.inr (by omega)
                · exact absurd (tm_z4_i (by omega)) h5
              · rw [pk_un z] at h3
                refine Or.inl (Or.inr ⟨t', r', h1, h2, h3, ?_⟩)
                rcases h4 with h4 | ⟨h4, h5⟩
                · exact Or.inl h4
                · rw [tm_z4_o (by omega)] at h5
                  exact Or.inr ⟨h4, h5⟩
          · intro t' ht'
            by_cases z : t' = t
            · subst z
              exact ⟨0, by omega, pk_us, fun i hi => absurd hi (Nat.not_lt_zero _)⟩
            · obtain ⟨n, n1, n2, n3⟩ := TA t' ht'
              refine ⟨n, n1, by rw [pk_un z]; exact n2, fun i hi => ?_⟩
              obtain ⟨r', r1, r2, r3⟩ := n3 i hi
              exact ⟨r', r1, r2, by rw [tm_z4_o (by omega)]; exact r3⟩
          · intro t' ht'
            by_cases z : t' = t
            · subst z
              exact ⟨0, by omega, pk_us, fun i hi => absurd hi (Nat.not_lt_zero _)⟩
            · obtain ⟨n, n1, n2, n3⟩ := TS t' ht'
              exact ⟨n, n1, by rw [pk_un z]; exact n2, n3⟩
          · refine ⟨fun x hx => ?_, fun x hx => ?_⟩
            · by_cases z : 4 * t ≤ x ∧ x < 4 * t + 4
              · exact Or.inl (tm_z4_i z)
              · rw [tm_z4_o z]; exact TF.1 x hx
            · by_cases z : 4 * t ≤ x ∧ x < 4 * t + 4
              · exact Or.inl (tm_z4_i z)
              · rw [tm_z4_o z]; exact TF.2 x hx
          · obtain ⟨c, B, G, h1, h2, h3, h4, h5⟩ := TC5
            refine ⟨c, fun t' => if t' = t then c else B t', G, h1, h2, fun t' ht' => ?_, h4, fun t' ht' q r hr => ?_⟩
            · by_cases z : t' = t
              · simp only [if_pos z]
                rw [z, pk_uLs]; exact ⟨h2, Nat.le_refl _⟩
              · simp only [if_neg z]
                rw [pk_uLn z]; exact h3 t' ht'
            · by_cases z : t' = t
              · simp only [if_pos z]
                rw [z, tm_z4_i (by omega)]
                have := (h4 r hr).2
                exact ⟨fun _ => by omega, fun _ => rfl⟩
              · simp only [if_neg z]
                rw [pk_un z] at q
                rw [tm_z4_o (by omega)]
                exact h5 t' ht' q r hr
    · refine br_f o ?_
      unfold wpY_begin
      refine ty_am_i 3 ht (br_f (by decide) ⟨tm_in ht, ?_⟩)
      rw [nI_clamp (show t < 2 ^ 31 by omega)]
      exact br_f o ⟨rfl, J⟩
  · refine tm_out_o 3 ht (br_f (by decide) ?_)
    unfold wpY_begin
    exact ty_am_o 3 ht (br_t rfl ⟨rfl, J⟩)
end
section
/-! adjust -/
theorem tm_lu_lu {l : Nat → List tm_E} {i : Nat} {x y : List tm_E} : tm_lu (tm_lu l i x) i y = tm_lu l i y := by
  funext j
  by_cases z : j = i
  · rw [z, tm_lu_s, tm_lu_s]
  · rw [tm_lu_n z, tm_lu_n z, tm_lu_n z]
theorem tm_HY_congr {D : Nat → Prop} {yk yv ys : Nat → Int32} {l l' : Nat → List tm_E} (H : tm_HY D yk yv ys l) (e : ∀ t, D t → l' t = l t) : tm_HY D yk yv ys l' := by
  intro t ht
  rw [e t ht]; exact H t ht
section
variable {fl fb sh ld : Int32} {ck : Int64} {lk lv ln ch lm bm fL fB ro sz pa wk wo lK lV op tc en aj aR aK aD sn sA sK sD qK qD qF qL : Nat → Int32} {bg cg : Nat → Int64}
/-- the own map of a transaction in holder 34, changed and given to holder 22 + x -/
theorem tm_ad62 {post : Int32 → SX → Prop} {l : Nat → List tm_E} {t r : Nat} {k d z6 : Int32} (ht : t < 3) (hr : r < 4) (HX : tm_HX sh fl fb lk lv ln ch fL fB ro sz l) (E : l 35 = [] ∧ l 36 = [] ∧ l 37 = [])
    (K0 : tm_look k (l (tm_sx tc (4 * t + r))) = none → (l (tm_sx tc (4 * t + r))).length = 10 → ∀ ro' sz', tm_HX sh fl fb lk lv ln ch fL fB ro' sz' (tm_lu l 34 (l (tm_sx tc (4 * t + r)))) → post (-2) (fl, fb, sh, ld, ck, lk, lv, ln, ch, lm, bm, fL, fB, ro', sz', pa, wk, wo, lK, lV, op, bg, tc, en, aj, aR, aK, aD, sn, sA, sK, sD, cg, qK, qD, qF, qL))
    (K1 : (tm_look k (l (tm_sx tc (4 * t + r))) = none → (l (tm_sx tc (4 * t + r))).length ≠ 10) →
      ∀ fl' fb' ld' lk' lv' ln' ch' lm' bm' fL' fB' ro' sz' pa' wk' lK' lV', tm_HX sh fl' fb' lk' lv' ln' ch' fL' fB' ro' sz' (tm_lu (tm_lu l 34 (tm_ins k (tm_nv k d (l (tm_sx tc (4 * t + r)))) (l (tm_sx tc (4 * t + r))))) (22 + (4 * t + r)) (tm_ins k (tm_nv k d (l (tm_sx tc (4 * t + r)))) (l (tm_sx tc (4 * t + r))))) →
      ((z6 = 0 → ∀ n, n ≤ 7 → aj t = nI n → post (nI (tm_ins k (tm_nv k d (l (tm_sx tc (4 * t + r)))) (l (tm_sx tc (4 * t + r)))).length) (fl', fb', sh, ld', ck, lk', lv', ln', ch', lm', bm', fL', fB', ro', sz', pa', wk', wo, lK', lV', op, bg, upd tc (4 * t + r) 2, en, upd aj t (nI (n + 1)), upd aR (8 * t + n) (nI r), upd aK (8 * t + n) k, upd aD (8 * t + n) d, sn, sA, sK, sD, cg, qK, qD, qF, qL)) ∧
       (¬ z6 = 0 → post (nI (tm_ins k (tm_nv k d (l (tm_sx tc (4 * t + r)))) (l (tm_sx tc (4 * t + r)))).length) (fl', fb', sh, ld', ck, lk', lv', ln', ch', lm', bm', fL', fB', ro', sz', pa', wk', wo, lK', lV', op, bg, tc, en, aj, aR, aK, aD, sn, sA, sK, sD, cg, qK, qD, qF, qL))))
    (ha : z6 = 0 → ∃ n, n ≤ 7 ∧ aj t = nI n) : wX_adjust_62 post (nI t) (nI r) k d (nI (4 * t + r)) z6 fl fb sh ld ck lk lv ln ch lm bm fL fB ro sz pa wk wo lK lV op bg tc en aj aR aK aD sn sA sK sD cg qK qD qF qL := by
  unfold wX_adjust_62
  have hs := tm_sx_lt (tc := tc) (show 4 * t + r < 12 by omega)
  refine tm_seen ht hr ?_
  refine tm_give (to := 34) HX (by decide) (by omega) ?_
  intro ro1 sz1 HX1 _
  have E1 := tm_E_lu (l := l) (j := 34) (x := l (tm_sx tc (4 * t + r))) (by decide) E
  refine tm_change (hd := 34) HX1 (by decide) (show 35 < 36 by omega) E1.1 E1.2.1 E1.2.2 ?_ ?_
  · rw [tm_lu_s]
    intro hno fl' fb' ld' lk' lv' ln' ch' lm' bm' fL' fB' ro' sz' pa' wk' lK' lV' HX'
    intro hro
    rw [tm_lu_lu] at HX'
    refine br_f (by decide) (br_c (fun z => ?_) (fun z => ?_))
    · obtain ⟨n, hn, en'⟩ := ha z
      have e8 : (8 : Int32) * nI t + nI n = nI (8 * t + n) := by rw [tm_m8, nI_add]
      rw [nI_clamp (show 4 * t + r < 2 ^ 31 by omega), nI_clamp (show t < 2 ^ 31 by omega), en']
      refine ⟨tm_in (by omega), nm_r (e' := upd tc (4 * t + r) 2) (by rw [tm_by2]) ⟨tm_in ht, tm_in ht, nm_r (e' := upd aj t (nI (n + 1))) (by rw [nI_1, tm_nar8' (by omega)]) (nm_r e8 ⟨tm_in (by omega), nm_r (e' := upd aR (8 * t + n) (nI r)) (by rw [nI_clamp (by omega), tm_nar8' (by omega)]) ⟨tm_in (by omega), nm_r (e' := upd aK (8 * t + n) k) (by rw [nI_clamp (by omega)]) ⟨tm_in (by omega), nm_r (e' := upd aD (8 * t + n) d) (by rw [nI_clamp (by omega)]) ?_⟩⟩⟩)⟩⟩
      unfold wX_adjust_152
      rw [tm_k22]
      refine tm_give (from' := 34) HX' (by omega) (by decide) ?_
      intro ro2 sz2 HX2 _
      rw [tm_lu_s] at HX2 ⊢
      exact (K1 hno fl' fb' ld' lk' lv' ln' ch' lm' bm' fL' fB' ro2 sz2 pa' wk' lK' lV' HX2).1 z n hn en'
    · unfold wX_adjust_152
      rw [tm_k22]
      refine tm_give (from' := 34) HX' (by omega) (by decide) ?_
      intro ro2 sz2 HX2 _
      rw [tm_lu_s] at HX2 ⊢
      exact (K1 hno fl' fb' ld' lk' lv' ln' ch' lm' bm' fL' fB' ro2 sz2 pa' wk' lK' lV' HX2).2 z
  · rw [tm_lu_s]
    exact fun q1 q2 => br_t rfl (K0 q1 q2 ro1 sz1 HX1)
end
theorem i_vc_adjust {k : Nat} {u : SX} {v : SY} (I : i_Rel k u v) (hk : k + 5 ≤ 2561) (v1 : Int32) (v2 : Int32) (v3 : Int32) (v4 : Int32) : wpX_adjust (fun r u' => wpY_adjust (fun r' v' => r' = r ∧ i_Rel (k + 5) u' v') v v1 v2 v3 v4) u v1 v2 v3 v4 := by
  refine tm_el (P := fun u v => wpX_adjust (fun r u' => wpY_adjust (fun r' v' => r' = r ∧ i_Rel (k + 5) u' v') v v1 v2 v3 v4) u v1 v2 v3 v4) ?_ I
  intro fl fb sh ld ck lk lv ln ch lm bm fL fB ro sz pa wk wo lK lV op bg tc en aj aR aK aD sn sA sK sD cg qK qD qF qL yk yv ys yc wK wD wC l FX TA TS TF TC QU
  have TC5 := tm_up TC (show k ≤ k + 5 by omega)
  have J := tm_mk (ld := ld) (lm := lm) (bm := bm) (pa := pa) (wk := wk) (wo := wo) (lK := lK) (lV := lV) (aK := aK) (aD := aD) (sK := sK) (sD := sD) FX TA TS TF TC5 QU
  obtain ⟨HX, E, HY⟩ := FX
  unfold wpX_adjust
  rcases tm_dec v1 3 with ⟨t, ht, rfl⟩ | ht
  · refine tm_cl_i ht (fun o => br_t rfl ?_) (fun o => br_f (by decide) ?_)
    · rcases tm_dec v2 4 with ⟨r, hr, rfl⟩ | hr
      · refine tm_out_i 4 hr (br_t rfl (nm_r (e' := nI (4 * t + r)) (by rw [tm_m4, nI_add]) ⟨tm_in (by omega), ?_⟩))
        rw [nI_clamp (show 4 * t + r < 2 ^ 31 by omega)]
        have hs := tm_sx_lt (tc := tc) (show 4 * t + r < 12 by omega)
        have HYs := HY (tm_sx tc (4 * t + r)) (tm_D_sx ht hr o)
        by_cases c1 : tc (4 * t + r) = 1
        · refine br_t c1 ?_
          have es : tm_sx tc (4 * t + r) = 22 + (4 * t + r) := if_neg (by rw [c1]; decide)
          unfold wX_adjust_41
          refine br_f (by decide) ?_
          rw [es] at HYs
          refine tm_ad62 ht hr HX E ?_ ?_ (fun z => absurd z (by decide))
          · rw [es]
            intro q1 q2 ro' sz' HX'
            unfold wpY_adjust
            refine ty_op_i ht (fun _ => br_f (by decide) ?_) (fun q => absurd q o)
            refine ty_am_i 4 hr (br_f (by decide) ?_)
            rw [tm_n4, tm_k22, nI_add, nI_add]
            refine nm_r (e' := nI (22 + (4 * t + r))) (congrArg nI (Nat.add_assoc _ _ _)) ⟨tm_in (by omega), ?_⟩
            rw [nI_clamp (show 4 * t + r < 2 ^ 31 by omega)]
            refine br_t c1 ?_
            refine ty_adj (by omega) HYs ?_ ?_
            · exact fun hno => absurd q2 (hno q1)
            · exact fun _ _ => br_t rfl ⟨rfl, tm_mk ⟨HX', tm_E_lu (by decide) E, tm_HY_congr HY (fun x hx => tm_lu_n (by have := tm_D_lt hx; omega))⟩ TA TS TF TC5 QU⟩
          · rw [es]
            intro hno fl' fb' ld' lk' lv' ln' ch' lm' bm' fL' fB' ro' sz' pa' wk' lK' lV' HX'
            refine ⟨fun z => absurd z (by decide), fun _ => ?_⟩
            unfold wpY_adjust
            refine ty_op_i ht (fun _ => br_f (by decide) ?_) (fun q => absurd q o)
            refine ty_am_i 4 hr (br_f (by decide) ?_)
            rw [tm_n4, tm_k22, nI_add, nI_add]
            refine nm_r (e' := nI (22 + (4 * t + r))) (congrArg nI (Nat.add_assoc _ _ _)) ⟨tm_in (by omega), ?_⟩
            rw [nI_clamp (show 4 * t + r < 2 ^ 31 by omega)]
            refine br_t c1 ?_
            refine ty_adj (by omega) HYs ?_ ?_
            · intro _ yk' yv' ys' R F
              refine br_f (by decide) ⟨tm_in (by omega), ?_, tm_mk ⟨HX', tm_E_lu (by omega) (tm_E_lu (by decide) E), tm_HY_congr (tm_HY_lu (D' := tm_D op tc) HY F R (fun x h _ => h)) (fun x hx => ?_)⟩ TA TS TF TC5 QU⟩
              · rw [nI_clamp (by omega), R.1]
              · by_cases w : x = 22 + (4 * t + r)
                · rw [w, tm_lu_s, tm_lu_s]
                · rw [tm_lu_n w, tm_lu_n w, tm_lu_n (by have := tm_D_lt hx; omega)]
            · exact fun q1 q2 => absurd q2 (hno q1)
        · refine br_f c1 ?_
          unfold wX_adjust_41
          obtain ⟨n, n1, n2, n3⟩ := TA t ht
          refine br_t rfl ⟨tm_in ht, ?_⟩
          rw [nI_clamp (show t < 2 ^ 31 by omega), n2]
          refine pk_eq n 8 (fun q => ?_) (fun q => ?_)
          · unfold wpY_adjust
            refine ty_op_i ht (fun _ => br_f (by decide) ?_) (fun q => absurd q o)
            refine ty_am_i 4 hr (br_f (by decide) ?_)
            rw [tm_n4, tm_k22, nI_add, nI_add]
            refine nm_e ⟨tm_in (by omega), ?_⟩
            rw [nI_clamp (show 4 * t + r < 2 ^ 31 by omega)]
            refine br_f c1 ⟨tm_in ht, ?_⟩
            rw [nI_clamp (show t < 2 ^ 31 by omega), n2]
            exact br_t (congrArg nI q) ⟨rfl, J⟩
          · have q' : ¬ nI n = 8 := fun e => q (tm_inj (b := 8) (by omega) (by omega) e)
            refine tm_ad62 ht hr HX E ?_ ?_ (fun _ => ⟨n, by omega, n2⟩)
            · intro q1 q2 ro' sz' HX'
              unfold wpY_adjust
              refine ty_op_i ht (fun _ => br_f (by decide) ?_) (fun q => absurd q o)
              refine ty_am_i 4 hr (br_f (by decide) ?_)
              rw [tm_n4, tm_k22, nI_add, nI_add]
              refine nm_r (e' := nI (22 + (4 * t + r))) (congrArg nI (Nat.add_assoc _ _ _)) ⟨tm_in (by omega), ?_⟩
              rw [nI_clamp (show 4 * t + r < 2 ^ 31 by omega)]
              refine br_f c1 ⟨tm_in ht, ?_⟩
              rw [nI_clamp (show t < 2 ^ 31 by omega), n2]
              refine br_f q' ?_
              refine ty_seen ht hr ?_
              refine ty_copy (t := 34) (D := tm_D op tc) (D' := fun x => tm_D op tc x ∨ x = 34) (l := l) (by omega) (by decide) HY (tm_D_sx ht hr o) (fun x h h' => h.resolve_right h') ?_
              intro yk1 yv1 ys1 HY1 _
              have R1 := HY1 34 (Or.inr rfl)
              rw [tm_lu_s] at R1
              refine ty_adj (r := 34) (by decide) R1 ?_ ?_
              · exact fun hno => absurd q2 (hno q1)
              · exact fun _ _ => br_t rfl ⟨rfl, tm_mk ⟨HX', tm_E_lu (by decide) E, tm_HY_sub HY1 (fun x hx => Or.inl hx)⟩ TA TS TF TC5 QU⟩
            · intro hno fl' fb' ld' lk' lv' ln' ch' lm' bm' fL' fB' ro' sz' pa' wk' lK' lV' HX'
              refine ⟨fun _ n' hn' en' => ?_, fun z => absurd rfl z⟩
              obtain rfl : n' = n := tm_inj (by omega) (by omega) (en'.symm.trans n2)
              unfold wpY_adjust
              refine ty_op_i ht (fun _ => br_f (by decide) ?_) (fun q => absurd q o)
              refine ty_am_i 4 hr (br_f (by decide) ?_)
              rw [tm_n4, tm_k22, nI_add, nI_add]
              refine nm_r (e' := nI (22 + (4 * t + r))) (congrArg nI (Nat.add_assoc _ _ _)) ⟨tm_in (by omega), ?_⟩
              rw [nI_clamp (show 4 * t + r < 2 ^ 31 by omega)]
              refine br_f c1 ⟨tm_in ht, ?_⟩
              rw [nI_clamp (show t < 2 ^ 31 by omega), n2]
              refine br_f q' ?_
              refine ty_seen ht hr ?_
              refine ty_copy (t := 34) (D := tm_D op tc) (D' := fun x => tm_D op tc x ∨ x = 34) (l := l) (by omega) (by decide) HY (tm_D_sx ht hr o) (fun x h h' => h.resolve_right h') ?_
              intro yk1 yv1 ys1 HY1 _
              have R1 := HY1 34 (Or.inr rfl)
              rw [tm_lu_s] at R1
              refine ty_adj (r := 34) (by decide) R1 ?_ ?_
              · intro _ yk2 yv2 ys2 R F
                have HY2 := tm_HY_lu (D' := fun x => tm_D op tc x ∨ x = 34) HY1 F R (fun x h _ => h)
                rw [tm_lu_lu] at HY2
                refine br_f (by decide) ?_
                refine ty_copy (s := 34) (D := fun x => tm_D op tc x ∨ x = 34) (D' := tm_D op (upd tc (4 * t + r) 2)) (by decide) (by omega) HY2 (Or.inr rfl) (fun x h h' => Or.inl (tm_D_upd h h')) ?_
                intro yk3 yv3 ys3 HY3 hys
                rw [tm_lu_s] at HY3 hys
                have e8 : nI t * (8 : Int32) + aj t = nI (8 * t + n') := by rw [n2, tm_n8, nI_add]
                refine ⟨tm_in (by omega), nm_e ⟨tm_in ht, nm_r e8 ⟨tm_in (by omega), nm_r (e' := upd aR (8 * t + n') (nI r)) (by rw [nI_clamp (by omega)]) ⟨tm_in (by omega), nm_r (e' := upd aK (8 * t + n') v3) (by rw [nI_clamp (by omega)]) ⟨tm_in (by omega), nm_r (e' := upd aD (8 * t + n') v4) (by rw [nI_clamp (by omega)]) ⟨tm_in ht, tm_in ht, nm_r (e' := upd aj t (nI (n' + 1))) (by rw [n2, nI_1]) ⟨tm_in (by omega), ?_, tm_mk ⟨HX', tm_E_lu (by omega) (tm_E_lu (by decide) E), HY3⟩ ?_ TS ⟨TF.1, ?_⟩ TC5 QU⟩⟩⟩⟩⟩⟩⟩
                · rw [nI_clamp (by omega), hys]
                · intro t' ht'
                  by_cases w : t' = t
                  · subst w
                    refine ⟨n' + 1, by omega, pk_us, fun i hi => ?_⟩
                    by_cases y : i = n'
                    · exact ⟨r, hr, by rw [y, pk_us], pk_us⟩
                    · obtain ⟨r', r1, r2, r3⟩ := n3 i (by omega)
                      refine ⟨r', r1, by rw [pk_un (by omega)]; exact r2, ?_⟩
                      by_cases y' : 4 * t' + r' = 4 * t' + r
                      · rw [y', pk_us]
                      · rw [pk_un y']; exact r3
                  · obtain ⟨m, m1, m2, m3⟩ := TA t' ht'
                    refine ⟨m, m1, by rw [pk_un w]; exact m2, fun i hi => ?_⟩
                    obtain ⟨r', r1, r2, r3⟩ := m3 i hi
                    exact ⟨r', r1, by rw [pk_un (by omega)]; exact r2, by rw [pk_un (by omega)]; exact r3⟩
                · intro x hx
                  by_cases w : x = 4 * t + r
                  · rw [w, pk_us]; exact Or.inr (Or.inr rfl)
                  · rw [pk_un w]; exact TF.2 x hx
              · exact fun q1 q2 => absurd q2 (hno q1)
      · refine tm_out_o 4 hr (br_f (by decide) ?_)
        unfold wpY_adjust
        refine ty_op_i ht (fun _ => br_f (by decide) ?_) (fun q => absurd q o)
        exact ty_am_o 4 hr (br_t rfl ⟨rfl, J⟩)
    · unfold wpY_adjust
      exact ty_op_i ht (fun q => absurd o q) (fun _ => br_t rfl ⟨rfl, J⟩)
  · refine tm_cl_o ht (br_f (by decide) ?_)
    unfold wpY_adjust
    exact ty_op_o ht (br_t rfl ⟨rfl, J⟩)
end
section
/-! keyAt, same -/
theorem tm_nodup {L : List tm_E} (s : tm_SO L) : L.Nodup := List.Pairwise.imp (fun {a b} h e => tm_lne h (congrArg Prod.fst e)) s
theorem tm_sub_eq {La Lb : List tm_E} (sa : tm_SO La) (sb : tm_SO Lb) (h : ∀ e, e ∈ La → e ∈ Lb) (hl : La.length = Lb.length) : La = Lb := by
  refine tm_ext sa sb fun e => ⟨h e, fun he => ?_⟩
  by_cases c : e ∈ La
  · exact c
  · have n : (e :: La).Nodup := List.nodup_cons.mpr ⟨c, tm_nodup sa⟩
    have := List.Nodup.length_le_of_subset n (l₂ := Lb) (fun x hx => by
      rcases List.mem_cons.mp hx with r | r
      · rw [r]; exact he
      · exact h x r)
    rw [List.length_cons] at this
    omega
def tm_sl2 (yk yv : Nat → Int32) (b : Nat) : Nat → List tm_E
  | 0 => []
  | m + 1 => tm_sl2 yk yv b m ++ [(yk (b + m), yv (b + m))]
theorem tm_sl2_mem {yk yv : Nat → Int32} {b m : Nat} {e : tm_E} : e ∈ tm_sl2 yk yv b m ↔ ∃ i, i < m ∧ (yk (b + i), yv (b + i)) = e := by
  induction m with
  | zero => exact ⟨fun h => absurd h List.not_mem_nil, fun ⟨i, hi, _⟩ => absurd hi (Nat.not_lt_zero _)⟩
  | succ m ih =>
    unfold tm_sl2
    rw [List.mem_append, ih, List.mem_singleton]
    constructor
    · rintro (⟨i, hi, e'⟩ | r)
      · exact ⟨i, by omega, e'⟩
      · exact ⟨m, by omega, r.symm⟩
    · rintro ⟨i, hi, e'⟩
      by_cases z : i = m
      · subst z; exact Or.inr e'.symm
      · exact Or.inl ⟨i, by omega, e'⟩
theorem tm_sl2_nodup {yk yv : Nat → Int32} {b n : Nat} (inj : ∀ i, i < n → ∀ j, j < n → yk (b + i) = yk (b + j) → i = j) : ∀ m, m ≤ n → (tm_sl2 yk yv b m).Nodup := by
  intro m
  induction m with
  | zero => exact fun _ => List.nodup_nil
  | succ m ih =>
    intro hm
    unfold tm_sl2
    refine List.nodup_append.mpr ⟨ih (by omega), List.pairwise_singleton _ _, fun a ha c hc e => ?_⟩
    rw [List.mem_singleton] at hc
    obtain ⟨i, hi, q⟩ := tm_sl2_mem.mp ha
    have : yk (b + i) = yk (b + m) := by
      have h1 := congrArg Prod.fst (q.trans (e.trans hc))
      exact h1
    have := inj i (by omega) m (by omega) this
    omega
def tm_cb (yk : Nat → Int32) (b : Nat) (x : Int32) : Nat → Nat
  | 0 => 0
  | i + 1 => tm_cb yk b x i + (if yk (b + i) < x then 1 else 0)
theorem tm_cb_le {yk : Nat → Int32} {b : Nat} {x : Int32} (m : Nat) : tm_cb yk b x m ≤ m := by
  induction m with
  | zero => exact Nat.le_refl _
  | succ m ih => unfold tm_cb; split <;> omega
theorem tm_cb_count {yk yv : Nat → Int32} {b : Nat} {x : Int32} (m : Nat) : tm_cb yk b x m = List.countP (fun e : tm_E => decide (e.1 < x)) (tm_sl2 yk yv b m) := by
  induction m with
  | zero => rfl
  | succ m ih =>
    unfold tm_cb tm_sl2
    rw [List.countP_append, ih, List.countP_singleton]
    simp only [decide_eq_true_eq]
theorem tm_so_count {L : List tm_E} (s : tm_SO L) {p : Nat} {e : tm_E} (h : L[p]? = some e) : List.countP (fun x : tm_E => decide (x.1 < e.1)) L = p := by
  induction L generalizing p with
  | nil => simp at h
  | cons a t ih =>
    have ⟨h1, h2⟩ := tm_so_cons.mp s
    cases p with
    | zero =>
      rw [List.getElem?_cons_zero] at h
      have ea := Option.some.inj h
      subst ea
      rw [List.countP_cons_of_neg (by simp)]
      rw [List.countP_eq_zero]
      intro x hx
      rw [decide_eq_true_iff]
      exact tm_asy (h1 x hx)
    | succ p =>
      rw [List.getElem?_cons_succ] at h
      have : e ∈ t := List.mem_of_getElem? h
      rw [List.countP_cons_of_pos (by rw [decide_eq_true_iff]; exact h1 e this), ih h2 h]
theorem tm_YR_cb {yk yv ys : Nat → Int32} {r : Nat} {L : List tm_E} (H : tm_YR yk yv ys r L) {p : Nat} {e : tm_E} (h : L[p]? = some e) : tm_cb yk (r * 10) e.1 L.length = p := by
  obtain ⟨h1, h2, h3, h4, h5, h6⟩ := H
  rw [tm_cb_count (yv := yv), ← tm_so_count h3 h]
  refine List.Perm.countP_eq _ ((List.perm_ext_iff_of_nodup (tm_sl2_nodup h6 _ (Nat.le_refl _)) (tm_nodup h3)).mpr fun x => ?_)
  rw [tm_sl2_mem]
  constructor
  · rintro ⟨i, hi, q⟩
    rw [← q]; exact h4 i hi
  · exact h5 x
section
variable {yk yv ys op tc en yc aR aK aD aj sA sK sD sn wK wD wC : Nat → Int32}
theorem ty_ka40 {post : Int32 → Prop} {J : Int32 → Prop} {r q n : Nat} {p : Int32} (hr : r < 39) (hn : n ≤ 10) (hq : q < n) (hs : ys r = nI n)
    (K1 : nI (tm_cb yk (r * 10) (yk (r * 10 + q)) n) = p → post (yk (r * 10 + q))) (K0 : nI (tm_cb yk (r * 10) (yk (r * 10 + q)) n) ≠ p → J (nI (r * 10 + (q + 1)))) :
    ∀ d i, i + d = n → wY_keyAt_40 post J (nI r) p (nI (r * 10 + q)) yk yv ys op tc en yc aR aK aD aj sA sK sD sn wK wD wC (d + 1) (nI (tm_cb yk (r * 10) (yk (r * 10 + q)) i)) (nI (r * 10 + i)) := by
  intro d
  induction d with
  | zero =>
    intro i hi
    obtain rfl : i = n := by omega
    refine ⟨tm_in hr, ?_⟩
    rw [nI_clamp (show r < 2 ^ 31 by omega), hs, tm_10]
    refine br_t (nI_le (Nat.le_refl _) (by omega)) (br_c (fun z => ⟨tm_in (by omega), ?_⟩) (fun z => nm_r (e' := nI (r * 10 + (q + 1))) (nI_1 _) (K0 z)))
    rw [nI_clamp (show r * 10 + q < 2 ^ 31 by omega)]
    exact K1 z
  | succ d ih =>
    intro i hi
    refine ⟨tm_in hr, ?_⟩
    rw [nI_clamp (show r < 2 ^ 31 by omega), hs, tm_10]
    refine br_f (nI_ge (by omega) (by omega)) ⟨tm_in (by omega), tm_in (by omega), ?_⟩
    rw [nI_clamp (show r * 10 + q < 2 ^ 31 by omega), nI_clamp (show r * 10 + i < 2 ^ 31 by omega)]
    have st := ih (i + 1) (by omega)
    unfold tm_cb at st
    refine br_c (fun z => ?_) (fun z => ?_)
    · rw [if_neg (tm_le_nlt z)] at st
      exact nm_r (e' := nI (r * 10 + (i + 1))) (nI_1 _) st
    · rw [if_pos (tm_nle_lt z)] at st
      exact nm_r (nI_1 _) (nm_r (e' := nI (r * 10 + (i + 1))) (nI_1 _) st)
theorem ty_keyAt {post : Int32 → Prop} {r : Nat} {p : Int32} {L : List tm_E} (hr : r < 4) (H : tm_YR yk yv ys r L)
    (K1 : ∀ P e, p = nI P → L[P]? = some e → post e.1) (K0 : (∀ P, P < L.length → p ≠ nI P) → post 0) : wpY_keyAt post (yk, yv, ys, op, tc, en, yc, aR, aK, aD, aj, sA, sK, sD, sn, wK, wD, wC) (nI r) p := by
  have H0 := H
  obtain ⟨h1, h2, h3, h4, h5, h6⟩ := H
  unfold wpY_keyAt
  refine ty_am_i 4 hr (br_f (by decide) (nm_r (e' := nI (r * 10 + 0)) (by rw [show (10 : Int32) = nI 10 from rfl, pk_mul]; rfl) ⟨L.length + 1, ?_⟩))
  have idx : ∀ q, q < L.length → ∃ P, P < L.length ∧ ∃ e, L[P]? = some e ∧ e = (yk (r * 10 + q), yv (r * 10 + q)) ∧ tm_cb yk (r * 10) (yk (r * 10 + q)) L.length = P := by
    intro q hq
    obtain ⟨P, hP, e⟩ := List.getElem_of_mem (h4 q hq)
    have g : L[P]? = some (yk (r * 10 + q), yv (r * 10 + q)) := by rw [List.getElem?_eq_getElem hP, e]
    exact ⟨P, hP, _, g, rfl, tm_YR_cb H0 g⟩
  have lp : ∀ d q, q + d = L.length → (∀ q', q' < q → nI (tm_cb yk (r * 10) (yk (r * 10 + q')) L.length) ≠ p) → wY_keyAt_16 post (nI r) p yk yv ys op tc en yc aR aK aD aj sA sK sD sn wK wD wC (d + 1) (nI (r * 10 + q)) := by
    intro d
    induction d with
    | zero =>
      intro q hq hn
      refine ⟨tm_in (by omega), ?_⟩
      rw [nI_clamp (show r < 2 ^ 31 by omega), h1, tm_10]
      refine br_t (nI_le (by omega) (by omega)) (K0 fun P hP e => ?_)
      obtain ⟨q', hq', e'⟩ := h5 L[P] (List.getElem_mem hP)
      have := tm_YR_cb H0 (List.getElem?_eq_getElem hP)
      rw [← e'] at this
      exact hn q' (by omega) (by rw [e]; exact congrArg nI this)
    | succ d ih =>
      intro q hq hn
      refine ⟨tm_in (by omega), ?_⟩
      rw [nI_clamp (show r < 2 ^ 31 by omega), h1, tm_10]
      refine br_f (nI_ge (by omega) (by omega)) (nm_r (e' := nI (r * 10 + 0)) (by rw [show (10 : Int32) = nI 10 from rfl, pk_mul]; rfl) ⟨L.length + 1, ?_⟩)
      refine ty_ka40 (n := L.length) (by omega) h2 (by omega) h1 ?_ ?_ L.length 0 (by omega)
      · intro z
        obtain ⟨P, hP, e, g1, g2, g3⟩ := idx q (by omega)
        rw [g3] at z
        have := K1 P e z.symm g1
        rw [g2] at this
        exact this
      · intro z
        refine ih (q + 1) (by omega) fun q' hq' => ?_
        by_cases w : q' = q
        · rw [w]; exact z
        · exact hn q' (by omega)
  exact lp L.length 0 (by omega) (fun q' h => absurd h (Nat.not_lt_zero _))
theorem ty_same40 {post : Int32 → Prop} {a b : Nat} {La Lb : List tm_E} (ha : a < 39) (hb : b < 39) (Ha : tm_YR yk yv ys a La) (Hb : tm_YR yk yv ys b Lb) (hl : La.length = Lb.length) (K1 : La = Lb → post 1) (K0 : La ≠ Lb → post 0) :
    ∀ d q, q + d = La.length → (∀ t, t < q → (yk (a * 10 + t), yv (a * 10 + t)) ∈ Lb) → wY_same_40 post (nI a) (nI b) yk yv ys op tc en yc aR aK aD aj sA sK sD sn wK wD wC (d + 1) (nI (a * 10 + q)) := by
  have Ha0 := Ha
  have Hb0 := Hb
  obtain ⟨h1, h2, h3, h4, h5, h6⟩ := Ha
  obtain ⟨g1, g2, g3, g4, g5, g6⟩ := Hb
  intro d
  induction d with
  | zero =>
    intro q hq hm
    refine ⟨tm_in ha, ?_⟩
    rw [nI_clamp (show a < 2 ^ 31 by omega), h1, tm_10]
    refine br_t (nI_le (by omega) (by omega)) (K1 (tm_sub_eq h3 g3 (fun e he => ?_) hl))
    obtain ⟨i, hi, e'⟩ := h5 e he
    rw [← e']; exact hm i (by omega)
  | succ d ih =>
    intro q hq hm
    refine ⟨tm_in ha, ?_⟩
    rw [nI_clamp (show a < 2 ^ 31 by omega), h1, tm_10]
    refine br_f (nI_ge (by omega) (by omega)) ⟨tm_in (by omega), ?_⟩
    rw [nI_clamp (show a * 10 + q < 2 ^ 31 by omega)]
    have hin := h4 q (by omega)
    refine ty_find hb Hb0 ?_
    rintro x (⟨rfl, hn⟩ | ⟨i, hi, rfl, hk, hx⟩)
    · refine br_t (by decide) (K0 fun e => ?_)
      rw [← e] at hn
      exact tm_look_none.mp hn _ hin rfl
    · refine br_f (nI_pos (by omega)) ⟨tm_in (by omega), tm_in (by omega), ?_⟩
      rw [nI_clamp (show b * 10 + i < 2 ^ 31 by omega)]
      refine br_c (fun z => ?_) (fun z => K0 fun e => z ?_)
      · refine nm_r (e' := nI (a * 10 + (q + 1))) (nI_1 _) (ih (q + 1) (by omega) fun t ht => ?_)
        by_cases w : t = q
        · subst w
          have := tm_look_mem hx
          rw [z] at this
          exact this
        · exact hm t (by omega)
      · rw [← e] at hx
        have := (tm_look_some h3).mpr hin
        rw [hx] at this
        exact Option.some.inj this
end
theorem i_vc_keyAt {k : Nat} {u : SX} {v : SY} (I : i_Rel k u v) (hk : k + 5 ≤ 2561) (v1 : Int32) (v2 : Int32) : wpX_keyAt (fun r u' => wpY_keyAt (fun r' => r' = r ∧ i_Rel (k + 5) u' v) v v1 v2) u v1 v2 := by
  refine tm_el (P := fun u v => wpX_keyAt (fun r u' => wpY_keyAt (fun r' => r' = r ∧ i_Rel (k + 5) u' v) v v1 v2) u v1 v2) ?_ I
  intro fl fb sh ld ck lk lv ln ch lm bm fL fB ro sz pa wk wo lK lV op bg tc en aj aR aK aD sn sA sK sD cg qK qD qF qL yk yv ys yc wK wD wC l FX TA TS TF TC QU
  have TC5 := tm_up TC (show k ≤ k + 5 by omega)
  have FX0 := FX
  obtain ⟨HX, E, HY⟩ := FX
  unfold wpX_keyAt
  rcases tm_dec v1 4 with ⟨j, hj, rfl⟩ | hj
  · have HYj := HY j (Or.inl (by omega))
    obtain ⟨a0, b0, hfl, hfb, FL, FB, H, HS⟩ := HX
    have hlen := (HS j (by omega)).2.1
    refine tm_out_i 4 hj (br_t rfl ?_)
    have e3 : nI j &&& 3 = nI j := by rw [pk_andN (by omega) 2 (by decide)]; exact congrArg nI (Nat.mod_eq_of_lt (by omega))
    rw [e3]
    refine ⟨tm_in (by omega), ?_⟩
    rw [nI_clamp (show j < 2 ^ 31 by omega), (HS j (by omega)).2.2]
    rcases tm_dec v2 (l j).length with ⟨p, hp, rfl⟩ | hp
    · refine tm_out_i (l j).length hp (br_t rfl ⟨tm_in (by omega), ?_⟩) (by omega)
      refine tm_list (HS j (by omega)).1 hlen (H j (by omega)) ?_
      intro wk' lK' lV' LA
      refine ⟨tm_in (by omega), ?_⟩
      rw [nI_clamp (show p < 2 ^ 31 by omega)]
      refine ty_keyAt hj HYj ?_ ?_
      · intro P e eP he
        have hP : P < (l j).length := (List.getElem?_eq_some_iff.mp he).1
        obtain rfl : p = P := tm_inj (by omega) (by omega) eP
        exact ⟨(LA p e he).1.symm, tm_mk FX0 TA TS TF TC5 QU⟩
      · exact fun q => absurd rfl (q p hp)
    · refine tm_out_o (l j).length hp (br_f (by decide) ?_) (by omega)
      refine ty_keyAt hj HYj ?_ ?_
      · intro P e eP he
        have hP : P < (l j).length := (List.getElem?_eq_some_iff.mp he).1
        exact absurd eP (hp P hP)
      · exact fun _ => ⟨rfl, tm_mk FX0 TA TS TF TC5 QU⟩
  · refine tm_out_o 4 hj (br_f (by decide) ?_)
    unfold wpY_keyAt
    exact ty_am_o 4 hj (br_t rfl ⟨rfl, tm_mk FX0 TA TS TF TC5 QU⟩)
theorem i_vc_same {k : Nat} {u : SX} {v : SY} (I : i_Rel k u v) (hk : k + 5 ≤ 2561) (v1 : Int32) (v2 : Int32) : wpX_same (fun r u' => wpY_same (fun r' => r' = r ∧ i_Rel (k + 5) u' v) v v1 v2) u v1 v2 := by
  refine tm_el (P := fun u v => wpX_same (fun r u' => wpY_same (fun r' => r' = r ∧ i_Rel (k + 5) u' v) v v1 v2) u v1 v2) ?_ I
  intro fl fb sh ld ck lk lv ln ch lm bm fL fB ro sz pa wk wo lK lV op bg tc en aj aR aK aD sn sA sK sD cg qK qD qF qL yk yv ys yc wK wD wC l FX TA TS TF TC QU
  have TC5 := tm_up TC (show k ≤ k + 5 by omega)
  have FX0 := FX
  obtain ⟨HX, E, HY⟩ := FX
  unfold wpX_same
  rcases tm_dec v1 4 with ⟨a, ha, rfl⟩ | ha
  · refine tm_out_i 4 ha (br_t rfl ?_)
    rcases tm_dec v2 4 with ⟨b, hb, rfl⟩ | hb
    · refine tm_out_i 4 hb (br_t rfl ⟨tm_in (by omega), tm_in (by omega), ?_⟩)
      have HYa := HY a (Or.inl (by omega))
      have HYb := HY b (Or.inl (by omega))
      obtain ⟨a0, b0, hfl, hfb, FL, FB, H, HS⟩ := HX
      have hla := (HS a (by omega)).2.1
      have hlb := (HS b (by omega)).2.1
      rw [nI_clamp (show a < 2 ^ 31 by omega), nI_clamp (show b < 2 ^ 31 by omega), (HS a (by omega)).2.2, (HS b (by omega)).2.2]
      refine pk_eq (l a).length (l b).length (fun q => ⟨tm_in (by omega), tm_in (by omega), ?_⟩) (fun q => ?_)
      · have ysm : ∀ post : Int32 → Prop, (l a = l b → post 1) → (l a ≠ l b → post 0) → wpY_same post (yk, yv, ys, op, tc, en, yc, aR, aK, aD, aj, sA, sK, sD, sn, wK, wD, wC) (nI a) (nI b) := by
          intro post K1 K0
          unfold wpY_same
          refine ty_am_i 4 ha (br_f (by decide) ?_)
          refine ty_am_i 4 hb (br_f (by decide) ⟨tm_in (by omega), tm_in (by omega), ?_⟩)
          rw [nI_clamp (show a < 2 ^ 31 by omega), nI_clamp (show b < 2 ^ 31 by omega), HYa.1, HYb.1]
          refine br_t (congrArg nI q) (nm_r (e' := nI (a * 10 + 0)) (by rw [show (10 : Int32) = nI 10 from rfl, pk_mul]; rfl) ⟨(l a).length + 1, ?_⟩)
          exact ty_same40 (by omega) (by omega) HYa HYb q K1 K0 (l a).length 0 (by omega) (fun t ht => absurd ht (Nat.not_lt_zero _))
        refine tm_equal (HS a (by omega)).1 (HS b (by omega)).1 (H a (by omega)) (H b (by omega)) ?_ ?_
        · intro e wk' wo'
          refine br_f (by decide) (ysm _ (fun _ => ⟨rfl, tm_mk FX0 TA TS TF TC5 QU⟩) (fun n => absurd e n))
        · intro n wk' wo'
          exact br_t rfl (ysm _ (fun e => absurd e n) (fun _ => ⟨rfl, tm_mk FX0 TA TS TF TC5 QU⟩))
      · unfold wpY_same
        refine ty_am_i 4 ha (br_f (by decide) ?_)
        refine ty_am_i 4 hb (br_f (by decide) ⟨tm_in (by omega), tm_in (by omega), ?_⟩)
        rw [nI_clamp (show a < 2 ^ 31 by omega), nI_clamp (show b < 2 ^ 31 by omega), HYa.1, HYb.1]
        exact br_f (fun e => q (tm_inj (by omega) (by omega) e)) ⟨rfl, tm_mk FX0 TA TS TF TC5 QU⟩
    · refine tm_out_o 4 hb (br_f (by decide) ?_)
      unfold wpY_same
      refine ty_am_i 4 ha (br_f (by decide) ?_)
      exact ty_am_o 4 hb (br_t rfl ⟨rfl, tm_mk FX0 TA TS TF TC5 QU⟩)
  · refine tm_out_o 4 ha (br_f (by decide) ?_)
    unfold wpY_same
    exact ty_am_o 4 ha (br_t rfl ⟨rfl, tm_mk FX0 TA TS TF TC5 QU⟩)
end
section
/-! unite, strike -/
def tm_un : List tm_E → List tm_E → List tm_E
  | M, [] => M
  | M, e :: t => tm_un (tm_ins e.1 e.2 M) t
theorem tm_un_so {M L : List tm_E} (s : tm_SO M) : tm_SO (tm_un M L) := by
  induction L generalizing M with
  | nil => exact s
  | cons e t ih => exact ih (tm_so_ins s)
theorem tm_ins_len {k v : Int32} {M : List tm_E} (s : tm_SO M) : M.length ≤ (tm_ins k v M).length ∧ (tm_ins k v M).length ≤ M.length + 1 := by
  cases h : tm_look k M with
  | none => rw [tm_len_ins_n h]; omega
  | some w => rw [tm_len_ins_s s h]; omega
theorem tm_un_len {M L : List tm_E} (s : tm_SO M) : M.length ≤ (tm_un M L).length := by
  induction L generalizing M with
  | nil => exact Nat.le_refl _
  | cons e t ih => exact Nat.le_trans (tm_ins_len s).1 (ih (tm_so_ins s))
theorem tm_un_mem {M L : List tm_E} (s : tm_SO M) (d : L.Pairwise (fun a b => a.1 ≠ b.1)) {x : tm_E} : x ∈ tm_un M L ↔ x ∈ L ∨ (x ∈ M ∧ ∀ y, y ∈ L → y.1 ≠ x.1) := by
  induction L generalizing M with
  | nil => exact ⟨fun h => Or.inr ⟨h, fun y hy => absurd hy List.not_mem_nil⟩, fun h => h.elim (fun h => absurd h List.not_mem_nil) (fun h => h.1)⟩
  | cons e t ih =>
    have ⟨d1, d2⟩ := List.pairwise_cons.mp d
    show x ∈ tm_un (tm_ins e.1 e.2 M) t ↔ _
    rw [ih (tm_so_ins s) d2, tm_mem_ins s, List.mem_cons]
    constructor
    · rintro (h | ⟨h | h, g⟩)
      · exact Or.inl (Or.inr h)
      · exact Or.inl (Or.inl h)
      · refine Or.inr ⟨h.1, fun y hy => ?_⟩
        rcases List.mem_cons.mp hy with r | r
        · rw [r]; exact fun q => h.2 q.symm
        · exact g y r
    · rintro ((h | h) | ⟨h, g⟩)
      · refine Or.inr ⟨Or.inl h, fun y hy => ?_⟩
        rw [h]; exact fun q => d1 y hy q.symm
      · exact Or.inl h
      · exact Or.inr ⟨Or.inr ⟨h, fun q => g e List.mem_cons_self q.symm⟩, fun y hy => g y (List.mem_cons_of_mem _ hy)⟩
theorem tm_so_ne {L : List tm_E} (s : tm_SO L) : L.Pairwise (fun a b => a.1 ≠ b.1) := List.Pairwise.imp (fun h => tm_lne h) s
section
variable {fl fb sh ld : Int32} {ck : Int64} {lk lv ln ch lm bm fL fB ro sz pa wk wo lK lV op tc en aj aR aK aD sn sA sK sD qK qD qF qL : Nat → Int32} {bg cg : Nat → Int64}
theorem tm_un17 {post : Int32 → SX → Prop} {l : Nat → List tm_E} {b : Nat} {root : Int32} {ro0 : Nat → Int32} (hb : b < 34) (E : l 35 = [] ∧ l 36 = [] ∧ l 37 = []) (hr0 : ro0 b = root) :
    ∀ (Q P C : List tm_E) (fl fb ld : Int32) (lk lv ln ch lm bm fL fB ro sz pa wk lK lV : Nat → Int32), P ++ Q = l b → tm_HX sh fl fb lk lv ln ch fL fB ro sz (tm_lu l 34 C) → (∀ t, t ≠ 34 → ro t = ro0 t) →
    ((tm_un C Q).length ≤ 10 → tm_KX (post 1) 34 l (tm_un C Q) sh ck ro0 wo op bg tc en aj aR aK aD sn sA sK sD cg qK qD qF qL) →
    (¬ (tm_un C Q).length ≤ 10 → ∀ C', tm_KX (post 0) 34 l C' sh ck ro0 wo op bg tc en aj aR aK aD sn sA sK sD cg qK qD qF qL) →
    wX_unite_17 post root (nI (l b).length) (Q.length + 1) (nI P.length) fl fb sh ld ck lk lv ln ch lm bm fL fB ro sz pa wk wo lK lV op bg tc en aj aR aK aD sn sA sK sD cg qK qD qF qL := by
  intro Q
  induction Q with
  | nil =>
    intro P C fl fb ld lk lv ln ch lm bm fL fB ro sz pa wk lK lV hP HX hr K1 K0
    have hsz := tm_HX_sz HX (show 34 < 38 by decide)
    have hsb := tm_HX_sz HX (show b < 38 by omega)
    rw [tm_lu_s] at hsz
    rw [tm_lu_n (by omega)] at hsb
    rw [List.append_nil] at hP
    subst hP
    exact br_t (nI_le (Nat.le_refl _) (by omega)) (K1 hsz.2.1 _ _ _ _ _ _ _ _ _ _ _ _ _ _ _ _ _ HX hr)
  | cons e t ih =>
    intro P C fl fb ld lk lv ln ch lm bm fL fB ro sz pa wk lK lV hP HX hr K1 K0
    have HX0 := HX
    have hsb := tm_HX_sz HX (show b < 38 by omega)
    rw [tm_lu_n (by omega)] at hsb
    have hlen : P.length + (t.length + 1) = (l b).length := by rw [← hP, List.length_append, List.length_cons]
    obtain ⟨a0, b0, hfl, hfb, FL, FB, H, HS⟩ := HX
    have Hb := H b (by omega)
    rw [tm_lu_n (by omega), hr b (by omega), hr0] at Hb
    refine br_f (nI_ge (by omega) (by omega)) ?_
    refine tm_list hsb.2.2 hsb.2.1 Hb ?_
    intro wk' lK' lV' LA
    refine ⟨tm_in (by omega), tm_in (by omega), ?_⟩
    have he := LA P.length e (by rw [← hP]; exact tm_get_mid_x)
    rw [nI_clamp (show P.length < 2 ^ 31 by omega), he.1, he.2]
    have E1 := tm_E_lu (l := l) (j := 34) (x := C) (by decide) E
    refine tm_set (hd := 34) HX0 (by decide) (show 35 < 36 by omega) E1.1 E1.2.1 E1.2.2 ?_ ?_
    · rw [tm_lu_s]
      intro hno fl1 fb1 ld1 lk1 lv1 ln1 ch1 lm1 bm1 fL1 fB1 ro1 sz1 pa1 wk1 lK1 lV1 HX1 hr1
      rw [tm_lu_lu] at HX1
      refine br_f (by decide) (nm_r (e' := nI (P ++ [e]).length) (by rw [nI_1, List.length_append, List.length_singleton]) ?_)
      refine ih (P ++ [e]) (tm_ins e.1 e.2 C) _ _ _ _ _ _ _ _ _ _ _ _ _ _ _ _ _ ?_ HX1 (fun x hx => (hr1 x hx).trans (hr x hx)) K1 K0
      rw [List.append_assoc]; exact hP
    · rw [tm_lu_s]
      intro q1 q2
      refine br_t rfl (K0 ?_ C _ _ _ _ _ _ _ _ _ _ _ _ _ _ _ _ _ HX0 hr)
      have sC := (HS 34 (by decide)).1
      rw [tm_lu_s] at sC
      have := tm_un_len (L := t) (tm_so_ins (k := e.1) (v := e.2) sC)
      rw [tm_len_ins_n q1] at this
      show ¬ (tm_un (tm_ins e.1 e.2 C) t).length ≤ 10
      omega
theorem tm_unite {post : Int32 → SX → Prop} {l : Nat → List tm_E} {b : Nat} {C : List tm_E} (hb : b < 34) (E : l 35 = [] ∧ l 36 = [] ∧ l 37 = []) (HX : tm_HX sh fl fb lk lv ln ch fL fB ro sz (tm_lu l 34 C))
    (K1 : (tm_un C (l b)).length ≤ 10 → tm_KX (post 1) 34 l (tm_un C (l b)) sh ck ro wo op bg tc en aj aR aK aD sn sA sK sD cg qK qD qF qL)
    (K0 : ¬ (tm_un C (l b)).length ≤ 10 → ∀ C', tm_KX (post 0) 34 l C' sh ck ro wo op bg tc en aj aR aK aD sn sA sK sD cg qK qD qF qL) : wpX_unite post (fl, fb, sh, ld, ck, lk, lv, ln, ch, lm, bm, fL, fB, ro, sz, pa, wk, wo, lK, lV, op, bg, tc, en, aj, aR, aK, aD, sn, sA, sK, sD, cg, qK, qD, qF, qL) (nI b) := by
  unfold wpX_unite
  have hsb := tm_HX_sz HX (show b < 38 by omega)
  rw [tm_lu_n (by omega)] at hsb
  refine ⟨tm_in (by omega), nm_r (e' := ro b) (by rw [nI_clamp (by omega)]) ⟨tm_in (by omega), nm_r (e' := nI (l b).length) (by rw [nI_clamp (by omega)]; exact hsb.1) ⟨(l b).length + 1, ?_⟩⟩⟩
  exact tm_un17 hb E rfl (l b) [] C _ _ _ _ _ _ _ _ _ _ _ _ _ _ _ _ _ rfl HX (fun _ _ => rfl) K1 K0
end
def tm_b (o : Bool) : Int32 := if o then 1 else 0
def tm_kp (Lb : List tm_E) (o : Bool) : Int32 → Bool := fun k => (tm_look k Lb).isSome == o
section
variable {fl fb sh ld : Int32} {ck : Int64} {lk lv ln ch lm bm fL fB ro sz pa wk wo lK lV op tc en aj aR aK aD sn sA sK sD qK qD qF qL : Nat → Int32} {bg cg : Nat → Int64}
theorem tm_st22 {post : SX → Prop} {l : Nat → List tm_E} {b : Nat} {o : Bool} {al : Int32} {N : Nat} {ro0 : Nat → Int32} (hb : b < 34) (E : l 35 = [] ∧ l 36 = [] ∧ l 37 = []) (hN : N ≤ 10) :
    ∀ (Q P : List tm_E) (g : Nat) (fl fb ld : Int32) (lk lv ln ch lm bm fL fB ro sz pa wk lK lV : Nat → Int32), P.length + g + Q.length = N → tm_HX sh fl fb lk lv ln ch fL fB ro sz (tm_lu l 34 (P ++ Q)) → (∀ t, t ≠ 34 → ro t = ro0 t) →
    (al ≠ 0 → ∀ e, e ∈ Q → (tm_look e.1 (l b)).isSome = true) →
    tm_KX post 34 l (P ++ tm_fl (tm_kp (l b) o) Q) sh ck ro0 wo op bg tc en aj aR aK aD sn sA sK sD cg qK qD qF qL →
    wX_strike_22 post (nI b) (tm_b o) al (nI N) (Q.length + 1) (nI g) (nI (P.length + g)) fl fb sh ld ck lk lv ln ch lm bm fL fB ro sz pa wk wo lK lV op bg tc en aj aR aK aD sn sA sK sD cg qK qD qF qL := by
  intro Q
  induction Q with
  | nil =>
    intro P g fl fb ld lk lv ln ch lm bm fL fB ro sz pa wk lK lV hl HX hr ha K
    simp only [List.length_nil] at hl
    exact br_t (nI_le (by omega) (by omega)) (K _ _ _ _ _ _ _ _ _ _ _ _ _ _ _ _ _ HX hr)
  | cons e t ih =>
    intro P g fl fb ld lk lv ln ch lm bm fL fB ro sz pa wk lK lV hl HX hr ha K
    rw [List.length_cons] at hl
    have HX0 := HX
    obtain ⟨a0, b0, hfl, hfb, FL, FB, H, HS⟩ := HX
    have H34 := H 34 (by decide)
    have S34 := HS 34 (by decide)
    rw [tm_lu_s] at H34 S34
    have Hb := H b (by omega)
    have Sb := HS b (by omega)
    rw [tm_lu_n (by omega)] at Hb Sb
    have ⟨sP, sQ, sx⟩ := List.pairwise_append.mp S34.1
    have ⟨s1, s2⟩ := tm_so_cons.mp sQ
    refine br_f (nI_ge (by omega) (by omega)) ?_
    refine tm_list S34.1 S34.2.1 H34 ?_
    intro wk' lK' lV' LA
    have e1 : nI (P.length + g) - nI g = nI P.length := by rw [pk_sub (by omega)]; exact congrArg nI (by omega)
    rw [e1]
    have he := LA P.length e tm_get_mid_x
    refine ⟨tm_in (by omega), nm_r (e' := e.1) (by rw [nI_clamp (by omega)]; exact he.1) ?_⟩
    -- the entry stays or goes
    have fin : ∀ z0, z0 = tm_b (tm_look e.1 (l b)).isSome → wX_strike_76 post (wX_strike_22 post (nI b) (tm_b o) al (nI N) (t.length + 1)) (nI b) (tm_b o) al (nI N) (nI g) (nI (P.length + g)) e.1 z0 fl fb sh (nI (P ++ e :: t).length) ck lk lv ln ch lm bm fL fB ro sz pa wk' wo lK' lV' op bg tc en aj aR aK aD sn sA sK sD cg qK qD qF qL := by
      intro z0 hz
      subst hz
      unfold wX_strike_76
      by_cases c : (tm_look e.1 (l b)).isSome = o
      · have ck' : tm_kp (l b) o e.1 = true := by unfold tm_kp; rw [c]; exact beq_self_eq_true _
        refine br_t (by rw [c]) (nm_r (e' := nI ((P ++ [e]).length + g)) (by rw [nI_1, List.length_append, List.length_singleton]; exact congrArg nI (by omega)) ?_)
        refine ih (P ++ [e]) g _ _ _ _ _ _ _ _ _ _ _ _ _ _ _ _ _ ?_ ?_ hr (fun h x hx => ha h x (List.mem_cons_of_mem _ hx)) ?_
        · rw [List.length_append, List.length_singleton]; omega
        · rw [List.append_assoc]; exact HX0
        · rw [tm_fl_cons, if_pos ck'] at K
          rw [List.append_assoc]; exact K
      · have ck' : ¬ tm_kp (l b) o e.1 = true := by unfold tm_kp; rw [beq_iff_eq]; exact c
        refine br_f ?_ ?_
        · intro q
          apply c
          generalize (tm_look e.1 (l b)).isSome = z at q
          cases z <;> cases o <;> first | rfl | exact absurd q (by decide)
        · have E1 := tm_E_lu (l := l) (j := 34) (x := P ++ e :: t) (by decide) E
          have hdel : tm_del e.1 (P ++ e :: t) = P ++ t := tm_del_split (k := e.1) (w := e.2) (fun x hx => sx x hx e List.mem_cons_self) (fun x hx => s1 x hx)
          refine tm_unset (hd := 34) HX0 (by decide) (show 35 < 36 by omega) E1.1 E1.2.1 E1.2.2 ?_ ?_
          · rw [tm_lu_s, hdel]
            intro _ fl1 fb1 ld1 lk1 lv1 ln1 ch1 lm1 bm1 fL1 fB1 ro1 sz1 pa1 wk1 lK1 lV1 HX1 hr1
            rw [tm_lu_lu] at HX1
            refine nm_r (e' := nI (g + 1)) (nI_1 _) (nm_r (e' := nI (P.length + (g + 1))) (nI_1 _) ?_)
            refine ih P (g + 1) _ _ _ _ _ _ _ _ _ _ _ _ _ _ _ _ _ (by omega) HX1 (fun x hx => (hr1 x hx).trans (hr x hx)) (fun h x hx => ha h x (List.mem_cons_of_mem _ hx)) ?_
            rw [tm_fl_cons, if_neg ck'] at K
            exact K
          · rw [tm_lu_s]
            intro q
            exact absurd rfl (tm_look_none.mp q e (by simp))
    by_cases z : al = 0
    · refine br_t z ⟨tm_in (by omega), ?_⟩
      rw [nI_clamp (show b < 2 ^ 31 by omega)]
      refine tm_find Sb.1 Hb ?_
      rintro r (⟨rfl, hn⟩ | ⟨j, hj, rfl, hx⟩)
      · exact br_t (by decide) (fin 0 (by rw [hn]; rfl))
      · exact br_f (nI_pos (by omega)) (fin 1 (by rw [hx]; rfl))
    · exact br_f z (fin 1 (by rw [ha z e List.mem_cons_self]; rfl))
theorem tm_strike {post : SX → Prop} {l : Nat → List tm_E} {b : Nat} {o : Bool} {al : Int32} {C : List tm_E} (hb : b < 34) (E : l 35 = [] ∧ l 36 = [] ∧ l 37 = []) (HX : tm_HX sh fl fb lk lv ln ch fL fB ro sz (tm_lu l 34 C)) (ha : al = 0 ∨ (al = 1 ∧ C = l b))
    (K : tm_KX post 34 l (tm_fl (tm_kp (l b) o) C) sh ck ro wo op bg tc en aj aR aK aD sn sA sK sD cg qK qD qF qL) : wpX_strike post (fl, fb, sh, ld, ck, lk, lv, ln, ch, lm, bm, fL, fB, ro, sz, pa, wk, wo, lK, lV, op, bg, tc, en, aj, aR, aK, aD, sn, sA, sK, sD, cg, qK, qD, qF, qL) (nI b) (tm_b o) al := by
  unfold wpX_strike
  have hsz := tm_HX_sz HX (show 34 < 38 by decide)
  rw [tm_lu_s] at hsz
  have main : ∃ n22, wX_strike_22 post (nI b) (tm_b o) al (nI C.length) n22 0 0 fl fb sh ld ck lk lv ln ch lm bm fL fB ro sz pa wk wo lK lV op bg tc en aj aR aK aD sn sA sK sD cg qK qD qF qL := by
    refine ⟨C.length + 1, tm_st22 (N := C.length) hb E hsz.2.1 C [] 0 _ _ _ _ _ _ _ _ _ _ _ _ _ _ _ _ _ (by simp) HX (fun _ _ => rfl) ?_ K⟩
    intro h e he
    rcases ha with ha | ⟨_, ha⟩
    · exact absurd ha h
    · rw [ha] at he
      have sb := (tm_HX_sz HX (show b < 38 by omega)).2.2
      rw [tm_lu_n (by omega)] at sb
      rw [(tm_look_some sb).mpr (show (e.1, e.2) ∈ l b from he)]; rfl
  rcases ha with ha | ⟨ha, hC⟩
  · subst ha
    refine br_t ?_ (nm_r (e' := nI C.length) hsz.1 main)
    cases o <;> decide
  · subst ha
    cases o with
    | false => exact br_t (by decide) (nm_r (e' := nI C.length) hsz.1 main)
    | true =>
      refine br_f (by decide) ?_
      have eC : tm_fl (tm_kp (l b) true) C = C := by
        refine tm_fl_all fun e he => ?_
        have sb := (tm_HX_sz HX (show b < 38 by omega)).2.2
        rw [tm_lu_n (by omega)] at sb
        rw [hC] at he
        unfold tm_kp
        rw [(tm_look_some sb).mpr (show (e.1, e.2) ∈ l b from he)]; rfl
      rw [eC] at K
      exact K _ _ _ _ _ _ _ _ _ _ _ _ _ _ _ _ _ HX (fun _ _ => rfl)
end
end
section
/-! combine -/
noncomputable def tm_cm (q : Nat) (La Lb : List tm_E) : Option (List tm_E) :=
  if q = 1 then (if (tm_un La Lb).length ≤ 10 then some (tm_un La Lb) else none) else if q = 2 then some (tm_fl (tm_kp Lb false) La) else if q = 3 then some (tm_fl (tm_kp Lb true) La) else some La
theorem tm_un_self {L : List tm_E} (s : tm_SO L) : tm_un L L = L := by
  refine tm_ext (tm_un_so s) s fun e => ?_
  rw [tm_un_mem s (tm_so_ne s)]
  exact ⟨fun h => h.elim id (fun h => h.1), Or.inl⟩
section
variable {fl fb sh ld : Int32} {ck : Int64} {lk lv ln ch lm bm fL fB ro sz pa wk wo lK lV op tc en aj aR aK aD sn sA sK sD qK qD qF qL : Nat → Int32} {bg cg : Nat → Int64}
theorem tm_c128 {post : Int32 → SX → Prop} {l : Nat → List tm_E} {to : Nat} {R : List tm_E} (ht : to < 34) (HX : tm_HX sh fl fb lk lv ln ch fL fB ro sz (tm_lu l 34 R))
    (K : ∀ ro' sz', tm_HX sh fl fb lk lv ln ch fL fB ro' sz' (tm_lu (tm_lu l 34 R) to R) → post (nI R.length) (fl, fb, sh, ld, ck, lk, lv, ln, ch, lm, bm, fL, fB, ro', sz', pa, wk, wo, lK, lV, op, bg, tc, en, aj, aR, aK, aD, sn, sA, sK, sD, cg, qK, qD, qF, qL)) : wX_combine_128 post (nI to) fl fb sh ld ck lk lv ln ch lm bm fL fB ro sz pa wk wo lK lV op bg tc en aj aR aK aD sn sA sK sD cg qK qD qF qL := by
  unfold wX_combine_128
  refine tm_give (from' := 34) HX (by omega) (by decide) ?_
  intro ro' sz' HX' _
  rw [tm_lu_s] at HX' ⊢
  exact K ro' sz' HX'
theorem tm_comb {post : Int32 → SX → Prop} {l : Nat → List tm_E} {q a b to : Nat} (hq : q < 4) (ha : a < 4) (hb : b < 4) (ht : to < 4) (HX : tm_HX sh fl fb lk lv ln ch fL fB ro sz l) (E : l 35 = [] ∧ l 36 = [] ∧ l 37 = [])
    (K1 : ∀ R, tm_cm q (l a) (l b) = some R → ∀ fl' fb' ld' lk' lv' ln' ch' lm' bm' fL' fB' ro' sz' pa' wk' lK' lV', tm_HX sh fl' fb' lk' lv' ln' ch' fL' fB' ro' sz' (tm_lu (tm_lu l 34 R) to R) → post (nI R.length) (fl', fb', sh, ld', ck, lk', lv', ln', ch', lm', bm', fL', fB', ro', sz', pa', wk', wo, lK', lV', op, bg, tc, en, aj, aR, aK, aD, sn, sA, sK, sD, cg, qK, qD, qF, qL))
    (K0 : tm_cm q (l a) (l b) = none → ∀ C fl' fb' ld' lk' lv' ln' ch' lm' bm' fL' fB' ro' sz' pa' wk' lK' lV', tm_HX sh fl' fb' lk' lv' ln' ch' fL' fB' ro' sz' (tm_lu l 34 C) → post (-2) (fl', fb', sh, ld', ck, lk', lv', ln', ch', lm', bm', fL', fB', ro', sz', pa', wk', wo, lK', lV', op, bg, tc, en, aj, aR, aK, aD, sn, sA, sK, sD, cg, qK, qD, qF, qL)) :
    wpX_combine post (fl, fb, sh, ld, ck, lk, lv, ln, ch, lm, bm, fL, fB, ro, sz, pa, wk, wo, lK, lV, op, bg, tc, en, aj, aR, aK, aD, sn, sA, sK, sD, cg, qK, qD, qF, qL) (nI q) (nI a) (nI b) (nI to) := by
  unfold wpX_combine
  refine tm_out_i 4 ha (br_t rfl ?_)
  refine tm_out_i 4 hb (br_t rfl ?_)
  refine tm_out_i 4 ht (br_t rfl ?_)
  refine tm_out_i 4 hq (br_t rfl ?_)
  refine tm_give (to := 34) HX (by decide) (by omega) ?_
  intro ro1 sz1 HX1 _
  refine ⟨tm_in (by omega), tm_in (by omega), ?_⟩
  rw [nI_clamp (show a < 2 ^ 31 by omega), nI_clamp (show b < 2 ^ 31 by omega)]
  -- with the answer to 'alike' at hand
  have main : ∀ al : Int32, (al = 0 ∨ (al = 1 ∧ l a = l b)) → wX_combine_63 post (nI q) (nI b) (nI to) al fl fb sh ld ck lk lv ln ch lm bm fL fB ro1 sz1 pa wk wo lK lV op bg tc en aj aR aK aD sn sA sK sD cg qK qD qF qL := by
    intro al hal
    have sa := (tm_HX_sz HX (show a < 38 by omega)).2.2
    have la := (tm_HX_sz HX (show a < 38 by omega)).2.1
    have str : ∀ o : Bool, tm_cm q (l a) (l b) = some (tm_fl (tm_kp (l b) o) (l a)) → wX_combine_120 post (nI to) al (tm_b o) (nI b) fl fb sh ld ck lk lv ln ch lm bm fL fB ro1 sz1 pa wk wo lK lV op bg tc en aj aR aK aD sn sA sK sD cg qK qD qF qL := by
      intro o ho
      unfold wX_combine_120
      refine tm_strike (C := l a) (show b < 34 by omega) E HX1 hal ?_
      intro fl' fb' ld' lk' lv' ln' ch' lm' bm' fL' fB' ro' sz' pa' wk' lK' lV' HX' _
      refine tm_c128 (show to < 34 by omega) HX' ?_
      intro ro2 sz2 HX2
      exact K1 _ ho _ _ _ _ _ _ _ _ _ _ _ _ _ _ _ _ _ HX2
    unfold wX_combine_63
    have c : q = 0 ∨ q = 1 ∨ q = 2 ∨ q = 3 := by omega
    rcases c with rfl | rfl | rfl | rfl
    · refine br_t (by decide) (tm_c128 (show to < 34 by omega) HX1 ?_)
      intro ro2 sz2 HX2
      exact K1 _ rfl _ _ _ _ _ _ _ _ _ _ _ _ _ _ _ _ _ HX2
    · refine br_f (by decide) (br_f (by decide) (br_t rfl ?_))
      rcases hal with hal | ⟨hal, hab⟩
      · refine br_t hal ?_
        refine tm_unite (C := l a) (show b < 34 by omega) E HX1 ?_ ?_
        · intro hle fl' fb' ld' lk' lv' ln' ch' lm' bm' fL' fB' ro' sz' pa' wk' lK' lV' HX' _
          refine br_f (by decide) (tm_c128 (show to < 34 by omega) HX' ?_)
          intro ro2 sz2 HX2
          exact K1 _ (if_pos hle) _ _ _ _ _ _ _ _ _ _ _ _ _ _ _ _ _ HX2
        · intro hle C fl' fb' ld' lk' lv' ln' ch' lm' bm' fL' fB' ro' sz' pa' wk' lK' lV' HX' _
          exact br_t rfl (K0 (if_neg hle) C _ _ _ _ _ _ _ _ _ _ _ _ _ _ _ _ _ HX')
      · refine br_f (by rw [hal]; decide) (tm_c128 (show to < 34 by omega) HX1 ?_)
        intro ro2 sz2 HX2
        refine K1 _ ?_ _ _ _ _ _ _ _ _ _ _ _ _ _ _ _ _ _ HX2
        rw [← hab]
        unfold tm_cm
        rw [if_pos rfl, tm_un_self sa, if_pos la]
    · refine br_f (by decide) (br_f (by decide) (br_f (by decide) (br_t rfl ?_)))
      unfold wX_combine_108
      exact br_f (by decide) (str false rfl)
    · refine br_f (by decide) (br_f (by decide) (br_f (by decide) (br_f (by decide) (br_t rfl ?_))))
      unfold wX_combine_108
      exact br_t rfl (str true rfl)
  by_cases z : ro1 a = ro1 b
  · refine br_t z (main 1 (Or.inr ⟨rfl, ?_⟩))
    obtain ⟨a0, b0, hfl, hfb, FL, FB, H, HS⟩ := HX1
    have h1 := H a (by omega)
    have h2 := H b (by omega)
    have s1 := (HS a (by omega)).1
    have s2 := (HS b (by omega)).1
    rw [tm_lu_n (by omega)] at h1 h2 s1 s2
    rw [z] at h1
    exact tm_R_fun s1 s2 h1 h2
  · exact br_f z (main 0 (Or.inl rfl))
end
/-! the reference's two loops -/
def tm_cd (q : Nat) (Lb : List tm_E) : Int32 → Bool := if q = 2 then tm_kp Lb false else if q = 3 then tm_kp Lb true else fun _ => true
def tm_sl3 (yk yv : Nat → Int32) (b : Nat) : Nat → Nat → List tm_E
  | _, 0 => []
  | i, d + 1 => (yk (b + i), yv (b + i)) :: tm_sl3 yk yv b (i + 1) d
theorem tm_sl3_mem {yk yv : Nat → Int32} {b : Nat} {e : tm_E} : ∀ d i, e ∈ tm_sl3 yk yv b i d ↔ ∃ t, i ≤ t ∧ t < i + d ∧ (yk (b + t), yv (b + t)) = e := by
  intro d
  induction d with
  | zero => exact fun i => ⟨fun h => absurd h List.not_mem_nil, fun ⟨t, h1, h2, _⟩ => absurd h2 (by omega)⟩
  | succ d ih =>
    intro i
    unfold tm_sl3
    rw [List.mem_cons, ih]
    constructor
    · rintro (r | ⟨t, h1, h2, h3⟩)
      · exact ⟨i, by omega, by omega, r.symm⟩
      · exact ⟨t, by omega, by omega, h3⟩
    · rintro ⟨t, h1, h2, h3⟩
      by_cases z : t = i
      · subst z; exact Or.inl h3.symm
      · exact Or.inr ⟨t, by omega, by omega, h3⟩
theorem tm_sl3_ne {yk yv : Nat → Int32} {b n : Nat} (inj : ∀ i, i < n → ∀ j, j < n → yk (b + i) = yk (b + j) → i = j) : ∀ d i, i + d ≤ n → (tm_sl3 yk yv b i d).Pairwise (fun a b => a.1 ≠ b.1) := by
  intro d
  induction d with
  | zero => exact fun i _ => List.Pairwise.nil
  | succ d ih =>
    intro i hi
    unfold tm_sl3
    refine List.pairwise_cons.mpr ⟨fun x hx e => ?_, ih (i + 1) (by omega)⟩
    obtain ⟨t, h1, h2, h3⟩ := (tm_sl3_mem d (i + 1)).mp hx
    rw [← h3] at e
    have := inj i (by omega) t (by omega) e
    omega
theorem tm_sl3_congr {yk yv yk' yv' : Nat → Int32} {b : Nat} : ∀ d i, (∀ t, i ≤ t → t < i + d → yk' (b + t) = yk (b + t) ∧ yv' (b + t) = yv (b + t)) → tm_sl3 yk' yv' b i d = tm_sl3 yk yv b i d := by
  intro d
  induction d with
  | zero => exact fun _ _ => rfl
  | succ d ih =>
    intro i h
    unfold tm_sl3
    rw [(h i (by omega) (by omega)).1, (h i (by omega) (by omega)).2, ih (i + 1) fun t h1 h2 => h t (by omega) (by omega)]
theorem tm_un_sl3 {yk yv ys : Nat → Int32} {b : Nat} {M Lb : List tm_E} (s : tm_SO M) (H : tm_YR yk yv ys b Lb) : tm_un M (tm_sl3 yk yv (b * 10) 0 Lb.length) = tm_un M Lb := by
  obtain ⟨h1, h2, h3, h4, h5, h6⟩ := H
  have m : ∀ e, e ∈ tm_sl3 yk yv (b * 10) 0 Lb.length ↔ e ∈ Lb := by
    intro e
    rw [tm_sl3_mem]
    constructor
    · rintro ⟨t, _, t2, t3⟩
      rw [← t3]; exact h4 t (by omega)
    · intro he
      obtain ⟨t, t1, t2⟩ := h5 e he
      exact ⟨t, by omega, by omega, t2⟩
  refine tm_ext (tm_un_so s) (tm_un_so s) fun e => ?_
  rw [tm_un_mem s (tm_sl3_ne h6 _ _ (by omega)), tm_un_mem s (tm_so_ne h3), m e]
  constructor
  · rintro (r | ⟨r, g⟩)
    · exact Or.inl r
    · exact Or.inr ⟨r, fun y hy => g y ((m y).mpr hy)⟩
  · rintro (r | ⟨r, g⟩)
    · exact Or.inl r
    · exact Or.inr ⟨r, fun y hy => g y ((m y).mp hy)⟩
section
variable {yk yv ys op tc en yc aR aK aD aj sA sK sD sn wK wD wC : Nat → Int32}
variable {D : Nat → Prop}
theorem ty_c202 {post : Int32 → SY → Prop} {l : Nat → List tm_E} {to : Nat} {R : List tm_E} (ht : to < 34) (HY : tm_HY (fun x => D x ∨ x = 34) yk yv ys (tm_lu l 34 R))
    (K : ∀ yk' yv' ys', tm_HY D yk' yv' ys' (tm_lu (tm_lu l 34 R) to R) → post (nI R.length) (yk', yv', ys', op, tc, en, yc, aR, aK, aD, aj, sA, sK, sD, sn, wK, wD, wC)) : wY_combine_202 post (nI to) yk yv ys op tc en yc aR aK aD aj sA sK sD sn wK wD wC := by
  unfold wY_combine_202
  refine ty_copy (s := 34) (D := fun x => D x ∨ x = 34) (D' := D) (by decide) (by omega) HY (Or.inr rfl) (fun x h h' => Or.inl h) ?_
  intro yk' yv' ys' HY' hys
  rw [tm_lu_s] at HY' hys
  refine ⟨tm_in (by omega), ?_⟩
  rw [nI_clamp (show to < 2 ^ 31 by omega), hys]
  exact K _ _ _ HY'
theorem ty_c154 {post : Int32 → SY → Prop} {l : Nat → List tm_E} {b to : Nat} {M : List tm_E} (hb : b < 34) (Db : D b) (hD : ∀ x, D x → x < 34) (ht : to < 34) :
    ∀ (d i : Nat) (C : List tm_E) (yk yv ys : Nat → Int32), i + d = (l b).length → tm_HY (fun x => D x ∨ x = 34) yk yv ys (tm_lu l 34 C) → tm_un C (tm_sl3 yk yv (b * 10) i d) = M →
    (M.length ≤ 10 → ∀ yk' yv' ys', tm_HY D yk' yv' ys' (tm_lu (tm_lu l 34 M) to M) → post (nI M.length) (yk', yv', ys', op, tc, en, yc, aR, aK, aD, aj, sA, sK, sD, sn, wK, wD, wC)) →
    (¬ M.length ≤ 10 → ∀ yk' yv' ys', tm_HY D yk' yv' ys' l → post (-2) (yk', yv', ys', op, tc, en, yc, aR, aK, aD, aj, sA, sK, sD, sn, wK, wD, wC)) →
    wY_combine_154 post (nI b) (nI to) (d + 1) (nI (b * 10 + i)) yk yv ys op tc en yc aR aK aD aj sA sK sD sn wK wD wC := by
  intro d
  induction d with
  | zero =>
    intro i C yk yv ys hi HY hM K1 K0
    have Hb := HY b (Or.inl Db)
    rw [tm_lu_n (by omega)] at Hb
    have H34 := HY 34 (Or.inr rfl)
    rw [tm_lu_s] at H34
    have hCM : C = M := hM
    subst hCM
    refine ⟨tm_in (by omega), ?_⟩
    rw [nI_clamp (show b < 2 ^ 31 by omega), Hb.1, tm_10]
    have hl := Hb.2.1
    exact br_t (nI_le (by omega) (by omega)) (ty_c202 ht HY (K1 H34.2.1))
  | succ d ih =>
    intro i C yk yv ys hi HY hM K1 K0
    have Hb := HY b (Or.inl Db)
    rw [tm_lu_n (by omega)] at Hb
    have H34 := HY 34 (Or.inr rfl)
    rw [tm_lu_s] at H34
    have hl := Hb.2.1
    refine ⟨tm_in (by omega), ?_⟩
    rw [nI_clamp (show b < 2 ^ 31 by omega), Hb.1, tm_10]
    refine br_f (nI_ge (by omega) (by omega)) ⟨tm_in (by omega), tm_in (by omega), ?_⟩
    rw [nI_clamp (show b * 10 + i < 2 ^ 31 by omega)]
    refine ty_set (r := 34) (by decide) H34 ?_ ?_
    · intro _ yk1 yv1 ys1 R F
      have HY1 := tm_HY_lu (D' := fun x => D x ∨ x = 34) HY F R (fun x h _ => h)
      rw [tm_lu_lu] at HY1
      refine br_f (by decide) (nm_r (e' := nI (b * 10 + (i + 1))) (nI_1 _) (ih (i + 1) _ yk1 yv1 ys1 (by omega) HY1 ?_ K1 K0))
      rw [tm_sl3_congr (yk := yk) (yv := yv) d (i + 1) (fun t h1 h2 => F.1 _ (by omega))]
      exact hM
    · intro q1 q2
      refine br_t rfl (K0 ?_ _ _ _ (tm_HY_congr (tm_HY_sub HY (fun x hx => Or.inl hx)) (fun x hx => (tm_lu_n (by have := hD x hx; omega)).symm)))
      have := tm_un_len (L := tm_sl3 yk yv (b * 10) (i + 1) d) (tm_so_ins (k := yk (b * 10 + i)) (v := yv (b * 10 + i)) H34.2.2.1)
      rw [tm_len_ins_n q1] at this
      have e : tm_un C (tm_sl3 yk yv (b * 10) i (d + 1)) = tm_un (tm_ins (yk (b * 10 + i)) (yv (b * 10 + i)) C) (tm_sl3 yk yv (b * 10) (i + 1) d) := rfl
      rw [← hM, e]
      omega
/-- keep or skip an entry -/
theorem ty_c89 {post : Int32 → SY → Prop} {J : Int32 → (Nat → Int32) → (Nat → Int32) → (Nat → Int32) → (Nat → Int32) → (Nat → Int32) → (Nat → Int32) → (Nat → Int32) → (Nat → Int32) → (Nat → Int32) → (Nat → Int32) → (Nat → Int32) → (Nat → Int32) → (Nat → Int32) → (Nat → Int32) → (Nat → Int32) → (Nat → Int32) → (Nat → Int32) → (Nat → Int32) → Prop} {q : Nat} {x2 x3 x4 x5 z0 : Int32} {Lb : List tm_E} {k : Int32} (hq : q < 4) (hz : z0 = tm_b (tm_look k Lb).isSome)
    (K1 : tm_cd q Lb k = true → wY_combine_116 post J (nI q) x2 x3 x4 x5 yk yv ys op tc en yc aR aK aD aj sA sK sD sn wK wD wC) (K0 : tm_cd q Lb k = false → J (x5 + 1) yk yv ys op tc en yc aR aK aD aj sA sK sD sn wK wD wC) : wY_combine_89 post J (nI q) x2 x3 x4 x5 z0 yk yv ys op tc en yc aR aK aD aj sA sK sD sn wK wD wC := by
  subst hz
  unfold wY_combine_89
  have c : q = 0 ∨ q = 1 ∨ q = 2 ∨ q = 3 := by omega
  rcases c with rfl | rfl | rfl | rfl
  · exact br_t (by decide) (K1 rfl)
  · exact br_t (by decide) (K1 rfl)
  · refine br_f (by decide) (br_t rfl ?_)
    have e : tm_cd 2 Lb k = ((tm_look k Lb).isSome == false) := rfl
    rw [e] at K1 K0
    generalize (tm_look k Lb).isSome = z at K1 K0
    cases z with
    | false => exact br_t rfl (K1 rfl)
    | true =>
      refine br_f (by decide) ?_
      unfold wY_combine_106
      exact br_f (by decide) (nm_e (K0 rfl))
  · refine br_f (by decide) (br_f (by decide) ?_)
    have e : tm_cd 3 Lb k = ((tm_look k Lb).isSome == true) := rfl
    rw [e] at K1 K0
    unfold wY_combine_106
    refine br_t rfl ?_
    generalize (tm_look k Lb).isSome = z at K1 K0
    cases z with
    | false => exact br_t rfl (nm_e (K0 rfl))
    | true => exact br_f (by decide) (K1 rfl)
theorem ty_c53 {post : Int32 → SY → Prop} {l : Nat → List tm_E} {q a b to : Nat} (hq : q < 4) (ha : a < 34) (hb : b < 34) (Da : D a) (Db : D b)
    (K : ∀ yk' yv' ys', tm_HY (fun x => D x ∨ x = 34) yk' yv' ys' (tm_lu l 34 (tm_fl (tm_cd q (l b)) (l a))) → ((nI q = 1 → ∀ x5, x5 = nI b * 10 → ∃ n154, wY_combine_154 post (nI b) (nI to) n154 x5 yk' yv' ys' op tc en yc aR aK aD aj sA sK sD sn wK wD wC) ∧ (¬ nI q = 1 → wY_combine_202 post (nI to) yk' yv' ys' op tc en yc aR aK aD aj sA sK sD sn wK wD wC))) :
    ∀ (d i : Nat) (C : List tm_E) (yk yv ys : Nat → Int32), i + d = (l a).length → tm_HY (fun x => D x ∨ x = 34) yk yv ys (tm_lu l 34 C) → C.length ≤ i → (∀ e, e ∈ C ↔ ∃ t, t < i ∧ (yk (a * 10 + t), yv (a * 10 + t)) = e ∧ tm_cd q (l b) e.1 = true) →
    wY_combine_53 post (nI q) (nI a) (nI b) (nI to) (d + 1) (nI (a * 10 + i)) yk yv ys op tc en yc aR aK aD aj sA sK sD sn wK wD wC := by
  intro d
  induction d with
  | zero =>
    intro i C yk yv ys hi HY hC hm
    have Ha := HY a (Or.inl Da)
    rw [tm_lu_n (by omega)] at Ha
    have H34 := HY 34 (Or.inr rfl)
    rw [tm_lu_s] at H34
    obtain ⟨h1, h2, h3, h4, h5, h6⟩ := Ha
    have eC : C = tm_fl (tm_cd q (l b)) (l a) := by
      refine tm_ext H34.2.2.1 (tm_so_fl h3) fun e => ?_
      rw [hm, tm_mem_fl]
      constructor
      · rintro ⟨t, t1, t2, t3⟩
        exact ⟨by rw [← t2]; exact h4 t (by omega), t3⟩
      · rintro ⟨g1, g2⟩
        obtain ⟨t, t1, t2⟩ := h5 e g1
        exact ⟨t, by omega, t2, g2⟩
    rw [eC] at HY
    refine ⟨tm_in (by omega), ?_⟩
    rw [nI_clamp (show a < 2 ^ 31 by omega), h1, tm_10]
    exact br_t (nI_le (by omega) (by omega)) (K _ _ _ HY)
  | succ d ih =>
    intro i C yk yv ys hi HY hC hm
    have Ha := HY a (Or.inl Da)
    have Hb := HY b (Or.inl Db)
    rw [tm_lu_n (by omega)] at Ha Hb
    have H34 := HY 34 (Or.inr rfl)
    rw [tm_lu_s] at H34
    obtain ⟨h1, h2, h3, h4, h5, h6⟩ := Ha
    have hbl := Hb.2.1
    refine ⟨tm_in (by omega), ?_⟩
    rw [nI_clamp (show a < 2 ^ 31 by omega), h1, tm_10]
    refine br_f (nI_ge (by omega) (by omega)) ⟨tm_in (by omega), ?_⟩
    rw [nI_clamp (show a * 10 + i < 2 ^ 31 by omega)]
    have fresh : ∀ e, e ∈ C → e.1 ≠ yk (a * 10 + i) := by
      intro e he z
      obtain ⟨t, t1, t2, t3⟩ := (hm e).mp he
      rw [← t2] at z
      have := h6 t (by omega) i (by omega) z
      omega
    have step : ∀ z0, z0 = tm_b (tm_look (yk (a * 10 + i)) (l b)).isSome → wY_combine_89 post (wY_combine_53 post (nI q) (nI a) (nI b) (nI to) (d + 1)) (nI q) (nI a) (nI b) (nI to) (nI (a * 10 + i)) z0 yk yv ys op tc en yc aR aK aD aj sA sK sD sn wK wD wC := by
      intro z0 hz
      refine ty_c89 hq hz (fun c => ?_) (fun c => ?_)
      · refine ⟨tm_in (by omega), tm_in (by omega), ?_⟩
        rw [nI_clamp (show a * 10 + i < 2 ^ 31 by omega)]
        refine ty_set (r := 34) (by decide) H34 ?_ ?_
        · intro _ yk1 yv1 ys1 R F
          have HY1 := tm_HY_lu (D' := fun x => D x ∨ x = 34) HY F R (fun x h _ => h)
          rw [tm_lu_lu] at HY1
          refine nm_r (e' := nI (a * 10 + (i + 1))) (nI_1 _) (ih (i + 1) _ yk1 yv1 ys1 (by omega) HY1 ?_ ?_)
          · have := (tm_ins_len (k := yk (a * 10 + i)) (v := yv (a * 10 + i)) H34.2.2.1).2
            omega
          · intro e
            rw [tm_mem_ins H34.2.2.1]
            constructor
            · rintro (r | ⟨r, _⟩)
              · refine ⟨i, by omega, ?_, by rw [r]; exact c⟩
                rw [(F.1 _ (by omega)).1, (F.1 _ (by omega)).2, r]
              · obtain ⟨t, t1, t2, t3⟩ := (hm e).mp r
                refine ⟨t, by omega, ?_, t3⟩
                rw [(F.1 _ (by omega)).1, (F.1 _ (by omega)).2]; exact t2
            · rintro ⟨t, t1, t2, t3⟩
              rw [(F.1 _ (by omega)).1, (F.1 _ (by omega)).2] at t2
              by_cases z : t = i
              · subst z; exact Or.inl t2.symm
              · have : e ∈ C := (hm e).mpr ⟨t, by omega, t2, t3⟩
                exact Or.inr ⟨this, fresh e this⟩
        · intro _ q2
          omega
      · rw [nI_1]
        refine ih (i + 1) C yk yv ys (by omega) HY (by omega) fun e => ?_
        rw [hm]
        constructor
        · rintro ⟨t, t1, t2⟩
          exact ⟨t, by omega, t2⟩
        · rintro ⟨t, t1, t2, t3⟩
          by_cases z : t = i
          · subst z
            rw [← t2] at t3
            rw [show tm_cd q (l b) (yk (a * 10 + t)) = true from t3] at c
            exact absurd c (by decide)
          · exact ⟨t, by omega, t2, t3⟩
    refine ty_find (by omega) Hb ?_
    rintro x (⟨rfl, hn⟩ | ⟨j, hj, rfl, hk, hx⟩)
    · exact br_t (by decide) (step 0 (by rw [hn]; rfl))
    · exact br_f (nI_pos (by omega)) (step 1 (by rw [hx]; rfl))
theorem ty_comb {post : Int32 → SY → Prop} {l : Nat → List tm_E} {q a b to : Nat} (hq : q < 4) (ha : a < 4) (hb : b < 4) (ht : to < 4) (Da : D a) (Db : D b) (hD : ∀ x, D x → x < 34) (HY : tm_HY D yk yv ys l)
    (K1 : ∀ R, tm_cm q (l a) (l b) = some R → ∀ yk' yv' ys', tm_HY D yk' yv' ys' (tm_lu (tm_lu l 34 R) to R) → post (nI R.length) (yk', yv', ys', op, tc, en, yc, aR, aK, aD, aj, sA, sK, sD, sn, wK, wD, wC))
    (K0 : tm_cm q (l a) (l b) = none → ∀ yk' yv' ys', tm_HY D yk' yv' ys' l → post (-2) (yk', yv', ys', op, tc, en, yc, aR, aK, aD, aj, sA, sK, sD, sn, wK, wD, wC)) : wpY_combine post (yk, yv, ys, op, tc, en, yc, aR, aK, aD, aj, sA, sK, sD, sn, wK, wD, wC) (nI q) (nI a) (nI b) (nI to) := by
  unfold wpY_combine
  refine ty_am_i 4 ha (br_f (by decide) ?_)
  refine ty_am_i 4 hb (br_f (by decide) ?_)
  refine ty_am_i 4 ht (br_f (by decide) ?_)
  refine ty_am_i 4 hq (br_f (by decide) ?_)
  refine nm_e (nm_r (e' := nI (a * 10 + 0)) (by rw [show (10 : Int32) = nI 10 from rfl, pk_mul]; rfl) ⟨(l a).length + 1, ?_⟩)
  have HY0 : tm_HY (fun x => D x ∨ x = 34) yk yv (upd ys 34 0) (tm_lu l 34 []) := tm_HY_lu HY ⟨fun _ _ => ⟨rfl, rfl⟩, fun t ht => pk_un ht⟩ (tm_YR_nil pk_us) (fun x h h' => h.resolve_right h')
  refine ty_c53 (l := l) hq (by omega) (by omega) Da Db ?_ (l a).length 0 [] yk yv (upd ys 34 0) (by omega) HY0 (Nat.le_refl _) (fun e => ⟨fun h => absurd h List.not_mem_nil, fun ⟨t, h, _⟩ => absurd h (Nat.not_lt_zero _)⟩)
  intro yk1 yv1 ys1 HY1
  have c : q = 0 ∨ q = 1 ∨ q = 2 ∨ q = 3 := by omega
  rcases c with rfl | rfl | rfl | rfl
  · refine br_f (by decide) (ty_c202 (by omega) HY1 ?_)
    have e : tm_fl (tm_cd 0 (l b)) (l a) = l a := tm_fl_all fun _ _ => rfl
    rw [e]
    exact K1 _ rfl
  · have e : tm_fl (tm_cd 1 (l b)) (l a) = l a := tm_fl_all fun _ _ => rfl
    rw [e] at HY1
    have Hb := HY1 b (Or.inl Db)
    rw [tm_lu_n (by omega)] at Hb
    have sa := (HY a Da).2.2.1
    refine br_t rfl (nm_r (e' := nI (b * 10 + 0)) (by rw [show (10 : Int32) = nI 10 from rfl, pk_mul]; rfl) ⟨(l b).length + 1, ?_⟩)
    refine ty_c154 (M := tm_un (l a) (l b)) (by omega) Db hD (by omega) (l b).length 0 (l a) yk1 yv1 ys1 (by omega) HY1 (tm_un_sl3 sa Hb) ?_ ?_
    · exact fun h => K1 _ (if_pos h)
    · exact fun h => K0 (if_neg h)
  · exact br_f (by decide) (ty_c202 (by omega) HY1 (K1 _ rfl))
  · exact br_f (by decide) (ty_c202 (by omega) HY1 (K1 _ rfl))
end
theorem i_vc_combine {k : Nat} {u : SX} {v : SY} (I : i_Rel k u v) (hk : k + 5 ≤ 2561) (v1 : Int32) (v2 : Int32) (v3 : Int32) (v4 : Int32) : wpX_combine (fun r u' => wpY_combine (fun r' v' => r' = r ∧ i_Rel (k + 5) u' v') v v1 v2 v3 v4) u v1 v2 v3 v4 := by
  refine tm_el (P := fun u v => wpX_combine (fun r u' => wpY_combine (fun r' v' => r' = r ∧ i_Rel (k + 5) u' v') v v1 v2 v3 v4) u v1 v2 v3 v4) ?_ I
  intro fl fb sh ld ck lk lv ln ch lm bm fL fB ro sz pa wk wo lK lV op bg tc en aj aR aK aD sn sA sK sD cg qK qD qF qL yk yv ys yc wK wD wC l FX TA TS TF TC QU
  have TC5 := tm_up TC (show k ≤ k + 5 by omega)
  have J := tm_mk (ld := ld) (lm := lm) (bm := bm) (pa := pa) (wk := wk) (wo := wo) (lK := lK) (lV := lV) (aK := aK) (aD := aD) (sK := sK) (sD := sD) FX TA TS TF TC5 QU
  obtain ⟨HX, E, HY⟩ := FX
  rcases tm_dec v2 4 with ⟨a, ha, rfl⟩ | ha
  · rcases tm_dec v3 4 with ⟨b, hb, rfl⟩ | hb
    · rcases tm_dec v4 4 with ⟨to, ht, rfl⟩ | ht
      · rcases tm_dec v1 4 with ⟨q, hq, rfl⟩ | hq
        · refine tm_comb hq ha hb ht HX E ?_ ?_
          · intro R hR fl' fb' ld' lk' lv' ln' ch' lm' bm' fL' fB' ro' sz' pa' wk' lK' lV' HX'
            refine ty_comb (D := tm_D op tc) hq ha hb ht (Or.inl (by omega)) (Or.inl (by omega)) (fun x h => tm_D_lt h) HY ?_ ?_
            · intro R' hR' yk' yv' ys' HY'
              obtain rfl : R = R' := Option.some.inj (hR.symm.trans hR')
              exact ⟨rfl, tm_mk ⟨HX', tm_E_lu (by omega) (tm_E_lu (by decide) E), HY'⟩ TA TS TF TC5 QU⟩
            · intro h; rw [h] at hR; exact absurd hR (by simp)
          · intro hN C fl' fb' ld' lk' lv' ln' ch' lm' bm' fL' fB' ro' sz' pa' wk' lK' lV' HX'
            refine ty_comb (D := tm_D op tc) hq ha hb ht (Or.inl (by omega)) (Or.inl (by omega)) (fun x h => tm_D_lt h) HY ?_ ?_
            · intro R' hR'; rw [hN] at hR'; exact absurd hR' (by simp)
            · intro _ yk' yv' ys' HY'
              exact ⟨rfl, tm_mk ⟨HX', tm_E_lu (by decide) E, tm_HY_congr HY' (fun x hx => tm_lu_n (by have := tm_D_lt hx; omega))⟩ TA TS TF TC5 QU⟩
        · unfold wpX_combine
          refine tm_out_i 4 ha (br_t rfl ?_)
          refine tm_out_i 4 hb (br_t rfl ?_)
          refine tm_out_i 4 ht (br_t rfl ?_)
          refine tm_out_o 4 hq (br_f (by decide) ?_)
          unfold wpY_combine
          refine ty_am_i 4 ha (br_f (by decide) ?_)
          refine ty_am_i 4 hb (br_f (by decide) ?_)
          refine ty_am_i 4 ht (br_f (by decide) ?_)
          exact ty_am_o 4 hq (br_t rfl ⟨rfl, J⟩)
      · unfold wpX_combine
        refine tm_out_i 4 ha (br_t rfl ?_)
        refine tm_out_i 4 hb (br_t rfl ?_)
        refine tm_out_o 4 ht (br_f (by decide) ?_)
        unfold wpY_combine
        refine ty_am_i 4 ha (br_f (by decide) ?_)
        refine ty_am_i 4 hb (br_f (by decide) ?_)
        exact ty_am_o 4 ht (br_t rfl ⟨rfl, J⟩)
    · unfold wpX_combine
      refine tm_out_i 4 ha (br_t rfl ?_)
      refine tm_out_o 4 hb (br_f (by decide) ?_)
      unfold wpY_combine
      refine ty_am_i 4 ha (br_f (by decide) ?_)
      exact ty_am_o 4 hb (br_t rfl ⟨rfl, J⟩)
  · unfold wpX_combine
    refine tm_out_o 4 ha (br_f (by decide) ?_)
    unfold wpY_combine
    exact ty_am_o 4 ha (br_t rfl ⟨rfl, J⟩)
end
section
/-! finish: the pieces of settle -/
def tm_cf (tc en : Nat → Int32) (t B : Nat) (G : Nat → Nat) (r : Nat) : Prop := (tc (4 * t + r) = 1 ∨ en (4 * t + r) ≠ 0) ∧ B < G r
def tm_w1 (l : Nat → List tm_E) (tc : Nat → Int32) (t i : Nat) : Nat → List tm_E := fun x => if 34 ≤ x ∧ x < 34 + i then (if tc (4 * t + (x - 34)) = 1 then l (22 + (4 * t + (x - 34))) else l (4 + (x - 34))) else l x
def tm_w2 (l : Nat → List tm_E) (tc : Nat → Int32) (t : Nat) (W : Nat → List tm_E) : Nat → List tm_E := fun x => if 34 ≤ x ∧ x < 34 + 4 then (if tc (4 * t + (x - 34)) = 1 then l (22 + (4 * t + (x - 34))) else W (x - 34)) else l x
theorem tm_w1_o {l : Nat → List tm_E} {tc : Nat → Int32} {t i x : Nat} (h : ¬ (34 ≤ x ∧ x < 34 + i)) : tm_w1 l tc t i x = l x := if_neg h
theorem tm_w2_o {l W : Nat → List tm_E} {tc : Nat → Int32} {t x : Nat} (h : ¬ (34 ≤ x ∧ x < 34 + 4)) : tm_w2 l tc t W x = l x := if_neg h
theorem tm_w2_1 {l W : Nat → List tm_E} {tc : Nat → Int32} {t r : Nat} (hr : r < 4) (h : tc (4 * t + r) = 1) : tm_w2 l tc t W (34 + r) = l (22 + (4 * t + r)) := by
  unfold tm_w2
  rw [if_pos (by omega), Nat.add_sub_cancel_left, if_pos h]
theorem tm_w2_2 {l W : Nat → List tm_E} {tc : Nat → Int32} {t r : Nat} (hr : r < 4) (h : tc (4 * t + r) ≠ 1) : tm_w2 l tc t W (34 + r) = W r := by
  unfold tm_w2
  rw [if_pos (by omega), Nat.add_sub_cancel_left, if_neg h]
theorem tm_w1_0 {l : Nat → List tm_E} {tc : Nat → Int32} {t : Nat} : tm_w1 l tc t 0 = l := by
  funext x; exact if_neg (by omega)
theorem tm_w1_s {l : Nat → List tm_E} {tc : Nat → Int32} {t i s : Nat} (hs : s = if tc (4 * t + i) = 1 then 22 + (4 * t + i) else 4 + i) (hs' : s < 34) : tm_lu (tm_w1 l tc t i) (34 + i) (tm_w1 l tc t i s) = tm_w1 l tc t (i + 1) := by
  rw [tm_w1_o (x := s) (by omega)]
  funext x
  by_cases z : x = 34 + i
  · subst z
    rw [tm_lu_s]
    unfold tm_w1
    rw [if_pos (by omega), Nat.add_sub_cancel_left, hs]
    by_cases c : tc (4 * t + i) = 1
    · rw [if_pos c, if_pos c]
    · rw [if_neg c, if_neg c]
  · rw [tm_lu_n z]
    unfold tm_w1
    by_cases c : 34 ≤ x ∧ x < 34 + i
    · rw [if_pos c, if_pos (show 34 ≤ x ∧ x < 34 + (i + 1) by omega)]
    · rw [if_neg c, if_neg (show ¬ (34 ≤ x ∧ x < 34 + (i + 1)) by omega)]
theorem tm_w2_s {l W : Nat → List tm_E} {tc : Nat → Int32} {t r : Nat} {X : List tm_E} (hr : r < 4) (h : tc (4 * t + r) ≠ 1) : tm_lu (tm_w2 l tc t W) (34 + r) X = tm_w2 l tc t (tm_lu W r X) := by
  funext x
  by_cases z : x = 34 + r
  · subst z
    rw [tm_lu_s, tm_w2_2 hr h, tm_lu_s]
  · rw [tm_lu_n z]
    unfold tm_w2
    by_cases c : 34 ≤ x ∧ x < 34 + 4
    · rw [if_pos c, if_pos c, tm_lu_n (show x - 34 ≠ r by omega)]
    · rw [if_neg c, if_neg c]
/-- the recorded adjustments from i on, over the maps W -/
def tm_ow (aR aK aD : Nat → Int32) (b : Nat) : (Nat → List tm_E) → Nat → Nat → Option (Nat → List tm_E)
  | W, _, 0 => some W
  | W, i, d + 1 => if tm_look (aK (b + i)) (W (aR (b + i)).toNatClampNeg) = none ∧ (W (aR (b + i)).toNatClampNeg).length = 10 then none else
    tm_ow aR aK aD b (tm_lu W (aR (b + i)).toNatClampNeg (tm_ins (aK (b + i)) (tm_nv (aK (b + i)) (aD (b + i)) (W (aR (b + i)).toNatClampNeg)) (W (aR (b + i)).toNatClampNeg))) (i + 1) d
theorem tm_ow_n {aR aK aD : Nat → Int32} {b i d r : Nat} {W : Nat → List tm_E} (hr : (aR (b + i)).toNatClampNeg = r) (h1 : tm_look (aK (b + i)) (W r) = none) (h2 : (W r).length = 10) : tm_ow aR aK aD b W i (d + 1) = none := by
  unfold tm_ow
  rw [hr]
  exact if_pos ⟨h1, h2⟩
theorem tm_ow_s {aR aK aD : Nat → Int32} {b i d r : Nat} {W : Nat → List tm_E} (hr : (aR (b + i)).toNatClampNeg = r) (h : tm_look (aK (b + i)) (W r) = none → (W r).length ≠ 10) :
    tm_ow aR aK aD b W i (d + 1) = tm_ow aR aK aD b (tm_lu W r (tm_ins (aK (b + i)) (tm_nv (aK (b + i)) (aD (b + i)) (W r)) (W r))) (i + 1) d := by
  conv => lhs; unfold tm_ow
  rw [hr]
  exact if_neg fun q => h q.1 q.2
def tm_s2 (sA : Nat → Int32) (b : Nat) : Nat → Nat
  | 0 => 0
  | i + 1 => tm_s2 sA b i + (if sA (b + i) = 1 then 1 else 0)
theorem tm_s2_le (sA : Nat → Int32) (b i : Nat) : tm_s2 sA b i ≤ i := by
  induction i with
  | zero => exact Nat.le_refl _
  | succ i ih => unfold tm_s2; split <;> omega
theorem tm_s2_g {sA : Nat → Int32} {b i g : Nat} (hg : g < 2) (h : sA (b + i) = nI g) : tm_s2 sA b (i + 1) = tm_s2 sA b i + g := by
  show tm_s2 sA b i + (if sA (b + i) = 1 then 1 else 0) = _
  rw [h]
  have c : g = 0 ∨ g = 1 := by omega
  rcases c with rfl | rfl
  · rw [if_neg (by decide)]
  · rw [if_pos (show nI 1 = 1 from rfl)]
section
variable {fl fb sh ld : Int32} {ck : Int64} {lk lv ln ch lm bm fL fB ro sz pa wk wo lK lV op tc en aj aR aK aD sn sA sK sD qK qD qF qL : Nat → Int32} {bg cg : Nat → Int64}
theorem tm_se2 {post : Int32 → SX → Prop} {l : Nat → List tm_E} {t B : Nat} {G : Nat → Nat} (ht : t < 3) (TF : tm_TF en tc) (hB : bg t = lN B) (hG : ∀ r, r < 4 → cg r = lN (G r) ∧ G r < 2 ^ 31) (hB' : B < 2 ^ 31)
    (K0 : (∃ r, r < 4 ∧ tm_cf tc en t B G r) → ∀ ro' sz' i, i ≤ 4 → tm_HX sh fl fb lk lv ln ch fL fB ro' sz' (tm_w1 l tc t i) → post (-3) (fl, fb, sh, ld, ck, lk, lv, ln, ch, lm, bm, fL, fB, ro', sz', pa, wk, wo, lK, lV, op, bg, tc, en, aj, aR, aK, aD, sn, sA, sK, sD, cg, qK, qD, qF, qL))
    (K1 : (∀ r, r < 4 → ¬ tm_cf tc en t B G r) → ∀ ro' sz', tm_HX sh fl fb lk lv ln ch fL fB ro' sz' (tm_w2 l tc t (fun r => l (4 + r))) → ∃ n103, wX_settle_103 post (nI t) n103 (nI (8 * t)) fl fb sh ld ck lk lv ln ch lm bm fL fB ro' sz' pa wk wo lK lV op bg tc en aj aR aK aD sn sA sK sD cg qK qD qF qL) :
    ∀ (d i : Nat) (ro sz : Nat → Int32), i + d = 4 → (∀ r, r < i → ¬ tm_cf tc en t B G r) → tm_HX sh fl fb lk lv ln ch fL fB ro sz (tm_w1 l tc t i) → wX_settle_2 post (nI t) (d + 1) (nI i) fl fb sh ld ck lk lv ln ch lm bm fL fB ro sz pa wk wo lK lV op bg tc en aj aR aK aD sn sA sK sD cg qK qD qF qL := by
  intro d
  induction d with
  | zero =>
    intro i ro sz hi hn HX
    obtain rfl : i = 4 := by omega
    exact br_t (by decide) (nm_r (e' := nI (8 * t)) (tm_m8 t) (K1 hn ro sz HX))
  | succ d ih =>
    intro i ro sz hi hn HX
    have hi4 : i < 4 := by omega
    have ⟨g1, g2⟩ := hG i hi4
    -- the copy of one map
    have gv : ∀ s, s = (if tc (4 * t + i) = 1 then 22 + (4 * t + i) else 4 + i) → s < 34 → ¬ tm_cf tc en t B G i → wX_settle_88 post (wX_settle_2 post (nI t) (d + 1)) (nI t) (nI i) (nI s) (nI (34 + i)) fl fb sh ld ck lk lv ln ch lm bm fL fB ro sz pa wk wo lK lV op bg tc en aj aR aK aD sn sA sK sD cg qK qD qF qL := by
      intro s hs hs' nc
      unfold wX_settle_88
      refine tm_give HX (by omega) (by omega) ?_
      intro ro' sz' HX' _
      rw [tm_w1_s hs hs'] at HX'
      refine nm_r (e' := nI (i + 1)) (nI_1 _) (ih (i + 1) ro' sz' (by omega) (fun r hr => ?_) HX')
      by_cases z : r = i
      · rw [z]; exact nc
      · exact hn r (by omega)
    have p56 : ∀ z0 z1 : Int32, (z1 &&& z0 = 0 ↔ ¬ tm_cf tc en t B G i) → wX_settle_56 post (wX_settle_2 post (nI t) (d + 1)) (nI t) (nI i) (nI (4 * t + i)) z0 z1 fl fb sh ld ck lk lv ln ch lm bm fL fB ro sz pa wk wo lK lV op bg tc en aj aR aK aD sn sA sK sD cg qK qD qF qL := by
      intro z0 z1 hz
      unfold wX_settle_56
      by_cases c : z1 &&& z0 = 0
      · refine br_t c ⟨tm_in (by omega), ?_⟩
        rw [nI_clamp (show 4 * t + i < 2 ^ 31 by omega), tm_k22, tm_k34, tm_k4]
        exact br_c (fun q => gv _ (by rw [if_pos q]) (by omega) (hz.mp c)) (fun q => gv _ (by rw [if_neg q]) (by omega) (hz.mp c))
      · have cf : tm_cf tc en t B G i := by
          by_cases w : tm_cf tc en t B G i
          · exact w
          · exact absurd (hz.mpr w) c
        exact br_f c (K0 ⟨i, hi4, cf⟩ ro sz i (by omega) HX)
    have p28 : ∀ z0 : Int32, (z0 = if tc (4 * t + i) = 1 then 1 else 0) → wX_settle_28 post (wX_settle_2 post (nI t) (d + 1)) (nI t) (nI i) (nI (4 * t + i)) z0 fl fb sh ld ck lk lv ln ch lm bm fL fB ro sz pa wk wo lK lV op bg tc en aj aR aK aD sn sA sK sD cg qK qD qF qL := by
      intro z0 hz
      unfold wX_settle_28
      refine ⟨tm_in (by omega), tm_in hi4, tm_in ht, ?_⟩
      rw [nI_clamp (show 4 * t + i < 2 ^ 31 by omega), nI_clamp (show i < 2 ^ 31 by omega), nI_clamp (show t < 2 ^ 31 by omega), g1, hB]
      have hen := TF.1 (4 * t + i) (by omega)
      refine br_c (fun q => p56 _ _ ?_) (fun q => p56 _ _ ?_)
      · rw [lN_le g2 hB'] at q
        have nc : ¬ tm_cf tc en t B G i := fun w => by have := w.2; omega
        refine ⟨fun _ => nc, fun _ => ?_⟩
        rw [hz]
        rcases hen with e | e <;> rw [e] <;> split <;> decide
      · rw [lN_le g2 hB'] at q
        unfold tm_cf
        rw [hz]
        by_cases c : tc (4 * t + i) = 1
        · rw [if_pos c]
          rcases hen with e | e <;> rw [e]
          · exact ⟨fun w => absurd w (by decide), fun w => absurd ⟨Or.inl c, by omega⟩ w⟩
          · exact ⟨fun w => absurd w (by decide), fun w => absurd ⟨Or.inl c, by omega⟩ w⟩
        · rw [if_neg c]
          rcases hen with e | e <;> rw [e]
          · refine ⟨fun _ w => ?_, fun _ => by decide⟩
            rcases w.1 with w | w
            · exact c w
            · exact w rfl
          · exact ⟨fun w => absurd w (by decide), fun w => absurd ⟨Or.inr (by decide), by omega⟩ w⟩
    refine br_f (nI_ge (b := 4) (by omega) (by decide)) (nm_r (e' := nI (4 * t + i)) (by rw [tm_m4, nI_add]) ⟨tm_in (by omega), ?_⟩)
    rw [nI_clamp (show 4 * t + i < 2 ^ 31 by omega)]
    exact br_c (fun q => p28 1 (by rw [if_pos q])) (fun q => p28 0 (by rw [if_neg q]))
theorem tm_se103 {post : Int32 → SX → Prop} {l : Nat → List tm_E} {t n : Nat} (ht : t < 3) (hn : n ≤ 8) (en' : aj t = nI n) (hA : ∀ i, i < n → ∃ r, r < 4 ∧ aR (8 * t + i) = nI r ∧ tc (4 * t + r) = 2) (Z : ∀ x, 10 + 4 * t ≤ x → x < 10 + 4 * t + 4 → l x = [])
    {Wf : Option (Nat → List tm_E)}
    (K0 : Wf = none → ∀ W fl' fb' ld' lk' lv' ln' ch' lm' bm' fL' fB' ro' sz' pa' wk' lK' lV', tm_HX sh fl' fb' lk' lv' ln' ch' fL' fB' ro' sz' (tm_w2 l tc t W) → post (-2) (fl', fb', sh, ld', ck, lk', lv', ln', ch', lm', bm', fL', fB', ro', sz', pa', wk', wo, lK', lV', op, bg, tc, en, aj, aR, aK, aD, sn, sA, sK, sD, cg, qK, qD, qF, qL))
    (K1 : ∀ W, Wf = some W → ∀ fl' fb' ld' lk' lv' ln' ch' lm' bm' fL' fB' ro' sz' pa' wk' lK' lV', tm_HX sh fl' fb' lk' lv' ln' ch' fL' fB' ro' sz' (tm_w2 l tc t W) → ∃ n162, wX_settle_162 post (nI t) fl' fb' sh ld' ck lk' lv' ln' ch' lm' bm' fL' fB' ro' sz' pa' wk' wo lK' lV' op bg tc en aj aR aK aD sn sA sK sD cg qK qD qF qL n162 0 (nI (6 * t))) :
    ∀ (d i : Nat) (W : Nat → List tm_E) (fl fb ld : Int32) (lk lv ln ch lm bm fL fB ro sz pa wk lK lV : Nat → Int32), i + d = n → tm_ow aR aK aD (8 * t) W i d = Wf → tm_HX sh fl fb lk lv ln ch fL fB ro sz (tm_w2 l tc t W) → wX_settle_103 post (nI t) (d + 1) (nI (8 * t + i)) fl fb sh ld ck lk lv ln ch lm bm fL fB ro sz pa wk wo lK lV op bg tc en aj aR aK aD sn sA sK sD cg qK qD qF qL := by
  intro d
  induction d with
  | zero =>
    intro i W fl fb ld lk lv ln ch lm bm fL fB ro sz pa wk lK lV hi hW HX
    refine ⟨tm_in ht, ?_⟩
    rw [nI_clamp (show t < 2 ^ 31 by omega), en', tm_m8, nI_add]
    exact br_t (nI_le (by omega) (by omega)) (nm_r (e' := nI (6 * t)) (tm_m6 t) (K1 W hW.symm _ _ _ _ _ _ _ _ _ _ _ _ _ _ _ _ _ HX))
  | succ d ih =>
    intro i W fl fb ld lk lv ln ch lm bm fL fB ro sz pa wk lK lV hi hW HX
    obtain ⟨r, r1, r2, r3⟩ := hA i (by omega)
    have hc : (aR (8 * t + i)).toNatClampNeg = r := by rw [r2]; exact nI_clamp (by omega)
    have h21 : tc (4 * t + r) ≠ 1 := by rw [r3]; decide
    refine ⟨tm_in ht, ?_⟩
    rw [nI_clamp (show t < 2 ^ 31 by omega), en', tm_m8, nI_add]
    refine br_f (nI_ge (by omega) (by omega)) ⟨tm_in (by omega), tm_in (by omega), tm_in (by omega), ?_⟩
    rw [nI_clamp (show 8 * t + i < 2 ^ 31 by omega), r2, tm_k34]
    have z0 : ∀ j, j < 3 → tm_w2 l tc t W (10 + 4 * t + j) = [] := fun j hj => (tm_w2_o (by omega)).trans (Z _ (by omega) (by omega))
    refine tm_change (e := 10 + 4 * t) HX (show 34 + r < 38 by omega) (by omega) (z0 0 (by decide)) (z0 1 (by decide)) (z0 2 (by decide)) ?_ ?_
    · rw [tm_w2_2 r1 h21]
      intro hno fl' fb' ld' lk' lv' ln' ch' lm' bm' fL' fB' ro' sz' pa' wk' lK' lV' HX' _
      rw [tm_w2_s r1 h21] at HX'
      rw [tm_ow_s hc hno] at hW
      exact br_f (by decide) (nm_r (e' := nI (8 * t + (i + 1))) (nI_1 _) (ih (i + 1) _ _ _ _ _ _ _ _ _ _ _ _ _ _ _ _ _ _ (by omega) hW HX'))
    · rw [tm_w2_2 r1 h21]
      intro q1 q2
      rw [tm_ow_n hc q1 q2] at hW
      exact br_t rfl (K0 hW.symm W _ _ _ _ _ _ _ _ _ _ _ _ _ _ _ _ _ HX)
theorem tm_se162 {post : Int32 → SX → Prop} {t n n0 n1 : Nat} (ht : t < 3) (hn : n ≤ 6) (en' : sn t = nI n) (hS : ∀ i, i < n → ∃ g, g < 2 ∧ sA (6 * t + i) = nI g) (h0 : qL 0 = nI n0) (h1 : qL 1 = nI n1) (h0' : n0 ≤ 8) (h1' : n1 ≤ 8)
    (K0 : ¬ (n1 + tm_s2 sA (6 * t) n ≤ 8 ∧ n0 + (n - tm_s2 sA (6 * t) n) ≤ 8) → post (-2) (fl, fb, sh, ld, ck, lk, lv, ln, ch, lm, bm, fL, fB, ro, sz, pa, wk, wo, lK, lV, op, bg, tc, en, aj, aR, aK, aD, sn, sA, sK, sD, cg, qK, qD, qF, qL))
    (K1 : (n1 + tm_s2 sA (6 * t) n ≤ 8 ∧ n0 + (n - tm_s2 sA (6 * t) n) ≤ 8) → ∃ n240, wX_settle_240 post (nI t) n240 0 fl fb sh ld (ck + 1) lk lv ln ch lm bm fL fB ro sz pa wk wo lK lV op bg tc en aj aR aK aD sn sA sK sD cg qK qD qF qL) :
    ∀ (d i : Nat), i + d = n → wX_settle_162 post (nI t) fl fb sh ld ck lk lv ln ch lm bm fL fB ro sz pa wk wo lK lV op bg tc en aj aR aK aD sn sA sK sD cg qK qD qF qL (d + 1) (nI (tm_s2 sA (6 * t) i)) (nI (6 * t + i)) := by
  intro d
  induction d with
  | zero =>
    intro i hi
    obtain rfl : i = n := by omega
    have hc := tm_s2_le sA (6 * t) i
    refine ⟨tm_in ht, ?_⟩
    rw [nI_clamp (show t < 2 ^ 31 by omega), en', tm_m6, nI_add]
    refine br_t (nI_le (by omega) (by omega)) ?_
    rw [h0, h1, nI_add, nI_add, pk_sub (show tm_s2 sA (6 * t) i ≤ n0 + i by omega)]
    refine pk_lt 8 (n1 + tm_s2 sA (6 * t) i) (fun q => K0 (fun w => by omega)) (fun q => ⟨tm_in ht, ?_⟩)
    exact pk_le (n0 + i - tm_s2 sA (6 * t) i) 8 (fun w => nm_e (K1 ⟨by omega, by omega⟩)) (fun w => K0 (fun x => by omega))
  | succ d ih =>
    intro i hi
    have hc := tm_s2_le sA (6 * t) i
    refine ⟨tm_in ht, ?_⟩
    rw [nI_clamp (show t < 2 ^ 31 by omega), en', tm_m6, nI_add]
    refine br_f (nI_ge (by omega) (by omega)) ⟨tm_in (by omega), ?_⟩
    obtain ⟨g, g1, g2⟩ := hS i (by omega)
    rw [nI_clamp (show 6 * t + i < 2 ^ 31 by omega), g2, nI_add]
    have e := tm_s2_g g1 g2
    have := ih (i + 1) (by omega)
    rw [e] at this
    exact nm_e (nm_r (e' := nI (6 * t + (i + 1))) (nI_1 _) this)
end
def tm_w3 (l : Nat → List tm_E) (tc : Nat → Int32) (t i : Nat) : Nat → List tm_E := fun x => if (4 ≤ x ∧ x < 4 + i) ∧ tc (4 * t + (x - 4)) ≠ 0 then l (34 + (x - 4)) else l x
def tm_g3 (cg : Nat → Int64) (tc : Nat → Int32) (t : Nat) (c : Int64) (i : Nat) : Nat → Int64 := fun r => if r < i ∧ tc (4 * t + r) ≠ 0 then c else cg r
theorem tm_w3_o {l : Nat → List tm_E} {tc : Nat → Int32} {t i x : Nat} (h : ¬ (4 ≤ x ∧ x < 4 + i)) : tm_w3 l tc t i x = l x := if_neg fun q => h q.1
theorem tm_w3_r0 {l : Nat → List tm_E} {tc : Nat → Int32} {t i r : Nat} (h : tc (4 * t + r) = 0) : tm_w3 l tc t i (4 + r) = l (4 + r) := by
  unfold tm_w3
  rw [Nat.add_sub_cancel_left, if_neg fun q => q.2 h]
theorem tm_w3_r1 {l : Nat → List tm_E} {tc : Nat → Int32} {t i r : Nat} (hr : r < i) (h : tc (4 * t + r) ≠ 0) : tm_w3 l tc t i (4 + r) = l (34 + r) := by
  unfold tm_w3
  rw [Nat.add_sub_cancel_left, if_pos ⟨by omega, h⟩]
theorem tm_w3_0 {l : Nat → List tm_E} {tc : Nat → Int32} {t : Nat} : tm_w3 l tc t 0 = l := by
  funext x; exact if_neg (by omega)
theorem tm_w3_s0 {l : Nat → List tm_E} {tc : Nat → Int32} {t i : Nat} (h : tc (4 * t + i) = 0) : tm_w3 l tc t i = tm_w3 l tc t (i + 1) := by
  funext x
  by_cases z : x = 4 + i
  · subst z; rw [tm_w3_r0 h, tm_w3_r0 h]
  · unfold tm_w3
    by_cases c : (4 ≤ x ∧ x < 4 + i) ∧ tc (4 * t + (x - 4)) ≠ 0
    · rw [if_pos c, if_pos ⟨by omega, c.2⟩]
    · rw [if_neg c, if_neg fun q => c ⟨by omega, q.2⟩]
theorem tm_w3_s1 {l : Nat → List tm_E} {tc : Nat → Int32} {t i : Nat} (hi : i < 4) (h : tc (4 * t + i) ≠ 0) : tm_lu (tm_w3 l tc t i) (4 + i) (tm_w3 l tc t i (34 + i)) = tm_w3 l tc t (i + 1) := by
  rw [tm_w3_o (x := 34 + i) (by omega)]
  funext x
  by_cases z : x = 4 + i
  · subst z; rw [tm_lu_s, tm_w3_r1 (by omega) h]
  · rw [tm_lu_n z]
    unfold tm_w3
    by_cases c : (4 ≤ x ∧ x < 4 + i) ∧ tc (4 * t + (x - 4)) ≠ 0
    · rw [if_pos c, if_pos ⟨by omega, c.2⟩]
    · rw [if_neg c, if_neg fun q => c ⟨by omega, q.2⟩]
theorem tm_g3_0 {cg : Nat → Int64} {tc : Nat → Int32} {t : Nat} {c : Int64} : tm_g3 cg tc t c 0 = cg := by
  funext x; exact if_neg (by omega)
theorem tm_g3_s0 {cg : Nat → Int64} {tc : Nat → Int32} {t i : Nat} {c : Int64} (h : tc (4 * t + i) = 0) : tm_g3 cg tc t c i = tm_g3 cg tc t c (i + 1) := by
  funext x
  unfold tm_g3
  by_cases z : x = i
  · subst z; rw [if_neg fun q => q.2 h, if_neg fun q => q.2 h]
  · by_cases w : x < i ∧ tc (4 * t + x) ≠ 0
    · rw [if_pos w, if_pos ⟨by omega, w.2⟩]
    · rw [if_neg w, if_neg fun q => w ⟨by omega, q.2⟩]
theorem tm_g3_s1 {cg : Nat → Int64} {tc : Nat → Int32} {t i : Nat} {c : Int64} (h : tc (4 * t + i) ≠ 0) : vp_updL (tm_g3 cg tc t c i) i c = tm_g3 cg tc t c (i + 1) := by
  funext x
  by_cases z : x = i
  · subst z
    rw [pk_uLs]
    unfold tm_g3
    rw [if_pos ⟨by omega, h⟩]
  · rw [pk_uLn z]
    unfold tm_g3
    by_cases w : x < i ∧ tc (4 * t + x) ≠ 0
    · rw [if_pos w, if_pos ⟨by omega, w.2⟩]
    · rw [if_neg w, if_neg fun q => w ⟨by omega, q.2⟩]
section
variable {fl fb sh ld : Int32} {ck : Int64} {lk lv ln ch lm bm fL fB ro sz pa wk wo lK lV op tc en aj aR aK aD sn sA sK sD qK qD qF qL : Nat → Int32} {bg cg : Nat → Int64}
theorem tm_se240 {post : Int32 → SX → Prop} {l : Nat → List tm_E} {t : Nat} (ht : t < 3)
    (K : ∀ ro' sz', tm_HX sh fl fb lk lv ln ch fL fB ro' sz' (tm_w3 l tc t 4) → ∃ n294, wX_settle_294 post (nI t) n294 (nI (6 * t)) fl fb sh ld ck lk lv ln ch lm bm fL fB ro' sz' pa wk wo lK lV op bg tc en aj aR aK aD sn sA sK sD (tm_g3 cg tc t ck 4) qK qD qF qL) :
    ∀ (d i : Nat) (ro sz : Nat → Int32), i + d = 4 → tm_HX sh fl fb lk lv ln ch fL fB ro sz (tm_w3 l tc t i) → wX_settle_240 post (nI t) (d + 1) (nI i) fl fb sh ld ck lk lv ln ch lm bm fL fB ro sz pa wk wo lK lV op bg tc en aj aR aK aD sn sA sK sD (tm_g3 cg tc t ck i) qK qD qF qL := by
  intro d
  induction d with
  | zero =>
    intro i ro sz hi HX
    obtain rfl : i = 4 := by omega
    exact br_t (by decide) (nm_r (e' := nI (6 * t)) (tm_m6 t) (K ro sz HX))
  | succ d ih =>
    intro i ro sz hi HX
    refine br_f (nI_ge (b := 4) (by omega) (by decide)) ?_
    rw [tm_m4, tm_k4, tm_k34, nI_add]
    refine ⟨tm_in (by omega), ?_⟩
    rw [nI_clamp (show 4 * t + i < 2 ^ 31 by omega)]
    refine br_c (fun q => ?_) (fun q => ?_)
    · have := ih (i + 1) ro sz (by omega) (by rw [← tm_w3_s0 q]; exact HX)
      rw [← tm_g3_s0 q] at this
      exact nm_r (e' := nI (i + 1)) (nI_1 _) this
    · refine tm_give HX (by omega) (by omega) ?_
      intro ro' sz' HX' _
      rw [tm_w3_s1 (by omega) q] at HX'
      exact ⟨tm_in (by omega), nm_r (e' := tm_g3 cg tc t ck (i + 1)) (by rw [nI_clamp (by omega), tm_g3_s1 q]) (nm_r (e' := nI (i + 1)) (nI_1 _) (ih (i + 1) ro' sz' (by omega) HX'))⟩
theorem tm_f40 {post : Int32 → SX → Prop} {l : Nat → List tm_E} {t : Nat} {z : Int32} (ht : t < 3) (HX : tm_HX sh fl fb lk lv ln ch fL fB ro sz l)
    (K : ∀ ro' sz', tm_HX sh fl fb lk lv ln ch fL fB ro' sz' (tm_ld (tm_ld l (22 + 4 * t) 4) 34 4) → post z (fl, fb, sh, ld, ck, lk, lv, ln, ch, lm, bm, fL, fB, ro', sz', pa, wk, wo, lK, lV, op, bg, tc, en, aj, aR, aK, aD, sn, sA, sK, sD, cg, qK, qD, qF, qL)) : wX_finish_40 post (nI t) z fl fb sh ld ck lk lv ln ch lm bm fL fB ro sz pa wk wo lK lV op bg tc en aj aR aK aD sn sA sK sD cg qK qD qF qL := by
  unfold wX_finish_40
  rw [tm_m4, tm_k22]
  refine tm_drop HX (by omega) ?_
  intro ro1 sz1 HX1
  refine tm_drop (f := 34) HX1 (by decide) ?_
  intro ro2 sz2 HX2
  exact K ro2 sz2 HX2
end
end
section
/-! finish: the reference's verdict and its changes; the queues of both -/
def tm_y1 (l : Nat → List tm_E) (i : Nat) : Nat → List tm_E := fun x => if 35 ≤ x ∧ x < 35 + i then l (4 + (x - 35)) else l x
def tm_y2 (l W : Nat → List tm_E) : Nat → List tm_E := fun x => if 35 ≤ x ∧ x < 35 + 4 then W (x - 35) else l x
theorem tm_y1_o {l : Nat → List tm_E} {i x : Nat} (h : ¬ (35 ≤ x ∧ x < 35 + i)) : tm_y1 l i x = l x := if_neg h
theorem tm_y2_o {l W : Nat → List tm_E} {x : Nat} (h : ¬ (35 ≤ x ∧ x < 35 + 4)) : tm_y2 l W x = l x := if_neg h
theorem tm_y2_r {l W : Nat → List tm_E} {r : Nat} (h : r < 4) : tm_y2 l W (35 + r) = W r := by
  unfold tm_y2
  rw [if_pos (by omega), Nat.add_sub_cancel_left]
theorem tm_y1_0 {l : Nat → List tm_E} : tm_y1 l 0 = l := by
  funext x; exact if_neg (by omega)
theorem tm_y1_s {l : Nat → List tm_E} {i : Nat} (hi : i < 4) : tm_lu (tm_y1 l i) (35 + i) (tm_y1 l i (4 + i)) = tm_y1 l (i + 1) := by
  rw [tm_y1_o (x := 4 + i) (by omega)]
  funext x
  by_cases z : x = 35 + i
  · subst z
    rw [tm_lu_s]
    unfold tm_y1
    rw [if_pos (by omega), Nat.add_sub_cancel_left]
  · rw [tm_lu_n z]
    unfold tm_y1
    by_cases c : 35 ≤ x ∧ x < 35 + i
    · rw [if_pos c, if_pos (show 35 ≤ x ∧ x < 35 + (i + 1) by omega)]
    · rw [if_neg c, if_neg (show ¬ (35 ≤ x ∧ x < 35 + (i + 1)) by omega)]
theorem tm_y2_s {l W : Nat → List tm_E} {r : Nat} {X : List tm_E} (hr : r < 4) : tm_lu (tm_y2 l W) (35 + r) X = tm_y2 l (tm_lu W r X) := by
  funext x
  by_cases z : x = 35 + r
  · subst z
    rw [tm_lu_s, tm_y2_r hr, tm_lu_s]
  · rw [tm_lu_n z]
    unfold tm_y2
    by_cases c : 35 ≤ x ∧ x < 35 + 4
    · rw [if_pos c, if_pos c, tm_lu_n (show x - 35 ≠ r by omega)]
    · rw [if_neg c, if_neg c]
def tm_cy (yc tc en : Nat → Int32) (t r : Nat) : Prop := yc (4 * t + r) ≠ 0 ∧ (tc (4 * t + r) = 1 ∨ en (4 * t + r) ≠ 0)
def tm_Dy (D : Nat → Prop) (i x : Nat) : Prop := D x ∨ (35 ≤ x ∧ x < 35 + i)
theorem tm_s2_mono {sA : Nat → Int32} {b i : Nat} : ∀ d, tm_s2 sA b i ≤ tm_s2 sA b (i + d) ∧ i + tm_s2 sA b (i + d) ≤ i + d + tm_s2 sA b i := by
  intro d
  induction d with
  | zero => exact ⟨Nat.le_refl _, Nat.le_refl _⟩
  | succ d ih =>
    have e : tm_s2 sA b (i + (d + 1)) = tm_s2 sA b (i + d) + (if sA (b + (i + d)) = 1 then 1 else 0) := rfl
    rw [e]
    split <;> omega
section
variable {yk yv ys op tc en yc aR aK aD aj sA sK sD sn wK wD wC : Nat → Int32}
variable {D : Nat → Prop} {l : Nat → List tm_E}
theorem ty_v4 {post : Int32 → SY → Prop} {t : Nat} (ht : t < 3) (K0 : (∃ r, r < 4 ∧ tm_cy yc tc en t r) → post (-3) (yk, yv, ys, op, tc, en, yc, aR, aK, aD, aj, sA, sK, sD, sn, wK, wD, wC)) (K1 : (∀ r, r < 4 → ¬ tm_cy yc tc en t r) → ∃ n52, wY_verdict_52 post (nI t) n52 0 yk yv ys op tc en yc aR aK aD aj sA sK sD sn wK wD wC) :
    ∀ d i, i + d = 4 → (∀ r, r < i → ¬ tm_cy yc tc en t r) → wY_verdict_4 post (nI t) yk yv ys op tc en yc aR aK aD aj sA sK sD sn wK wD wC (d + 1) (nI (4 * t + i)) := by
  have e4 : nI t * (4 : Int32) + 4 = nI (4 * t + 4) := by rw [tm_n4]; exact nI_add _ 4
  intro d
  induction d with
  | zero =>
    intro i hi hn
    obtain rfl : i = 4 := by omega
    exact br_t (by rw [e4]; exact nI_le (Nat.le_refl _) (by omega)) (K1 hn)
  | succ d ih =>
    intro i hi hn
    have nx : ¬ tm_cy yc tc en t i → wY_verdict_4 post (nI t) yk yv ys op tc en yc aR aK aD aj sA sK sD sn wK wD wC (d + 1) (nI (4 * t + (i + 1))) := by
      intro nc
      refine ih (i + 1) (by omega) fun r hr => ?_
      by_cases z : r = i
      · rw [z]; exact nc
      · exact hn r (by omega)
    refine br_f (by rw [e4]; exact nI_ge (by omega) (by omega)) ⟨tm_in (by omega), ?_⟩
    rw [nI_clamp (show 4 * t + i < 2 ^ 31 by omega)]
    refine br_c (fun q => nm_r (e' := nI (4 * t + (i + 1))) (nI_1 _) (nx fun w => w.1 q)) (fun q => ⟨tm_in (by omega), br_c (fun q2 => K0 ⟨i, by omega, q, Or.inl q2⟩) (fun q2 => ⟨tm_in (by omega), br_c (fun q3 => nm_r (e' := nI (4 * t + (i + 1))) (nI_1 _) (nx fun w => ?_)) (fun q3 => K0 ⟨i, by omega, q, Or.inr q3⟩)⟩)⟩)
    rcases w.2 with w | w
    · exact q2 w
    · exact w q3
theorem ty_v52 {post : Int32 → SY → Prop} {t : Nat} (h10 : ∀ x, x < 10 → D x) (hD : ∀ x, D x → x < 34)
    (K : ∀ yk' yv' ys', tm_HY (tm_Dy D 4) yk' yv' ys' (tm_y2 l (fun r => l (4 + r))) → ∃ n79, wY_verdict_79 post (nI t) n79 (nI (8 * t)) yk' yv' ys' op tc en yc aR aK aD aj sA sK sD sn wK wD wC) :
    ∀ (d i : Nat) (yk yv ys : Nat → Int32), i + d = 4 → tm_HY (tm_Dy D i) yk yv ys (tm_y1 l i) → wY_verdict_52 post (nI t) (d + 1) (nI i) yk yv ys op tc en yc aR aK aD aj sA sK sD sn wK wD wC := by
  intro d
  induction d with
  | zero =>
    intro i yk yv ys hi HY
    obtain rfl : i = 4 := by omega
    exact br_t (by decide) (nm_r (e' := nI (8 * t)) (tm_n8 t) (K _ _ _ HY))
  | succ d ih =>
    intro i yk yv ys hi HY
    refine br_f (nI_ge (b := 4) (by omega) (by decide)) ?_
    rw [tm_k4, tm_k35]
    refine ty_copy (D := tm_Dy D i) (D' := tm_Dy D (i + 1)) (l := tm_y1 l i) (by omega) (by omega) HY (Or.inl (h10 _ (by omega))) (fun x h h' => h.elim Or.inl (fun h => Or.inr (by omega))) ?_
    intro yk' yv' ys' HY' _
    rw [tm_y1_s (by omega)] at HY'
    exact nm_r (e' := nI (i + 1)) (nI_1 _) (ih (i + 1) yk' yv' ys' (by omega) HY')
theorem ty_v79 {post : Int32 → SY → Prop} {t n : Nat} (ht : t < 3) (hn : n ≤ 8) (en' : aj t = nI n) (hA : ∀ i, i < n → ∃ r, r < 4 ∧ aR (8 * t + i) = nI r ∧ tc (4 * t + r) = 2) (hD : ∀ x, D x → x < 34)
    {Wf : Option (Nat → List tm_E)}
    (K0 : Wf = none → ∀ yk' yv' ys', tm_HY D yk' yv' ys' l → post (-2) (yk', yv', ys', op, tc, en, yc, aR, aK, aD, aj, sA, sK, sD, sn, wK, wD, wC))
    (K1 : ∀ W, Wf = some W → ∀ yk' yv' ys', tm_HY (tm_Dy D 4) yk' yv' ys' (tm_y2 l W) → ∃ n133, wY_verdict_133 post (nI t) yk' yv' ys' op tc en yc aR aK aD aj sA sK sD sn wK wD wC n133 0) :
    ∀ (d i : Nat) (W : Nat → List tm_E) (yk yv ys : Nat → Int32), i + d = n → tm_ow aR aK aD (8 * t) W i d = Wf → tm_HY (tm_Dy D 4) yk yv ys (tm_y2 l W) → wY_verdict_79 post (nI t) (d + 1) (nI (8 * t + i)) yk yv ys op tc en yc aR aK aD aj sA sK sD sn wK wD wC := by
  intro d
  induction d with
  | zero =>
    intro i W yk yv ys hi hW HY
    refine ⟨tm_in ht, ?_⟩
    rw [nI_clamp (show t < 2 ^ 31 by omega), en', tm_n8, nI_add]
    exact br_t (nI_le (by omega) (by omega)) (K1 W hW.symm _ _ _ HY)
  | succ d ih =>
    intro i W yk yv ys hi hW HY
    obtain ⟨r, r1, r2, r3⟩ := hA i (by omega)
    have hc : (aR (8 * t + i)).toNatClampNeg = r := by rw [r2]; exact nI_clamp (by omega)
    refine ⟨tm_in ht, ?_⟩
    rw [nI_clamp (show t < 2 ^ 31 by omega), en', tm_n8, nI_add]
    refine br_f (nI_ge (by omega) (by omega)) ⟨tm_in (by omega), tm_in (by omega), tm_in (by omega), ?_⟩
    rw [nI_clamp (show 8 * t + i < 2 ^ 31 by omega), r2, tm_k35]
    have HR := HY (35 + r) (Or.inr (by omega))
    rw [tm_y2_r r1] at HR
    refine ty_adj (by omega) HR ?_ ?_
    · intro hno yk' yv' ys' R F
      have HY' := tm_HY_lu (D' := tm_Dy D 4) HY F R (fun x h _ => h)
      rw [tm_y2_s r1] at HY'
      rw [tm_ow_s hc hno] at hW
      exact br_f (by decide) (nm_r (e' := nI (8 * t + (i + 1))) (nI_1 _) (ih (i + 1) _ _ _ _ (by omega) hW HY'))
    · intro q1 q2
      rw [tm_ow_n hc q1 q2] at hW
      refine br_t rfl (K0 hW.symm _ _ _ (tm_HY_congr (tm_HY_sub HY (fun x hx => Or.inl hx)) (fun x hx => ?_)))
      exact (tm_y2_o (by have := hD x hx; omega)).symm
/-- one agent's count -/
theorem ty_v151 {post : Int32 → SY → Prop} {J : Int32 → Prop} {t n g m : Nat} (ht : t < 3) (hn : n ≤ 6) (hg : g < 2) (hm : m ≤ 8) (en' : sn t = nI n) (hS : ∀ i, i < n → ∃ g, g < 2 ∧ sA (6 * t + i) = nI g)
    {c : Nat → Nat} (hc : ∀ i, i ≤ n → c i = if g = 1 then tm_s2 sA (6 * t) i else i - tm_s2 sA (6 * t) i) (K0 : ¬ m + c n ≤ 8 → post (-2) (yk, yv, ys, op, tc, en, yc, aR, aK, aD, aj, sA, sK, sD, sn, wK, wD, wC)) (K1 : m + c n ≤ 8 → J (nI (g + 1))) :
    ∀ (d i : Nat), i + d = n → wY_verdict_151 post J (nI t) (nI g) yk yv ys op tc en yc aR aK aD aj sA sK sD sn wK wD wC (d + 1) (nI (m + c i)) (nI (6 * t + i)) := by
  intro d
  induction d with
  | zero =>
    intro i hi
    obtain rfl : i = n := by omega
    have hle := tm_s2_le sA (6 * t) i
    have hci : c i ≤ i := by rw [hc i (Nat.le_refl _)]; split <;> omega
    refine ⟨tm_in ht, ?_⟩
    rw [nI_clamp (show t < 2 ^ 31 by omega), en', tm_n6, nI_add]
    refine br_t (nI_le (by omega) (by omega)) ?_
    exact pk_le (m + c i) 8 (fun w => nm_r (e' := nI (g + 1)) (nI_1 _) (K1 w)) (fun w => K0 (by omega))
  | succ d ih =>
    intro i hi
    have hle := tm_s2_le sA (6 * t) i
    refine ⟨tm_in ht, ?_⟩
    rw [nI_clamp (show t < 2 ^ 31 by omega), en', tm_n6, nI_add]
    refine br_f (nI_ge (by omega) (by omega)) ⟨tm_in (by omega), ?_⟩
    obtain ⟨g', g1, g2⟩ := hS i (by omega)
    rw [nI_clamp (show 6 * t + i < 2 ^ 31 by omega), g2]
    have e := tm_s2_g g1 g2
    have st := ih (i + 1) (by omega)
    have c0 := hc i (by omega)
    have c1 := hc (i + 1) (by omega)
    rw [e] at c1
    refine pk_eq g' g (fun q => ?_) (fun q => ?_)
    · have : c (i + 1) = c i + 1 := by
        rw [c0, c1]
        by_cases w : g = 1
        · rw [if_pos w, if_pos w]; omega
        · rw [if_neg w, if_neg w]; omega
      rw [this] at st
      exact nm_r (e' := nI (m + (c i + 1))) (nI_1 _) (nm_r (e' := nI (6 * t + (i + 1))) (nI_1 _) st)
    · have : c (i + 1) = c i := by
        rw [c0, c1]
        by_cases w : g = 1
        · rw [if_pos w, if_pos w]; omega
        · rw [if_neg w, if_neg w]; omega
      rw [this] at st
      exact nm_r (e' := nI (6 * t + (i + 1))) (nI_1 _) st
theorem ty_v133 {post : Int32 → SY → Prop} {t n n0 n1 : Nat} (ht : t < 3) (hn : n ≤ 6) (en' : sn t = nI n) (hS : ∀ i, i < n → ∃ g, g < 2 ∧ sA (6 * t + i) = nI g) (h0 : wC 0 = nI n0) (h1 : wC 1 = nI n1) (h0' : n0 ≤ 8) (h1' : n1 ≤ 8)
    (K0 : ¬ (n1 + tm_s2 sA (6 * t) n ≤ 8 ∧ n0 + (n - tm_s2 sA (6 * t) n) ≤ 8) → post (-2) (yk, yv, ys, op, tc, en, yc, aR, aK, aD, aj, sA, sK, sD, sn, wK, wD, wC))
    (K1 : (n1 + tm_s2 sA (6 * t) n ≤ 8 ∧ n0 + (n - tm_s2 sA (6 * t) n) ≤ 8) → post 1 (yk, yv, ys, op, tc, en, yc, aR, aK, aD, aj, sA, sK, sD, sn, wK, wD, wC)) : ∃ n133, wY_verdict_133 post (nI t) yk yv ys op tc en yc aR aK aD aj sA sK sD sn wK wD wC n133 0 := by
  have e6 : nI t * (6 : Int32) = nI (6 * t + 0) := tm_n6 t
  refine ⟨3, ?_⟩
  refine br_f (by decide) ⟨vp_in_iff.mpr (by decide), nm_r (e' := nI (n0 + 0)) h0 (nm_r e6 ⟨n + 1, ?_⟩)⟩
  refine ty_v151 (g := 0) (m := n0) (c := fun i => i - tm_s2 sA (6 * t) i) ht hn (by decide) h0' en' hS (fun i _ => rfl) (fun q => K0 fun w => q w.2) ?_ n 0 (by omega)
  intro q0
  refine br_f (by decide) ⟨tm_in (j := 1) (by decide), nm_r (e' := nI (n1 + 0)) h1 (nm_r e6 ⟨n + 1, ?_⟩)⟩
  refine ty_v151 (g := 1) (m := n1) (c := fun i => tm_s2 sA (6 * t) i) ht hn (by decide) h1' en' hS (fun i _ => rfl) (fun q => K0 fun w => q w.1) ?_ n 0 (by omega)
  intro q1
  exact br_t (by decide) (K1 ⟨q1, q0⟩)
theorem ty_verdict {post : Int32 → SY → Prop} {t n m n0 n1 : Nat} (ht : t < 3) (h10 : ∀ x, x < 10 → D x) (hD : ∀ x, D x → x < 34) (HY : tm_HY D yk yv ys l)
    (hm : m ≤ 8) (em : aj t = nI m) (hA : ∀ i, i < m → ∃ r, r < 4 ∧ aR (8 * t + i) = nI r ∧ tc (4 * t + r) = 2)
    (hn : n ≤ 6) (en' : sn t = nI n) (hS : ∀ i, i < n → ∃ g, g < 2 ∧ sA (6 * t + i) = nI g) (h0 : wC 0 = nI n0) (h1 : wC 1 = nI n1) (h0' : n0 ≤ 8) (h1' : n1 ≤ 8)
    (Kc : (∃ r, r < 4 ∧ tm_cy yc tc en t r) → post (-3) (yk, yv, ys, op, tc, en, yc, aR, aK, aD, aj, sA, sK, sD, sn, wK, wD, wC))
    (Ka : (∀ r, r < 4 → ¬ tm_cy yc tc en t r) → tm_ow aR aK aD (8 * t) (fun r => l (4 + r)) 0 m = none → ∀ yk' yv' ys', tm_HY D yk' yv' ys' l → post (-2) (yk', yv', ys', op, tc, en, yc, aR, aK, aD, aj, sA, sK, sD, sn, wK, wD, wC))
    (Kq : (∀ r, r < 4 → ¬ tm_cy yc tc en t r) → ∀ W, tm_ow aR aK aD (8 * t) (fun r => l (4 + r)) 0 m = some W → ¬ (n1 + tm_s2 sA (6 * t) n ≤ 8 ∧ n0 + (n - tm_s2 sA (6 * t) n) ≤ 8) → ∀ yk' yv' ys', tm_HY D yk' yv' ys' l → post (-2) (yk', yv', ys', op, tc, en, yc, aR, aK, aD, aj, sA, sK, sD, sn, wK, wD, wC))
    (Ks : (∀ r, r < 4 → ¬ tm_cy yc tc en t r) → ∀ W, tm_ow aR aK aD (8 * t) (fun r => l (4 + r)) 0 m = some W → (n1 + tm_s2 sA (6 * t) n ≤ 8 ∧ n0 + (n - tm_s2 sA (6 * t) n) ≤ 8) → ∀ yk' yv' ys', tm_HY (tm_Dy D 4) yk' yv' ys' (tm_y2 l W) → post 1 (yk', yv', ys', op, tc, en, yc, aR, aK, aD, aj, sA, sK, sD, sn, wK, wD, wC)) :
    wpY_verdict post (yk, yv, ys, op, tc, en, yc, aR, aK, aD, aj, sA, sK, sD, sn, wK, wD, wC) (nI t) := by
  unfold wpY_verdict
  refine nm_r (e' := nI (4 * t + 0)) (tm_n4 t) ⟨5, ?_⟩
  refine ty_v4 ht Kc ?_ 4 0 rfl (fun r hr => absurd hr (Nat.not_lt_zero _))
  intro nc
  refine ⟨5, ty_v52 (D := D) (l := l) h10 hD ?_ 4 0 yk yv ys rfl ?_⟩
  · intro yk1 yv1 ys1 HY1
    refine ⟨m + 1, ty_v79 (D := D) (l := l) (Wf := tm_ow aR aK aD (8 * t) (fun r => l (4 + r)) 0 m) ht hm em hA hD (Ka nc) ?_ m 0 _ yk1 yv1 ys1 (by omega) rfl HY1⟩
    intro W hW yk2 yv2 ys2 HY2
    refine ty_v133 ht hn en' hS h0 h1 h0' h1' (fun q => Kq nc W hW q _ _ _ ?_) (fun q => Ks nc W hW q _ _ _ HY2)
    exact tm_HY_congr (tm_HY_sub HY2 (fun x hx => Or.inl hx)) (fun x hx => (tm_y2_o (by have := hD x hx; omega)).symm)
  · rw [tm_y1_0]
    exact tm_HY_sub HY (fun x h => h.elim id (fun h => absurd h (by omega)))
end
def tm_y3 (l : Nat → List tm_E) (tc : Nat → Int32) (t : Nat) (W : Nat → List tm_E) (i : Nat) : Nat → List tm_E := fun x => if (4 ≤ x ∧ x < 4 + i) ∧ tc (4 * t + (x - 4)) ≠ 0 then (if tc (4 * t + (x - 4)) = 1 then l (22 + (4 * t + (x - 4))) else W (x - 4)) else tm_y2 l W x
theorem tm_y3_o {l W : Nat → List tm_E} {tc : Nat → Int32} {t i x : Nat} (h : ¬ (4 ≤ x ∧ x < 4 + i)) : tm_y3 l tc t W i x = tm_y2 l W x := if_neg fun q => h q.1
theorem tm_y3_r0 {l W : Nat → List tm_E} {tc : Nat → Int32} {t i r : Nat} (hr : r < 4) (h : tc (4 * t + r) = 0) : tm_y3 l tc t W i (4 + r) = l (4 + r) := by
  unfold tm_y3
  rw [Nat.add_sub_cancel_left, if_neg fun q => q.2 h, tm_y2_o (by omega)]
theorem tm_y3_r1 {l W : Nat → List tm_E} {tc : Nat → Int32} {t i r : Nat} (hr : r < i) (h : tc (4 * t + r) = 1) : tm_y3 l tc t W i (4 + r) = l (22 + (4 * t + r)) := by
  unfold tm_y3
  rw [Nat.add_sub_cancel_left, if_pos ⟨by omega, by rw [h]; decide⟩, if_pos h]
theorem tm_y3_r2 {l W : Nat → List tm_E} {tc : Nat → Int32} {t i r : Nat} (hr : r < i) (h : tc (4 * t + r) = 2) : tm_y3 l tc t W i (4 + r) = W r := by
  unfold tm_y3
  rw [Nat.add_sub_cancel_left, if_pos ⟨by omega, by rw [h]; decide⟩, if_neg (by rw [h]; decide)]
theorem tm_y3_0 {l W : Nat → List tm_E} {tc : Nat → Int32} {t : Nat} : tm_y3 l tc t W 0 = tm_y2 l W := by
  funext x; exact if_neg (by omega)
theorem tm_y3_n {l W : Nat → List tm_E} {tc : Nat → Int32} {t i x : Nat} (z : x ≠ 4 + i) : tm_y3 l tc t W i x = tm_y3 l tc t W (i + 1) x := by
  unfold tm_y3
  by_cases c : (4 ≤ x ∧ x < 4 + i) ∧ tc (4 * t + (x - 4)) ≠ 0
  · rw [if_pos c, if_pos (show (4 ≤ x ∧ x < 4 + (i + 1)) ∧ tc (4 * t + (x - 4)) ≠ 0 from ⟨by omega, c.2⟩)]
  · rw [if_neg c, if_neg (show ¬ ((4 ≤ x ∧ x < 4 + (i + 1)) ∧ tc (4 * t + (x - 4)) ≠ 0) from fun q => c ⟨by omega, q.2⟩)]
theorem tm_y3_s0 {l W : Nat → List tm_E} {tc : Nat → Int32} {t i : Nat} (hi : i < 4) (h : tc (4 * t + i) = 0) : tm_y3 l tc t W i = tm_y3 l tc t W (i + 1) := by
  funext x
  by_cases z : x = 4 + i
  · subst z; rw [tm_y3_r0 hi h, tm_y3_r0 hi h]
  · exact tm_y3_n z
theorem tm_y3_s1 {l W : Nat → List tm_E} {tc : Nat → Int32} {t i : Nat} (ht : t < 3) (hi : i < 4) (h : tc (4 * t + i) = 1) : tm_lu (tm_y3 l tc t W i) (4 + i) (tm_y3 l tc t W i (22 + (4 * t + i))) = tm_y3 l tc t W (i + 1) := by
  rw [tm_y3_o (x := 22 + (4 * t + i)) (by omega), tm_y2_o (by omega)]
  funext x
  by_cases z : x = 4 + i
  · subst z; rw [tm_lu_s, tm_y3_r1 (by omega) h]
  · rw [tm_lu_n z]; exact tm_y3_n z
theorem tm_y3_s2 {l W : Nat → List tm_E} {tc : Nat → Int32} {t i : Nat} (hi : i < 4) (h : tc (4 * t + i) = 2) : tm_lu (tm_y3 l tc t W i) (4 + i) (tm_y3 l tc t W i (35 + i)) = tm_y3 l tc t W (i + 1) := by
  rw [tm_y3_o (x := 35 + i) (by omega), tm_y2_r hi]
  funext x
  by_cases z : x = 4 + i
  · subst z; rw [tm_lu_s, tm_y3_r2 (by omega) h]
  · rw [tm_lu_n z]; exact tm_y3_n z
def tm_yd (yc : Nat → Int32) (i j : Nat) : Nat → Int32 := fun z => if z % 4 = i ∧ z < 4 * j then 1 else yc z
def tm_ye (yc tc : Nat → Int32) (t i : Nat) : Nat → Int32 := fun z => if (z < 12 ∧ z % 4 < i) ∧ tc (4 * t + z % 4) ≠ 0 then 1 else yc z
theorem tm_yd_0 {yc : Nat → Int32} {i : Nat} : tm_yd yc i 0 = yc := by
  funext z; exact if_neg (by omega)
theorem tm_yd_s {yc : Nat → Int32} {i j : Nat} (hi : i < 4) : upd (tm_yd yc i j) (4 * j + i) 1 = tm_yd yc i (j + 1) := by
  funext z
  by_cases c : z = 4 * j + i
  · subst c
    rw [pk_us]
    exact (if_pos (by omega)).symm
  · rw [pk_un c]
    unfold tm_yd
    by_cases w : z % 4 = i ∧ z < 4 * j
    · rw [if_pos w, if_pos (show z % 4 = i ∧ z < 4 * (j + 1) by omega)]
    · rw [if_neg w, if_neg (show ¬ (z % 4 = i ∧ z < 4 * (j + 1)) by omega)]
theorem tm_ye_0 {yc tc : Nat → Int32} {t : Nat} : tm_ye yc tc t 0 = yc := by
  funext z; exact if_neg (by omega)
theorem tm_ye_s0 {yc tc : Nat → Int32} {t i : Nat} (h : tc (4 * t + i) = 0) : tm_ye yc tc t i = tm_ye yc tc t (i + 1) := by
  funext z
  unfold tm_ye
  by_cases c : (z < 12 ∧ z % 4 < i) ∧ tc (4 * t + z % 4) ≠ 0
  · rw [if_pos c, if_pos (show (z < 12 ∧ z % 4 < i + 1) ∧ tc (4 * t + z % 4) ≠ 0 from ⟨by omega, c.2⟩)]
  · rw [if_neg c, if_neg (show ¬ ((z < 12 ∧ z % 4 < i + 1) ∧ tc (4 * t + z % 4) ≠ 0) from fun q => ?_)]
    by_cases w : z % 4 = i
    · rw [w] at q; exact q.2 h
    · exact c ⟨by omega, q.2⟩
theorem tm_ye_s1 {yc tc : Nat → Int32} {t i : Nat} (h : tc (4 * t + i) ≠ 0) : tm_yd (tm_ye yc tc t i) i 3 = tm_ye yc tc t (i + 1) := by
  funext z
  unfold tm_yd tm_ye
  by_cases w : z % 4 = i ∧ z < 4 * 3
  · rw [if_pos w, if_pos (show (z < 12 ∧ z % 4 < i + 1) ∧ tc (4 * t + z % 4) ≠ 0 from ⟨by omega, by rw [w.1]; exact h⟩)]
  · rw [if_neg w]
    by_cases c : (z < 12 ∧ z % 4 < i) ∧ tc (4 * t + z % 4) ≠ 0
    · rw [if_pos c, if_pos (show (z < 12 ∧ z % 4 < i + 1) ∧ tc (4 * t + z % 4) ≠ 0 from ⟨by omega, c.2⟩)]
    · rw [if_neg c, if_neg (show ¬ ((z < 12 ∧ z % 4 < i + 1) ∧ tc (4 * t + z % 4) ≠ 0) from fun q => c ⟨by omega, q.2⟩)]
section
variable {yk yv ys op tc en yc aR aK aD aj sA sK sD sn wK wD wC : Nat → Int32}
variable {D : Nat → Prop} {l : Nat → List tm_E}
theorem ty_f122 {post : Int32 → SY → Prop} {J : Int32 → (Nat → Int32) → (Nat → Int32) → (Nat → Int32) → (Nat → Int32) → (Nat → Int32) → (Nat → Int32) → (Nat → Int32) → (Nat → Int32) → (Nat → Int32) → (Nat → Int32) → (Nat → Int32) → (Nat → Int32) → (Nat → Int32) → (Nat → Int32) → (Nat → Int32) → (Nat → Int32) → (Nat → Int32) → (Nat → Int32) → Prop} {i : Nat} {x1 : Int32} (hi : i < 4) (K : J (nI (i + 1)) yk yv ys op tc en (tm_yd yc i 3) aR aK aD aj sA sK sD sn wK wD wC) :
    ∀ d j, j + d = 3 → wY_finish_122 post J x1 (nI i) (d + 1) (nI j) yk yv ys op tc en (tm_yd yc i j) aR aK aD aj sA sK sD sn wK wD wC := by
  intro d
  induction d with
  | zero =>
    intro j hj
    obtain rfl : j = 3 := by omega
    exact br_t (by decide) (nm_r (e' := nI (i + 1)) (nI_1 _) K)
  | succ d ih =>
    intro j hj
    refine br_f (nI_ge (b := 3) (by omega) (by decide)) ?_
    rw [tm_n4, nI_add]
    exact ⟨tm_in (by omega), nm_r (e' := tm_yd yc i (j + 1)) (by rw [nI_clamp (by omega), tm_nb1, tm_yd_s hi]) (nm_r (e' := nI (j + 1)) (nI_1 _) (ih (j + 1) (by omega)))⟩
theorem ty_f39 {post : Int32 → SY → Prop} {t : Nat} {W : Nat → List tm_E} (ht : t < 3) (TF : tm_TF en tc) (h10 : ∀ x, x < 10 → D x) (how : ∀ r, r < 4 → tc (4 * t + r) = 1 → D (22 + (4 * t + r)))
    (K : ∀ yk' yv' ys', tm_HY (tm_Dy D 4) yk' yv' ys' (tm_y3 l tc t W 4) → ∃ n156, wY_finish_156 post (nI t) n156 0 yk' yv' ys' op tc en (tm_ye yc tc t 4) aR aK aD aj sA sK sD sn wK wD wC) :
    ∀ (d i : Nat) (yk yv ys : Nat → Int32), i + d = 4 → tm_HY (tm_Dy D 4) yk yv ys (tm_y3 l tc t W i) → wY_finish_39 post (nI t) (d + 1) (nI i) yk yv ys op tc en (tm_ye yc tc t i) aR aK aD aj sA sK sD sn wK wD wC := by
  intro d
  induction d with
  | zero =>
    intro i yk yv ys hi HY
    obtain rfl : i = 4 := by omega
    exact br_t (by decide) (K _ _ _ HY)
  | succ d ih =>
    intro i yk yv ys hi HY
    have e4 : nI t * (4 : Int32) + nI i = nI (4 * t + i) := by rw [tm_n4, nI_add]
    have c22 : ((22 : Int32) + nI t * 4) + nI i = nI (22 + (4 * t + i)) := by rw [tm_n4, tm_k22, nI_add, Nat.add_assoc]
    -- what follows the copy, if the ref was touched
    have f105 : ∀ yk' yv' ys', tc (4 * t + i) ≠ 0 → tm_HY (tm_Dy D 4) yk' yv' ys' (tm_y3 l tc t W (i + 1)) → wY_finish_105 post (wY_finish_39 post (nI t) (d + 1)) (nI t) (nI i) yk' yv' ys' op tc en (tm_ye yc tc t i) aR aK aD aj sA sK sD sn wK wD wC := by
      intro yk' yv' ys' q HY'
      unfold wY_finish_105
      rw [e4]
      refine ⟨tm_in (by omega), ?_⟩
      rw [nI_clamp (show 4 * t + i < 2 ^ 31 by omega)]
      refine br_f q ⟨4, ?_⟩
      have := ty_f122 (post := post) (J := wY_finish_39 post (nI t) (d + 1)) (x1 := nI t) (i := i) (yk := yk') (yv := yv') (ys := ys') (op := op) (tc := tc) (en := en) (yc := tm_ye yc tc t i) (aR := aR) (aK := aK) (aD := aD) (aj := aj) (sA := sA) (sK := sK) (sD := sD) (sn := sn) (wK := wK) (wD := wD) (wC := wC) (by omega) (by rw [tm_ye_s1 q]; exact ih (i + 1) yk' yv' ys' (by omega) HY') 3 0 rfl
      rw [tm_yd_0] at this
      exact this
    refine br_f (nI_ge (b := 4) (by omega) (by decide)) ?_
    rw [e4, c22, tm_k4]
    refine ⟨tm_in (by omega), ?_⟩
    rw [nI_clamp (show 4 * t + i < 2 ^ 31 by omega)]
    rcases TF.2 (4 * t + i) (by omega) with q | q | q
    · refine br_f (by rw [q]; decide) ?_
      unfold wY_finish_77
      rw [e4]
      refine ⟨tm_in (by omega), ?_⟩
      rw [nI_clamp (show 4 * t + i < 2 ^ 31 by omega)]
      refine br_f (by rw [q]; decide) ?_
      unfold wY_finish_105
      rw [e4]
      refine ⟨tm_in (by omega), ?_⟩
      rw [nI_clamp (show 4 * t + i < 2 ^ 31 by omega)]
      have := ih (i + 1) yk yv ys (by omega) (by rw [← tm_y3_s0 (by omega) q]; exact HY)
      rw [← tm_ye_s0 q] at this
      exact br_t q (nm_r (e' := nI (i + 1)) (nI_1 _) this)
    · refine br_t q ?_
      refine ty_copy (D := tm_Dy D 4) (D' := tm_Dy D 4) (l := tm_y3 l tc t W i) (by omega) (by omega) HY (Or.inl (how i (by omega) q)) (fun x h _ => h) ?_
      intro yk' yv' ys' HY' _
      rw [tm_y3_s1 ht (by omega) q] at HY'
      unfold wY_finish_77
      rw [e4]
      refine ⟨tm_in (by omega), ?_⟩
      rw [nI_clamp (show 4 * t + i < 2 ^ 31 by omega)]
      exact br_f (by rw [q]; decide) (f105 yk' yv' ys' (by rw [q]; decide) HY')
    · refine br_f (by rw [q]; decide) ?_
      unfold wY_finish_77
      rw [e4, tm_k35, tm_k4]
      refine ⟨tm_in (by omega), ?_⟩
      rw [nI_clamp (show 4 * t + i < 2 ^ 31 by omega)]
      refine br_t q ?_
      refine ty_copy (D := tm_Dy D 4) (D' := tm_Dy D 4) (l := tm_y3 l tc t W i) (by omega) (by omega) HY (Or.inr (by omega)) (fun x h _ => h) ?_
      intro yk' yv' ys' HY' _
      rw [tm_y3_s2 (by omega) q] at HY'
      exact f105 yk' yv' ys' (by rw [q]; decide) HY'
end
/-- both queues take the sends: one outcome -/
theorem tm_qo {sn sA sK sD qF : Nat → Int32} {t n : Nat} (ht : t < 3) (hn : n ≤ 6) (en' : sn t = nI n) (hS : ∀ i, i < n → ∃ g, g < 2 ∧ sA (6 * t + i) = nI g) :
    ∀ (d i n0 n1 : Nat) (qK qD qL wK wD wC : Nat → Int32), i + d = n → tm_QU qK qD qF qL wK wD wC → qL 0 = nI n0 → qL 1 = nI n1 → n0 ≤ 8 → n1 ≤ 8 → n1 + tm_s2 sA (6 * t) n ≤ 8 + tm_s2 sA (6 * t) i → n0 + n + tm_s2 sA (6 * t) i ≤ 8 + i + tm_s2 sA (6 * t) n →
    ∃ qK' qD' qL' wK' wD' wC' : Nat → Int32, tm_QU qK' qD' qF qL' wK' wD' wC' ∧
      (∀ (post : Int32 → SX → Prop) (fl fb sh ld : Int32) (ck : Int64) (lk lv ln ch lm bm fL fB ro sz pa wk wo lK lV op : Nat → Int32) (bg : Nat → Int64) (tc en aj aR aK aD : Nat → Int32) (cg : Nat → Int64), post 1 (fl, fb, sh, ld, ck, lk, lv, ln, ch, lm, bm, fL, fB, ro, sz, pa, wk, wo, lK, lV, op, bg, tc, en, aj, aR, aK, aD, sn, sA, sK, sD, cg, qK', qD', qF, qL') → wX_settle_294 post (nI t) (d + 1) (nI (6 * t + i)) fl fb sh ld ck lk lv ln ch lm bm fL fB ro sz pa wk wo lK lV op bg tc en aj aR aK aD sn sA sK sD cg qK qD qF qL) ∧
      (∀ (post : Int32 → SY → Prop) (yk yv ys op tc en yc aR aK aD aj : Nat → Int32), post 1 (yk, yv, ys, op, tc, en, yc, aR, aK, aD, aj, sA, sK, sD, sn, wK', wD', wC') → wY_finish_156 post (nI t) (d + 1) (nI i) yk yv ys op tc en yc aR aK aD aj sA sK sD sn wK wD wC) := by
  intro d
  induction d with
  | zero =>
    intro i n0 n1 qK qD qL wK wD wC hi Q h0 h1 h0' h1' c1 c0
    refine ⟨qK, qD, qL, wK, wD, wC, Q, ?_, ?_⟩
    · intro post fl fb sh ld ck lk lv ln ch lm bm fL fB ro sz pa wk wo lK lV op bg tc en aj aR aK aD cg hp
      refine ⟨tm_in ht, ?_⟩
      rw [nI_clamp (show t < 2 ^ 31 by omega), en', tm_m6, nI_add]
      exact br_t (nI_le (by omega) (by omega)) hp
    · intro post yk yv ys op tc en yc aR aK aD aj hp
      refine ⟨tm_in ht, ?_⟩
      rw [nI_clamp (show t < 2 ^ 31 by omega), en']
      exact br_t (nI_le (by omega) (by omega)) hp
  | succ d ih =>
    intro i n0 n1 qK qD qL wK wD wC hi Q h0 h1 h0' h1' c1 c0
    obtain ⟨g, g1, g2⟩ := hS i (by omega)
    have e := tm_s2_g g1 g2
    have mo := tm_s2_mono (sA := sA) (b := 6 * t) (i := i + 1) d
    rw [show i + 1 + d = n by omega] at mo
    obtain ⟨f, m, f1, f2, f3, f4, f5, f6⟩ := Q g g1
    -- room for one more, and the counts behind it
    have key : m < 8 ∧ ∃ n0' n1', upd qL g (nI (m + 1)) 0 = nI n0' ∧ upd qL g (nI (m + 1)) 1 = nI n1' ∧ n0' ≤ 8 ∧ n1' ≤ 8 ∧ n1' + tm_s2 sA (6 * t) n ≤ 8 + tm_s2 sA (6 * t) (i + 1) ∧ n0' + n + tm_s2 sA (6 * t) (i + 1) ≤ 8 + (i + 1) + tm_s2 sA (6 * t) n := by
      have c : g = 0 ∨ g = 1 := by omega
      rcases c with rfl | rfl
      · obtain rfl : m = n0 := tm_inj (by omega) (by omega) (f4.symm.trans h0)
        exact ⟨by omega, m + 1, n1, pk_us, (pk_un (by decide)).trans h1, by omega, by omega, by omega, by omega⟩
      · obtain rfl : m = n1 := tm_inj (by omega) (by omega) (f4.symm.trans h1)
        exact ⟨by omega, n0, m + 1, (pk_un (by decide)).trans h0, pk_us, by omega, by omega, by omega, by omega⟩
    obtain ⟨hm, n0', n1', k0, k1, k2, k3, k4, k5⟩ := key
    obtain ⟨qK', qD', qL', wK', wD', wC', Q', HXo, HYo⟩ := ih (i + 1) n0' n1' _ _ _ _ _ _ (by omega) (tm_QU_enq Q g1 f1 hm f3 f4 (sK (6 * t + i)) (sD (6 * t + i))) k0 k1 k2 k3 k4 k5
    refine ⟨qK', qD', qL', wK', wD', wC', Q', ?_, ?_⟩
    · intro post fl fb sh ld ck lk lv ln ch lm bm fL fB ro sz pa wk wo lK lV op bg tc en aj aR aK aD cg hp
      refine ⟨tm_in ht, ?_⟩
      rw [nI_clamp (show t < 2 ^ 31 by omega), en', tm_m6, nI_add]
      refine br_f (nI_ge (by omega) (by omega)) ⟨tm_in (by omega), tm_in (by omega), tm_in (by omega), ?_⟩
      rw [nI_clamp (show 6 * t + i < 2 ^ 31 by omega), g2]
      refine tm_enq g1 f1 hm f3 f4 ?_
      exact nm_r (e' := nI (6 * t + (i + 1))) (nI_1 _) (HXo post fl fb sh ld ck lk lv ln ch lm bm fL fB ro sz pa wk wo lK lV op bg tc en aj aR aK aD cg hp)
    · intro post yk yv ys op tc en yc aR aK aD aj hp
      refine ⟨tm_in ht, ?_⟩
      rw [nI_clamp (show t < 2 ^ 31 by omega), en']
      refine br_f (nI_ge (by omega) (by omega)) (nm_r (e' := nI (6 * t + i)) (by rw [tm_n6, nI_add]) ⟨tm_in (by omega), tm_in (by omega), tm_in (by omega), ?_⟩)
      rw [nI_clamp (show 6 * t + i < 2 ^ 31 by omega), g2]
      refine ty_enq g1 hm f5 ?_
      exact nm_r (e' := nI (i + 1)) (nI_1 _) (HYo post yk yv ys op tc en yc aR aK aD aj hp)
end
section
/-! finish -/
theorem tm_D0 {op tc : Nat → Int32} {t x : Nat} (h : tm_D (upd op t 0) tc x) : x < 10 ∨ ∃ t' r, t' < 3 ∧ r < 4 ∧ t' ≠ t ∧ op t' ≠ 0 ∧ (x = 10 + (4 * t' + r) ∨ (x = 22 + (4 * t' + r) ∧ tc (4 * t' + r) ≠ 0)) := by
  rcases h with h | ⟨t', r, h1, h2, h3, h4⟩
  · exact Or.inl h
  · have n : t' ≠ t := fun z => h3 (by rw [z]; exact pk_us)
    rw [pk_un n] at h3
    exact Or.inr ⟨t', r, h1, h2, n, h3, h4⟩
theorem tm_D0_D {op tc : Nat → Int32} {t x : Nat} (h : tm_D (upd op t 0) tc x) : tm_D op tc x := by
  rcases tm_D0 h with h | ⟨t', r, h1, h2, _, h3, h4⟩
  · exact Or.inl h
  · exact Or.inr ⟨t', r, h1, h2, h3, h4⟩
theorem tm_D0_n {op tc : Nat → Int32} {t x : Nat} (ht : t < 3) (h : tm_D (upd op t 0) tc x) : x < 34 ∧ ¬ (10 + 4 * t ≤ x ∧ x < 10 + 4 * t + 4) ∧ ¬ (22 + 4 * t ≤ x ∧ x < 22 + 4 * t + 4 ) ∨ x < 10 := by
  rcases tm_D0 h with h | ⟨t', r, h1, h2, n, h3, h4 | h4⟩
  · exact Or.inr h
  · exact Or.inl (by omega)
  · exact Or.inl (by omega)
/-- what is left of the maps when nothing was changed -/
theorem tm_fin0 {op tc : Nat → Int32} {t x : Nat} {l l2 : Nat → List tm_E} (ht : t < 3) (h2 : ∀ x, x < 34 → l2 x = tm_ld l (10 + 4 * t) 4 x) (h : tm_D (upd op t 0) tc x) : tm_ld (tm_ld l2 (22 + 4 * t) 4) 34 4 x = l x := by
  have q := tm_D0_n ht h
  rw [tm_ld_n (by omega), tm_ld_n (by omega), h2 x (by omega), tm_ld_n (by omega)]
theorem tm_finE {l : Nat → List tm_E} : tm_ld l 34 4 35 = [] ∧ tm_ld l 34 4 36 = [] ∧ tm_ld l 34 4 37 = [] :=
  ⟨tm_ld_s (by omega), tm_ld_s (by omega), tm_ld_s (by omega)⟩
theorem tm_fin1 {op en tc : Nat → Int32} {t x : Nat} {l W : Nat → List tm_E} (ht : t < 3) (TF : tm_TF en tc) (h : tm_D (upd op t 0) tc x) :
    tm_ld (tm_ld (tm_w3 (tm_w2 (tm_ld l (10 + 4 * t) 4) tc t W) tc t 4) (22 + 4 * t) 4) 34 4 x = tm_y3 l tc t W 4 x := by
  have q := tm_D0_n ht h
  rw [tm_ld_n (by omega), tm_ld_n (by omega)]
  by_cases c : 4 ≤ x ∧ x < 4 + 4
  · obtain ⟨r, rfl⟩ : ∃ r, x = 4 + r := ⟨x - 4, by omega⟩
    have hr : r < 4 := by omega
    rcases TF.2 (4 * t + r) (by omega) with z | z | z
    · rw [tm_w3_r0 z, tm_w2_o (by omega), tm_ld_n (by omega), tm_y3_r0 hr z]
    · rw [tm_w3_r1 hr (by rw [z]; decide), tm_w2_1 hr z, tm_ld_n (by omega), tm_y3_r1 hr z]
    · rw [tm_w3_r1 hr (by rw [z]; decide), tm_w2_2 hr (by rw [z]; decide), tm_y3_r2 hr z]
  · rw [tm_w3_o c, tm_w2_o (by omega), tm_ld_n (by omega), tm_y3_o c, tm_y2_o (by omega)]
theorem tm_w2_l1 {l : Nat → List tm_E} {tc : Nat → Int32} {t : Nat} : tm_w2 (tm_ld l (10 + 4 * t) 4) tc t (fun r => tm_ld l (10 + 4 * t) 4 (4 + r)) = tm_w2 (tm_ld l (10 + 4 * t) 4) tc t (fun r => l (4 + r)) := by
  funext x
  unfold tm_w2
  by_cases c : 34 ≤ x ∧ x < 34 + 4
  · rw [if_pos c, if_pos c]
    dsimp only
    rw [tm_ld_n (show ¬ (10 + 4 * t ≤ 4 + (x - 34) ∧ 4 + (x - 34) < 10 + 4 * t + 4) by omega)]
  · rw [if_neg c, if_neg c]
theorem tm_TC_0 {k : Nat} {ck : Int64} {op : Nat → Int32} {bg cg : Nat → Int64} {yc : Nat → Int32} {t : Nat} (h : tm_TC k ck op bg cg yc) : tm_TC k ck (upd op t 0) bg cg yc := by
  obtain ⟨c, B, G, h1, h2, h3, h4, h5⟩ := h
  refine ⟨c, B, G, h1, h2, h3, h4, fun t' ht' q => ?_⟩
  have n : t' ≠ t := fun z => q (by rw [z]; exact pk_us)
  rw [pk_un n] at q
  exact h5 t' ht' q
theorem tm_TC_1 {k : Nat} {ck : Int64} {op tc : Nat → Int32} {bg cg : Nat → Int64} {yc : Nat → Int32} {t : Nat} (h : tm_TC k ck op bg cg yc) : tm_TC (k + 5) (ck + 1) (upd op t 0) bg (tm_g3 cg tc t (ck + 1) 4) (tm_ye yc tc t 4) := by
  obtain ⟨c, B, G, h1, h2, h3, h4, h5⟩ := h
  have e : ck + 1 = lN (c + 1) := by rw [h2]; exact lN_1 c
  have g0 : ∀ r, tc (4 * t + r) = 0 → tm_g3 cg tc t (ck + 1) 4 r = cg r := fun r z => if_neg fun q => q.2 z
  have g1 : ∀ r, r < 4 → tc (4 * t + r) ≠ 0 → tm_g3 cg tc t (ck + 1) 4 r = ck + 1 := fun r hr z => if_pos ⟨hr, z⟩
  refine ⟨c + 1, B, fun r => if tc (4 * t + r) = 0 then G r else c + 1, by omega, e, fun t' ht' => ⟨(h3 t' ht').1, Nat.le_succ_of_le (h3 t' ht').2⟩, fun r hr => ?_, fun t' ht' q r hr => ?_⟩
  · by_cases z : tc (4 * t + r) = 0
    · rw [g0 r z]
      simp only [if_pos z]
      exact ⟨(h4 r hr).1, Nat.le_succ_of_le (h4 r hr).2⟩
    · rw [g1 r hr z]
      simp only [if_neg z]
      exact ⟨e, Nat.le_refl _⟩
  · have n : t' ≠ t := fun z => q (by rw [z]; exact pk_us)
    rw [pk_un n] at q
    have m4 : (4 * t' + r) % 4 = r := by omega
    by_cases z : tc (4 * t + r) = 0
    · simp only [if_pos z]
      have : tm_ye yc tc t 4 (4 * t' + r) = yc (4 * t' + r) := if_neg fun w => w.2 (by rw [m4]; exact z)
      rw [this]
      exact h5 t' ht' q r hr
    · simp only [if_neg z]
      have : tm_ye yc tc t 4 (4 * t' + r) = 1 := if_pos ⟨by omega, by rw [m4]; exact z⟩
      rw [this]
      have := (h3 t' ht').2
      exact ⟨fun w => absurd w (by decide), fun w => absurd (by omega) w⟩
theorem i_vc_finish {k : Nat} {u : SX} {v : SY} (I : i_Rel k u v) (hk : k + 5 ≤ 2561) (v1 : Int32) (v2 : Int32) : wpX_finish (fun r u' => wpY_finish (fun r' v' => r' = r ∧ i_Rel (k + 5) u' v') v v1 (lw_bz v2)) u v1 (lw_bz v2) := by
  generalize lw_bz v2 = p1
  refine tm_el (P := fun u v => wpX_finish (fun r u' => wpY_finish (fun r' v' => r' = r ∧ i_Rel (k + 5) u' v') v v1 p1) u v1 p1) ?_ I
  intro fl fb sh ld ck lk lv ln ch lm bm fL fB ro sz pa wk wo lK lV op bg tc en aj aR aK aD sn sA sK sD cg qK qD qF qL yk yv ys yc wK wD wC l FX TA TS TF TC QU
  have TC5 := tm_up TC (show k ≤ k + 5 by omega)
  have J := tm_mk (ld := ld) (lm := lm) (bm := bm) (pa := pa) (wk := wk) (wo := wo) (lK := lK) (lV := lV) (aK := aK) (aD := aD) (sK := sK) (sD := sD) FX TA TS TF TC5 QU
  obtain ⟨HX, E, HY⟩ := FX
  unfold wpX_finish
  rcases tm_dec v1 3 with ⟨t, ht, rfl⟩ | ht
  · refine tm_cl_i ht (fun o => br_t rfl ⟨tm_in ht, nm_r (e' := upd op t 0) (by rw [nI_clamp (by omega), tm_nb0]) ?_⟩) (fun o => br_f (by decide) ?_)
    · rw [tm_m4, tm_k10]
      refine tm_drop HX (by omega) ?_
      intro ro1 sz1 HX1
      have TC0 : tm_TC (k + 5) ck (upd op t 0) bg cg yc := tm_TC_0 TC5
      obtain ⟨m, m1, m2, m3⟩ := TA t ht
      obtain ⟨n, n1, n2, n3⟩ := TS t ht
      obtain ⟨f0, q0, a1, a2, a3, a4, a5, a6⟩ := QU 0 (by decide)
      obtain ⟨f1, q1, b1, b2, b3, b4, b5, b6⟩ := QU 1 (by decide)
      have hcy : ∃ (B : Nat) (G : Nat → Nat), bg t = lN B ∧ B < 2 ^ 31 ∧ (∀ r, r < 4 → cg r = lN (G r) ∧ G r < 2 ^ 31) ∧ ∀ r, r < 4 → (tm_cf tc en t B G r ↔ tm_cy yc tc en t r) := by
        obtain ⟨c, B, G, h1, h2, h3, h4, h5⟩ := TC
        refine ⟨B t, G, (h3 t ht).1, ?_, fun r hr => ⟨(h4 r hr).1, ?_⟩, fun r hr => ?_⟩
        · have := (h3 t ht).2; omega
        · have := (h4 r hr).2; omega
        · have q := h5 t ht o r hr
          unfold tm_cf tm_cy
          constructor
          · rintro ⟨w1, w2⟩
            exact ⟨fun z => (q.mp z) w2, w1⟩
          · rintro ⟨w1, w2⟩
            refine ⟨w2, ?_⟩
            by_cases z : B t < G r
            · exact z
            · exact absurd (q.mpr z) w1
      obtain ⟨B, G, hB, hB', hG, hcf⟩ := hcy
      -- the reference, if it commits
      have yall : ∀ post : Int32 → SY → Prop, p1 ≠ 0 →
          ((∃ r, r < 4 ∧ tm_cy yc tc en t r) → post (-3) (yk, yv, ys, upd op t 0, tc, en, yc, aR, aK, aD, aj, sA, sK, sD, sn, wK, wD, wC)) →
          ((∀ r, r < 4 → ¬ tm_cy yc tc en t r) → tm_ow aR aK aD (8 * t) (fun r => l (4 + r)) 0 m = none → ∀ yk' yv' ys', tm_HY (tm_D op tc) yk' yv' ys' l → post (-2) (yk', yv', ys', upd op t 0, tc, en, yc, aR, aK, aD, aj, sA, sK, sD, sn, wK, wD, wC)) →
          ((∀ r, r < 4 → ¬ tm_cy yc tc en t r) → ∀ W, tm_ow aR aK aD (8 * t) (fun r => l (4 + r)) 0 m = some W → ¬ (q1 + tm_s2 sA (6 * t) n ≤ 8 ∧ q0 + (n - tm_s2 sA (6 * t) n) ≤ 8) → ∀ yk' yv' ys', tm_HY (tm_D op tc) yk' yv' ys' l → post (-2) (yk', yv', ys', upd op t 0, tc, en, yc, aR, aK, aD, aj, sA, sK, sD, sn, wK, wD, wC)) →
          ((∀ r, r < 4 → ¬ tm_cy yc tc en t r) → ∀ W, tm_ow aR aK aD (8 * t) (fun r => l (4 + r)) 0 m = some W → (q1 + tm_s2 sA (6 * t) n ≤ 8 ∧ q0 + (n - tm_s2 sA (6 * t) n) ≤ 8) → ∀ yk' yv' ys', tm_HY (tm_Dy (tm_D op tc) 4) yk' yv' ys' (tm_y3 l tc t W 4) → ∃ n156, wY_finish_156 post (nI t) n156 0 yk' yv' ys' (upd op t 0) tc en (tm_ye yc tc t 4) aR aK aD aj sA sK sD sn wK wD wC) →
          wpY_finish post (yk, yv, ys, op, tc, en, yc, aR, aK, aD, aj, sA, sK, sD, sn, wK, wD, wC) (nI t) p1 := by
        intro post hp Kc Ka Kq Ks
        unfold wpY_finish
        refine ty_op_i ht (fun _ => br_f (by decide) ⟨tm_in ht, nm_r (e' := upd op t 0) (by rw [nI_clamp (by omega), tm_nb0]) (br_f hp ?_)⟩) (fun z => absurd z o)
        refine ty_verdict (D := tm_D op tc) (l := l) ht (fun x hx => Or.inl hx) (fun x hx => tm_D_lt hx) HY m1 m2 m3 n1 n2 n3 a5 b5 a2 b2 ?_ ?_ ?_ ?_
        · exact fun w => br_f (by decide) (Kc w)
        · exact fun w1 w2 yk' yv' ys' HY' => br_f (by decide) (Ka w1 w2 yk' yv' ys' HY')
        · exact fun w1 W w2 w3 yk' yv' ys' HY' => br_f (by decide) (Kq w1 W w2 w3 yk' yv' ys' HY')
        · intro w1 W w2 w3 yk' yv' ys' HY'
          refine br_t rfl ⟨5, ?_⟩
          have := ty_f39 (post := post) (W := W) (D := tm_D op tc) (l := l) (op := upd op t 0) (tc := tc) (en := en) (yc := yc) (aR := aR) (aK := aK) (aD := aD) (aj := aj) (sA := sA) (sK := sK) (sD := sD) (sn := sn) (wK := wK) (wD := wD) (wC := wC) ht TF (fun x hx => Or.inl hx) (fun r hr z => Or.inr ⟨t, r, ht, hr, o, Or.inr ⟨rfl, by rw [z]; decide⟩⟩) (Ks w1 W w2 w3) 4 0 yk' yv' ys' rfl (by rw [tm_y3_0]; exact HY')
          rw [tm_ye_0] at this
          exact this
      by_cases z : p1 = 0
      · refine br_t z ?_
        refine tm_f40 ht HX1 ?_
        intro ro2 sz2 HX2
        unfold wpY_finish
        refine ty_op_i ht (fun _ => br_f (by decide) ⟨tm_in ht, nm_r (e' := upd op t 0) (by rw [nI_clamp (by omega), tm_nb0]) (br_t z ⟨rfl, ?_⟩)⟩) (fun z => absurd z o)
        exact tm_mk ⟨HX2, tm_finE, tm_HY_congr (tm_HY_sub HY (fun x hx => tm_D0_D hx)) (fun x hx => tm_fin0 ht (fun _ _ => rfl) hx)⟩ TA TS TF TC0 QU
      · refine br_f z ?_
        unfold wpX_settle
        refine ⟨5, tm_se2 (l := tm_ld l (10 + 4 * t) 4) ht TF hB hG hB' ?_ ?_ 4 0 ro1 sz1 rfl (fun r hr => absurd hr (Nat.not_lt_zero _)) (by rw [tm_w1_0]; exact HX1)⟩
        · -- a conflict
          rintro ⟨r, hr, cf⟩ ro2 sz2 i hi HX2
          refine tm_f40 ht HX2 ?_
          intro ro3 sz3 HX3
          have cy := (hcf r hr).mp cf
          refine yall _ z ?_ (fun w => absurd cy (w r hr)) (fun w => absurd cy (w r hr)) (fun w => absurd cy (w r hr))
          intro _
          exact ⟨rfl, tm_mk ⟨HX3, tm_finE, tm_HY_congr (tm_HY_sub HY (fun x hx => tm_D0_D hx)) (fun x hx => tm_fin0 ht (fun y hy => tm_w1_o (by omega)) hx)⟩ TA TS TF TC0 QU⟩
        · intro nc ro2 sz2 HX2
          have ncy : ¬ ∃ r, r < 4 ∧ tm_cy yc tc en t r := fun ⟨r, hr, w⟩ => nc r hr ((hcf r hr).mpr w)
          rw [tm_w2_l1] at HX2
          refine ⟨m + 1, tm_se103 (l := tm_ld l (10 + 4 * t) 4) (Wf := tm_ow aR aK aD (8 * t) (fun r => l (4 + r)) 0 m) ht m1 m2 m3 (fun x h1 h2 => tm_ld_s ⟨h1, h2⟩) ?_ ?_ m 0 (fun r => l (4 + r)) _ _ _ _ _ _ _ _ _ _ _ _ _ _ _ _ _ (by omega) rfl HX2⟩
          · -- an adjustment finds no room
            intro hW W fl' fb' ld' lk' lv' ln' ch' lm' bm' fL' fB' ro' sz' pa' wk' lK' lV' HX'
            refine tm_f40 ht HX' ?_
            intro ro3 sz3 HX3
            refine yall _ z (fun w => absurd w ncy) ?_ (fun _ W' w => by rw [hW] at w; exact absurd w (by simp)) (fun _ W' w => by rw [hW] at w; exact absurd w (by simp))
            intro _ _ yk' yv' ys' HY'
            exact ⟨rfl, tm_mk ⟨HX3, tm_finE, tm_HY_congr (tm_HY_sub HY' (fun x hx => tm_D0_D hx)) (fun x hx => tm_fin0 ht (fun y hy => tm_w2_o (by omega)) hx)⟩ TA TS TF TC0 QU⟩
          · intro W hW fl' fb' ld' lk' lv' ln' ch' lm' bm' fL' fB' ro' sz' pa' wk' lK' lV' HX'
            refine ⟨n + 1, tm_se162 ht n1 n2 n3 a4 b4 a2 b2 ?_ ?_ n 0 (by omega)⟩
            · -- a queue finds no room
              intro nok
              refine tm_f40 ht HX' ?_
              intro ro3 sz3 HX3
              refine yall _ z (fun w => absurd w ncy) (fun _ w => by rw [hW] at w; exact absurd w (by simp)) ?_ (fun _ W' _ w => absurd w nok)
              intro _ W' _ _ yk' yv' ys' HY'
              exact ⟨rfl, tm_mk ⟨HX3, tm_finE, tm_HY_congr (tm_HY_sub HY' (fun x hx => tm_D0_D hx)) (fun x hx => tm_fin0 ht (fun y hy => tm_w2_o (by omega)) hx)⟩ TA TS TF TC0 QU⟩
            · -- all is done
              intro ok
              have hs2 := tm_s2_le sA (6 * t) n
              have hs0 : tm_s2 sA (6 * t) 0 = 0 := rfl
              obtain ⟨qK', qD', qL', wK', wD', wC', Q', HXo, HYo⟩ := tm_qo (sK := sK) (sD := sD) ht n1 n2 n3 n 0 q0 q1 qK qD qL wK wD wC (by omega) QU a4 b4 a2 b2 (by omega) (by omega)
              refine ⟨5, ?_⟩
              have := tm_se240 (post := fun r_157 u => match u with | (fl9, fb9, sh9, ld9, ck9, lk9, lv9, ln9, ch9, lm9, bm9, fL9, fB9, ro9, sz9, pa9, wk9, wo9, lK9, lV9, op9, bg9, tc9, en9, aj9, aR9, aK9, aD9, sn9, sA9, sK9, sD9, cg9, qK9, qD9, qF9, qL9) => wX_finish_40 (fun r u' => wpY_finish (fun r' v' => r' = r ∧ i_Rel (k + 5) u' v') (yk, yv, ys, op, tc, en, yc, aR, aK, aD, aj, sA, sK, sD, sn, wK, wD, wC) (nI t) p1) (nI t) r_157 fl9 fb9 sh9 ld9 ck9 lk9 lv9 ln9 ch9 lm9 bm9 fL9 fB9 ro9 sz9 pa9 wk9 wo9 lK9 lV9 op9 bg9 tc9 en9 aj9 aR9 aK9 aD9 sn9 sA9 sK9 sD9 cg9 qK9 qD9 qF9 qL9) (l := tm_w2 (tm_ld l (10 + 4 * t) 4) tc t W) (t := t) (fl := fl') (fb := fb') (sh := sh) (ld := ld') (ck := ck + 1) (lk := lk') (lv := lv') (ln := ln') (ch := ch') (lm := lm') (bm := bm') (fL := fL') (fB := fB') (pa := pa') (wk := wk') (wo := wo) (lK := lK') (lV := lV') (op := upd op t 0) (bg := bg) (tc := tc) (en := en) (aj := aj) (aR := aR) (aK := aK) (aD := aD) (sn := sn) (sA := sA) (sK := sK) (sD := sD) (cg := cg) (qK := qK) (qD := qD) (qF := qF) (qL := qL) ht ?_ 4 0 ro' sz' rfl (by rw [tm_w3_0]; exact HX')
              · rw [tm_g3_0] at this
                exact this
              · intro ro3 sz3 HX3
                refine ⟨n + 1, HXo _ _ _ _ _ _ _ _ _ _ _ _ _ _ _ _ _ _ _ _ _ _ _ _ _ _ _ _ _ _ ?_⟩
                refine tm_f40 ht HX3 ?_
                intro ro4 sz4 HX4
                refine yall _ z (fun w => absurd w ncy) (fun _ w => by rw [hW] at w; exact absurd w (by simp)) (fun _ W' _ w => absurd ok w) ?_
                intro _ W' hW' _ yk' yv' ys' HY'
                obtain rfl : W = W' := Option.some.inj (hW.symm.trans hW')
                refine ⟨n + 1, HYo _ _ _ _ _ _ _ _ _ _ _ _ ⟨rfl, ?_⟩⟩
                exact tm_mk ⟨HX4, tm_finE, tm_HY_congr (tm_HY_sub HY' (fun x hx => Or.inl (tm_D0_D hx))) (fun x hx => tm_fin1 ht TF hx)⟩ TA TS TF (tm_TC_1 TC) Q'
    · unfold wpY_finish
      exact ty_op_i ht (fun q => absurd o q) (fun _ => br_t rfl ⟨rfl, J⟩)
  · refine tm_cl_o ht (br_f (by decide) ?_)
    unfold wpY_finish
    exact ty_op_o ht (br_t rfl ⟨rfl, J⟩)
end
