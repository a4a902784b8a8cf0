section
/-! pure rows to paste: stores, nI and lN arithmetic, masks, shifts, narrowing, branches by naturals (pk_le, pk_lt, pk_eq), loops (lp1 .. lp16: the measure of the state; rp1 ..: recursion), negatives. Take what you need -/
theorem pk_us {f : Nat → Int32} {k : Nat} {x : Int32} : upd f k x k = x := if_pos rfl
theorem pk_un {f : Nat → Int32} {k j : Nat} {x : Int32} (h : j ≠ k) : upd f k x j = f j := if_neg h
theorem pk_uLs {f : Nat → Int64} {k : Nat} {x : Int64} : vp_updL f k x k = x := if_pos rfl
theorem pk_uLn {f : Nat → Int64} {k j : Nat} {x : Int64} (h : j ≠ k) : vp_updL f k x j = f j := if_neg h
theorem pk_sub {a b : Nat} (h : b ≤ a) : nI a - nI b = nI (a - b) := by
  obtain ⟨c, rfl⟩ : ∃ c, a = c + b := ⟨a - b, by omega⟩
  rw [← nI_add, Int32.add_sub_cancel, Nat.add_sub_cancel]
theorem pk_m1 (n : Nat) : nI (n + 1) + (-1) = nI n := by
  rw [← nI_1, Int32.add_assoc, show (1 : Int32) + (-1) = 0 from rfl, Int32.add_zero]
theorem pk_mul (a b : Nat) : nI a * nI b = nI (a * b) := (Int32.ofNat_mul a b).symm
theorem pk_div {a d : Nat} (ha : a < 2 ^ 31) (h0 : 0 < d) (hd : d < 2 ^ 31) : nI a / nI d = nI (a / d) := by
  apply Int32.toInt_inj.mp
  rw [lg_idiv_nonneg (by rw [nI_toInt ha]; omega) (by rw [nI_toInt hd]; omega), nI_toInt ha, nI_toInt hd, nI_toInt (Nat.lt_of_le_of_lt (Nat.div_le_self a d) ha)]
  first | rfl | exact (Int.natCast_ediv _ _).symm
theorem pk_rem {a d : Nat} (ha : a < 2 ^ 31) (h0 : 0 < d) (hd : d < 2 ^ 31) : nI a - nI a / nI d * nI d = nI (a % d) := by
  rw [pk_div ha h0 hd, pk_mul, pk_sub (Nat.div_mul_le_self a d)]
  exact congrArg nI (by have := Nat.div_add_mod' a d; omega)
theorem pk_sub_toInt {a b : Nat} (ha : a < 2 ^ 30) (hb : b < 2 ^ 30) : (nI a - nI b).toInt = (a : Int) - b := by
  rw [Int32.toInt_sub, nI_toInt (by omega), nI_toInt (by omega)]
  exact Int.bmod_eq_of_le (by omega) (by omega)
theorem pk_sneg {a b : Nat} (hb : b < 2 ^ 30) (h : a < b) : nI a - nI b < 0 := by
  rw [Int32.lt_iff_toInt_lt, pk_sub_toInt (by omega) hb, show (0 : Int32).toInt = 0 from by decide]
  omega
theorem pk_ix (x : Int32) {n : Nat} (hn : n < 2 ^ 31) : x < 0 ∨ nI n ≤ x ∨ ∃ j : Nat, j < n ∧ x = nI j := by
  by_cases h : x < 0
  · exact Or.inl h
  · obtain ⟨j, hj, rfl⟩ := nI_of h
    by_cases h2 : j < n
    · exact Or.inr (Or.inr ⟨j, h2, rfl⟩)
    · exact Or.inr (Or.inl (nI_le (by omega) hj))
theorem pk_le {x y : Int32} {A B : Prop} (a b : Nat) (f : a ≤ b → A) (g : b < a → B) (hx : x = nI a := by rfl) (hy : y = nI b := by rfl) (ha : a < 2 ^ 31 := by omega) (hb : b < 2 ^ 31 := by omega) : (x ≤ y → A) ∧ (¬ x ≤ y → B) := by
  subst hx hy
  rw [nI_leI ha hb]
  exact ⟨f, fun z => g (by omega)⟩
theorem pk_lt {x y : Int32} {A B : Prop} (a b : Nat) (f : a < b → A) (g : b ≤ a → B) (hx : x = nI a := by rfl) (hy : y = nI b := by rfl) (ha : a < 2 ^ 31 := by omega) (hb : b < 2 ^ 31 := by omega) : (x < y → A) ∧ (¬ x < y → B) := by
  subst hx hy
  rw [nI_ltI ha hb]
  exact ⟨f, fun z => g (by omega)⟩
theorem pk_eq {x y : Int32} {A B : Prop} (a b : Nat) (f : a = b → A) (g : a ≠ b → B) (hx : x = nI a := by rfl) (hy : y = nI b := by rfl) (ha : a < 2 ^ 31 := by omega) (hb : b < 2 ^ 31 := by omega) : (x = y → A) ∧ (¬ x = y → B) := by
  subst hx hy
  rw [nI_eq ha hb]
  exact ⟨f, g⟩
theorem pk_in {x : Int32} (n N : Nat) (h : n < N) (hx : x = nI n := by rfl) (hN : N < 2 ^ 31 := by omega) : vp_in x N := by
  subst hx
  exact vp_in_nI h hN
theorem pk_cl {x : Int32} (n : Nat) (hx : x = nI n := by rfl) (h : n < 2 ^ 31 := by omega) : x.toNatClampNeg = n := by
  subst hx
  exact nI_clamp h
theorem pk_tn {n : Nat} (h : n < 2 ^ 32) : (nI n).toBitVec.toNat = n := Nat.mod_eq_of_lt h
theorem pk_and (x : Int32) {m : Int32} (k : Nat) (hm : m.toBitVec.toNat = 2 ^ k - 1) : x &&& m = nI (x.toBitVec.toNat % 2 ^ k) := by
  apply Int32.toBitVec_inj.mp
  apply BitVec.eq_of_toNat_eq
  rw [Int32.toBitVec_and, BitVec.toNat_and, hm, Nat.and_two_pow_sub_one_eq_mod]
  show _ = (BitVec.ofNat 32 _).toNat
  rw [BitVec.toNat_ofNat]
  exact (Nat.mod_eq_of_lt (Nat.lt_of_le_of_lt (Nat.mod_le _ _) x.toBitVec.isLt)).symm
theorem pk_andN {n : Nat} (h : n < 2 ^ 32) {m : Int32} (k : Nat) (hm : m.toBitVec.toNat = 2 ^ k - 1) : nI n &&& m = nI (n % 2 ^ k) := by
  rw [pk_and _ k hm, pk_tn h]
theorem pk_andE (x : Int32) {m : Int32} (k : Nat) (hm : m.toBitVec.toNat = 2 ^ k - 1) : ∃ j : Nat, j < 2 ^ k ∧ x &&& m = nI j := ⟨_, Nat.mod_lt _ (Nat.two_pow_pos k), pk_and x k hm⟩
theorem pk_andIn (x : Int32) {m : Int32} (k : Nat) (hm : m.toBitVec.toNat = 2 ^ k - 1) (hk : k ≤ 30) : vp_in (x &&& m) (2 ^ k) := by
  obtain ⟨j, hj, e⟩ := pk_andE x k hm
  rw [e]
  exact vp_in_nI hj (Nat.lt_of_le_of_lt (Nat.pow_le_pow_right (by decide) hk) (by decide))
theorem pk_shl (a s : Int32) (k : Nat) (hs : (s.toBitVec.smod 32).toNat = k) : (a <<< s).toBitVec.toNat = a.toBitVec.toNat * 2 ^ k % 2 ^ 32 := by
  show (a.toBitVec <<< (s.toBitVec.smod 32).toNat).toNat = _
  rw [hs, BitVec.toNat_shiftLeft, Nat.shiftLeft_eq]
theorem pk_shlN {n : Nat} (s : Int32) (k : Nat) (hs : (s.toBitVec.smod 32).toNat = k) (h : n * 2 ^ k < 2 ^ 32) : nI n <<< s = nI (n * 2 ^ k) := by
  apply Int32.toBitVec_inj.mp
  apply BitVec.eq_of_toNat_eq
  have hn : n < 2 ^ 32 := Nat.lt_of_le_of_lt (Nat.le_mul_of_pos_right n (Nat.two_pow_pos k)) h
  rw [pk_shl _ _ k hs, pk_tn hn, pk_tn h, Nat.mod_eq_of_lt h]
theorem pk_shr (a s : Int32) (k : Nat) (hs : (s.toBitVec.smod 32).toNat = k) : (a >>> s).toInt = a.toInt >>> k := by
  show (a.toBitVec.sshiftRight (s.toBitVec.smod 32).toNat).toInt = _
  rw [hs, BitVec.toInt_sshiftRight]
  rfl
theorem pk_shrN {n : Nat} (h : n < 2 ^ 31) (s : Int32) (k : Nat) (hs : (s.toBitVec.smod 32).toNat = k) : nI n >>> s = nI (n / 2 ^ k) := by
  apply Int32.toInt_inj.mp
  have h2 : n / 2 ^ k ≤ n := Nat.div_le_self _ _
  rw [pk_shr _ _ k hs, nI_toInt h, nI_toInt (by omega), Int.shiftRight_eq_div_pow]
  rfl
theorem pk_ushr (x s : Int32) (k : Nat) (hs : ((s.toUInt32 &&& Int32.toUInt32 31).toBitVec % 32).toNat = k) : (x.toUInt32 >>> (s.toUInt32 &&& Int32.toUInt32 31)).toInt32.toBitVec.toNat = x.toBitVec.toNat / 2 ^ k := by
  have e : (x.toUInt32 >>> (s.toUInt32 &&& Int32.toUInt32 31)).toInt32.toBitVec = x.toBitVec >>> k := by
    rw [← hs]
    exact UInt32.toBitVec_shiftRight _ _
  rw [e, BitVec.toNat_ushiftRight, Nat.shiftRight_eq_div_pow]
theorem pk_ushrN {n : Nat} (hn : n < 2 ^ 32) (s : Int32) (k : Nat) (hs : ((s.toUInt32 &&& Int32.toUInt32 31).toBitVec % 32).toNat = k) : ((nI n).toUInt32 >>> (s.toUInt32 &&& Int32.toUInt32 31)).toInt32 = nI (n / 2 ^ k) := by
  apply Int32.toBitVec_inj.mp
  apply BitVec.eq_of_toNat_eq
  rw [pk_ushr _ s k hs, pk_tn hn, pk_tn (Nat.lt_of_le_of_lt (Nat.div_le_self _ _) hn)]
theorem pk_nb (z : Int32) : narrow .byte (.int z.toInt8.toInt32) = .int z.toInt8.toInt32 := congrArg Value.int (by simp)
theorem pk_ns (z : Int32) : narrow .short (.int z.toInt16.toInt32) = .int z.toInt16.toInt32 := congrArg Value.int (by simp)
theorem pk_fb (r : Int32) : fits .byte (.int r.toInt8.toInt32) = true := by
  have ⟨a, b⟩ := lg_i2b_range r
  have h1 : (-128 : Int32).toInt = -128 := by decide
  have h2 : (127 : Int32).toInt = 127 := by decide
  simp only [fits, Bool.and_eq_true, decide_eq_true_eq, Int32.le_iff_toInt_le, h1, h2]
  omega
theorem pk_fs (r : Int32) : fits .short (.int r.toInt16.toInt32) = true := by
  have ⟨a, b⟩ := lg_i2s_range r
  have h1 : (-32768 : Int32).toInt = -32768 := by decide
  have h2 : (32767 : Int32).toInt = 32767 := by decide
  simp only [fits, Bool.and_eq_true, decide_eq_true_eq, Int32.le_iff_toInt_le, h1, h2]
  omega
theorem pk_charN {q : Nat} (hq : q < 65536) : narrow .char (.int (nI q)) = .int (nI q) ∧ fits .char (.int (nI q)) = true := by
  constructor
  · have e : (nI q).toUInt32.toUInt16.toUInt32.toInt32 = nI q := by
      apply Int32.toBitVec_inj.mp
      apply BitVec.eq_of_toNat_eq
      show (nI q).toUInt32.toUInt16.toUInt32.toNat = q % 2 ^ 32
      rw [UInt16.toNat_toUInt32, UInt32.toNat_toUInt16, show (nI q).toUInt32.toNat = q % 2 ^ 32 from rfl]
      omega
    exact congrArg Value.int e
  · have a : (0 : Int32) ≤ nI q := nI_pos' (by omega)
    have b : nI q ≤ 65535 := nI_le (b := 65535) (by omega) (by decide)
    show (decide ((0 : Int32) ≤ nI q) && decide (nI q ≤ 65535)) = true
    rw [decide_eq_true a, decide_eq_true b]
    rfl
theorem pk_char (x : Int32) : (x.toUInt32 % 65536).toInt32 = nI (x.toBitVec.toNat % 65536) := by
  apply Int32.toBitVec_inj.mp
  apply BitVec.eq_of_toNat_eq
  rw [pk_tn (by omega)]
  show (x.toUInt32 % 65536).toNat = _
  rw [UInt32.toNat_mod]
  rfl
theorem pk_nc (x : Int32) : narrow .char (.int (x.toUInt32 % 65536).toInt32) = .int (x.toUInt32 % 65536).toInt32 := by
  rw [pk_char]
  exact (pk_charN (Nat.mod_lt _ (by decide))).1
theorem pk_fc (x : Int32) : fits .char (.int (x.toUInt32 % 65536).toInt32) = true := by
  rw [pk_char]
  exact (pk_charN (Nat.mod_lt _ (by decide))).2
theorem pk_vb (z : Int32) : vp_nar .byte z.toInt8.toInt32 = z.toInt8.toInt32 := by rw [vp_nar_byte]; simp
theorem pk_vs (z : Int32) : vp_nar .short z.toInt16.toInt32 = z.toInt16.toInt32 := by rw [vp_nar_short]; simp
theorem pk_vc (z : Int32) : vp_nar .char (z.toUInt32 % 65536).toInt32 = (z.toUInt32 % 65536).toInt32 := Value.int.inj (pk_nc z)
theorem pk_lT {n : Nat} (h : n < 2 ^ 63) : (lN n).toInt = (n : Int) := lg_ofNat_toInt h
theorem pk_lLT {a b : Nat} (ha : a < 2 ^ 63) (hb : b < 2 ^ 63) : lN a < lN b ↔ a < b := by
  rw [Int64.lt_iff_toInt_lt, pk_lT ha, pk_lT hb]; omega
theorem pk_lLE {a b : Nat} (ha : a < 2 ^ 63) (hb : b < 2 ^ 63) : lN a ≤ lN b ↔ a ≤ b := by
  rw [Int64.le_iff_toInt_le, pk_lT ha, pk_lT hb]; omega
theorem pk_lEQ {a b : Nat} (ha : a < 2 ^ 63) (hb : b < 2 ^ 63) : lN a = lN b ↔ a = b := by
  rw [← Int64.toInt_inj, pk_lT ha, pk_lT hb]; omega
theorem pk_lOf {x : Int64} (h : ¬ x < 0) : ∃ k : Nat, k < 2 ^ 63 ∧ x = lN k := by
  rw [Int64.lt_iff_toInt_lt] at h
  have h0 : (0 : Int64).toInt = 0 := by decide
  have hx := Int64.toInt_lt x
  refine ⟨x.toInt.toNat, by omega, Int64.toInt_inj.mp ?_⟩
  rw [pk_lT (by omega)]
  omega
theorem pk_lDiv {a b : Nat} (ha : a < 2 ^ 63) (h0 : 0 < b) (hb : b < 2 ^ 63) : lN a / lN b = lN (a / b) := by
  apply Int64.toInt_inj.mp
  rw [lg_ldiv_nonneg (by rw [pk_lT ha]; omega) (by rw [pk_lT hb]; omega), pk_lT ha, pk_lT hb, pk_lT (Nat.lt_of_le_of_lt (Nat.div_le_self a b) ha)]
  rfl
theorem pk_lRem {a b : Nat} (ha : a < 2 ^ 63) (h0 : 0 < b) (hb : b < 2 ^ 63) : lN a - lN a / lN b * lN b = lN (a % b) := by
  rw [pk_lDiv ha h0 hb, lN_mul, lN_sub (Nat.div_mul_le_self a b)]
  exact congrArg lN (by have := Nat.div_add_mod' a b; omega)
theorem pk_loop {σ : Type} (W : Nat → Nat → σ → Prop) (I : Nat → σ → Prop) (e i0 : Nat) (s : σ) (hi : i0 ≤ e) (h0 : I i0 s) (hx : ∀ n s, I e s → W (n + 1) e s)
    (hs : ∀ n i s, i < e → I i s → (∀ s', I (i + 1) s' → W n (i + 1) s') → W (n + 1) i s) : ∃ n, W n i0 s :=
  ⟨e + 1, loop_i W I e hx hs (e + 1) i0 s hi (by omega) h0⟩
theorem pk_loopD {σ : Type} (W : Nat → Nat → σ → Prop) (I : Nat → σ → Prop) (hx : ∀ n s, I 0 s → W (n + 1) 0 s)
    (hs : ∀ n i s, I (i + 1) s → (∀ s', I i s' → W n i s') → W (n + 1) (i + 1) s) : ∀ (e : Nat) (s : σ), I e s → W (e + 1) e s := by
  intro e
  induction e with
  | zero => exact fun s h => hx 0 s h
  | succ e ih => exact fun s h => hs (e + 1) e s h (fun s' h' => ih s' h')
theorem lp1 {A1 : Type} (W : Nat → A1 → Prop) (I : A1 → Prop) (μ : A1 → Nat) (hs : ∀ (n : Nat) (a1 : A1), I a1 → (∀ (b1 : A1), I b1 → μ b1 < μ a1 → W n b1) → W (n + 1) a1) (a1 : A1) (h : I a1) : ∃ n, W n a1 :=
  loop_m (σ := A1) (fun n s => W n s) (fun s => I s) (fun s => μ s) (fun n s hI hk => hs n s hI (fun b1 h9 hm => hk b1 h9 hm)) a1 h
theorem lp2 {A1 A2 : Type} (W : Nat → A1 → A2 → Prop) (I : A1 → A2 → Prop) (μ : A1 → A2 → Nat) (hs : ∀ (n : Nat) (a1 : A1) (a2 : A2), I a1 a2 → (∀ (b1 : A1) (b2 : A2), I b1 b2 → μ b1 b2 < μ a1 a2 → W n b1 b2) → W (n + 1) a1 a2) (a1 : A1) (a2 : A2) (h : I a1 a2) : ∃ n, W n a1 a2 :=
  loop_m (σ := A1 × A2) (fun n s => W n s.1 s.2) (fun s => I s.1 s.2) (fun s => μ s.1 s.2) (fun n s hI hk => hs n s.1 s.2 hI (fun b1 b2 h9 hm => hk (b1, b2) h9 hm)) (a1, a2) h
theorem lp3 {A1 A2 A3 : Type} (W : Nat → A1 → A2 → A3 → Prop) (I : A1 → A2 → A3 → Prop) (μ : A1 → A2 → A3 → Nat) (hs : ∀ (n : Nat) (a1 : A1) (a2 : A2) (a3 : A3), I a1 a2 a3 → (∀ (b1 : A1) (b2 : A2) (b3 : A3), I b1 b2 b3 → μ b1 b2 b3 < μ a1 a2 a3 → W n b1 b2 b3) → W (n + 1) a1 a2 a3) (a1 : A1) (a2 : A2) (a3 : A3) (h : I a1 a2 a3) : ∃ n, W n a1 a2 a3 :=
  loop_m (σ := A1 × A2 × A3) (fun n s => W n s.1 s.2.1 s.2.2) (fun s => I s.1 s.2.1 s.2.2) (fun s => μ s.1 s.2.1 s.2.2) (fun n s hI hk => hs n s.1 s.2.1 s.2.2 hI (fun b1 b2 b3 h9 hm => hk (b1, b2, b3) h9 hm)) (a1, a2, a3) h
theorem lp4 {A1 A2 A3 A4 : Type} (W : Nat → A1 → A2 → A3 → A4 → Prop) (I : A1 → A2 → A3 → A4 → Prop) (μ : A1 → A2 → A3 → A4 → Nat) (hs : ∀ (n : Nat) (a1 : A1) (a2 : A2) (a3 : A3) (a4 : A4), I a1 a2 a3 a4 → (∀ (b1 : A1) (b2 : A2) (b3 : A3) (b4 : A4), I b1 b2 b3 b4 → μ b1 b2 b3 b4 < μ a1 a2 a3 a4 → W n b1 b2 b3 b4) → W (n + 1) a1 a2 a3 a4) (a1 : A1) (a2 : A2) (a3 : A3) (a4 : A4) (h : I a1 a2 a3 a4) : ∃ n, W n a1 a2 a3 a4 :=
  loop_m (σ := A1 × A2 × A3 × A4) (fun n s => W n s.1 s.2.1 s.2.2.1 s.2.2.2) (fun s => I s.1 s.2.1 s.2.2.1 s.2.2.2) (fun s => μ s.1 s.2.1 s.2.2.1 s.2.2.2) (fun n s hI hk => hs n s.1 s.2.1 s.2.2.1 s.2.2.2 hI (fun b1 b2 b3 b4 h9 hm => hk (b1, b2, b3, b4) h9 hm)) (a1, a2, a3, a4) h
theorem lp5 {A1 A2 A3 A4 A5 : Type} (W : Nat → A1 → A2 → A3 → A4 → A5 → Prop) (I : A1 → A2 → A3 → A4 → A5 → Prop) (μ : A1 → A2 → A3 → A4 → A5 → Nat) (hs : ∀ (n : Nat) (a1 : A1) (a2 : A2) (a3 : A3) (a4 : A4) (a5 : A5), I a1 a2 a3 a4 a5 → (∀ (b1 : A1) (b2 : A2) (b3 : A3) (b4 : A4) (b5 : A5), I b1 b2 b3 b4 b5 → μ b1 b2 b3 b4 b5 < μ a1 a2 a3 a4 a5 → W n b1 b2 b3 b4 b5) → W (n + 1) a1 a2 a3 a4 a5) (a1 : A1) (a2 : A2) (a3 : A3) (a4 : A4) (a5 : A5) (h : I a1 a2 a3 a4 a5) : ∃ n, W n a1 a2 a3 a4 a5 :=
  loop_m (σ := A1 × A2 × A3 × A4 × A5) (fun n s => W n s.1 s.2.1 s.2.2.1 s.2.2.2.1 s.2.2.2.2) (fun s => I s.1 s.2.1 s.2.2.1 s.2.2.2.1 s.2.2.2.2) (fun s => μ s.1 s.2.1 s.2.2.1 s.2.2.2.1 s.2.2.2.2) (fun n s hI hk => hs n s.1 s.2.1 s.2.2.1 s.2.2.2.1 s.2.2.2.2 hI (fun b1 b2 b3 b4 b5 h9 hm => hk (b1, b2, b3, b4, b5) h9 hm)) (a1, a2, a3, a4, a5) h
theorem lp6 {A1 A2 A3 A4 A5 A6 : Type} (W : Nat → A1 → A2 → A3 → A4 → A5 → A6 → Prop) (I : A1 → A2 → A3 → A4 → A5 → A6 → Prop) (μ : A1 → A2 → A3 → A4 → A5 → A6 → Nat) (hs : ∀ (n : Nat) (a1 : A1) (a2 : A2) (a3 : A3) (a4 : A4) (a5 : A5) (a6 : A6), I a1 a2 a3 a4 a5 a6 → (∀ (b1 : A1) (b2 : A2) (b3 : A3) (b4 : A4) (b5 : A5) (b6 : A6), I b1 b2 b3 b4 b5 b6 → μ b1 b2 b3 b4 b5 b6 < μ a1 a2 a3 a4 a5 a6 → W n b1 b2 b3 b4 b5 b6) → W (n + 1) a1 a2 a3 a4 a5 a6) (a1 : A1) (a2 : A2) (a3 : A3) (a4 : A4) (a5 : A5) (a6 : A6) (h : I a1 a2 a3 a4 a5 a6) : ∃ n, W n a1 a2 a3 a4 a5 a6 :=
  loop_m (σ := A1 × A2 × A3 × A4 × A5 × A6) (fun n s => W n s.1 s.2.1 s.2.2.1 s.2.2.2.1 s.2.2.2.2.1 s.2.2.2.2.2) (fun s => I s.1 s.2.1 s.2.2.1 s.2.2.2.1 s.2.2.2.2.1 s.2.2.2.2.2) (fun s => μ s.1 s.2.1 s.2.2.1 s.2.2.2.1 s.2.2.2.2.1 s.2.2.2.2.2) (fun n s hI hk => hs n s.1 s.2.1 s.2.2.1 s.2.2.2.1 s.2.2.2.2.1 s.2.2.2.2.2 hI (fun b1 b2 b3 b4 b5 b6 h9 hm => hk (b1, b2, b3, b4, b5, b6) h9 hm)) (a1, a2, a3, a4, a5, a6) h
theorem lp7 {A1 A2 A3 A4 A5 A6 A7 : Type} (W : Nat → A1 → A2 → A3 → A4 → A5 → A6 → A7 → Prop) (I : A1 → A2 → A3 → A4 → A5 → A6 → A7 → Prop) (μ : A1 → A2 → A3 → A4 → A5 → A6 → A7 → Nat) (hs : ∀ (n : Nat) (a1 : A1) (a2 : A2) (a3 : A3) (a4 : A4) (a5 : A5) (a6 : A6) (a7 : A7), I a1 a2 a3 a4 a5 a6 a7 → (∀ (b1 : A1) (b2 : A2) (b3 : A3) (b4 : A4) (b5 : A5) (b6 : A6) (b7 : A7), I b1 b2 b3 b4 b5 b6 b7 → μ b1 b2 b3 b4 b5 b6 b7 < μ a1 a2 a3 a4 a5 a6 a7 → W n b1 b2 b3 b4 b5 b6 b7) → W (n + 1) a1 a2 a3 a4 a5 a6 a7) (a1 : A1) (a2 : A2) (a3 : A3) (a4 : A4) (a5 : A5) (a6 : A6) (a7 : A7) (h : I a1 a2 a3 a4 a5 a6 a7) : ∃ n, W n a1 a2 a3 a4 a5 a6 a7 :=
  loop_m (σ := A1 × A2 × A3 × A4 × A5 × A6 × A7) (fun n s => W n s.1 s.2.1 s.2.2.1 s.2.2.2.1 s.2.2.2.2.1 s.2.2.2.2.2.1 s.2.2.2.2.2.2) (fun s => I s.1 s.2.1 s.2.2.1 s.2.2.2.1 s.2.2.2.2.1 s.2.2.2.2.2.1 s.2.2.2.2.2.2) (fun s => μ s.1 s.2.1 s.2.2.1 s.2.2.2.1 s.2.2.2.2.1 s.2.2.2.2.2.1 s.2.2.2.2.2.2) (fun n s hI hk => hs n s.1 s.2.1 s.2.2.1 s.2.2.2.1 s.2.2.2.2.1 s.2.2.2.2.2.1 s.2.2.2.2.2.2 hI (fun b1 b2 b3 b4 b5 b6 b7 h9 hm => hk (b1, b2, b3, b4, b5, b6, b7) h9 hm)) (a1, a2, a3, a4, a5, a6, a7) h
theorem lp8 {A1 A2 A3 A4 A5 A6 A7 A8 : Type} (W : Nat → A1 → A2 → A3 → A4 → A5 → A6 → A7 → A8 → Prop) (I : A1 → A2 → A3 → A4 → A5 → A6 → A7 → A8 → Prop) (μ : A1 → A2 → A3 → A4 → A5 → A6 → A7 → A8 → Nat) (hs : ∀ (n : Nat) (a1 : A1) (a2 : A2) (a3 : A3) (a4 : A4) (a5 : A5) (a6 : A6) (a7 : A7) (a8 : A8), I a1 a2 a3 a4 a5 a6 a7 a8 → (∀ (b1 : A1) (b2 : A2) (b3 : A3) (b4 : A4) (b5 : A5) (b6 : A6) (b7 : A7) (b8 : A8), I b1 b2 b3 b4 b5 b6 b7 b8 → μ b1 b2 b3 b4 b5 b6 b7 b8 < μ a1 a2 a3 a4 a5 a6 a7 a8 → W n b1 b2 b3 b4 b5 b6 b7 b8) → W (n + 1) a1 a2 a3 a4 a5 a6 a7 a8) (a1 : A1) (a2 : A2) (a3 : A3) (a4 : A4) (a5 : A5) (a6 : A6) (a7 : A7) (a8 : A8) (h : I a1 a2 a3 a4 a5 a6 a7 a8) : ∃ n, W n a1 a2 a3 a4 a5 a6 a7 a8 :=
  loop_m (σ := A1 × A2 × A3 × A4 × A5 × A6 × A7 × A8) (fun n s => W n s.1 s.2.1 s.2.2.1 s.2.2.2.1 s.2.2.2.2.1 s.2.2.2.2.2.1 s.2.2.2.2.2.2.1 s.2.2.2.2.2.2.2) (fun s => I s.1 s.2.1 s.2.2.1 s.2.2.2.1 s.2.2.2.2.1 s.2.2.2.2.2.1 s.2.2.2.2.2.2.1 s.2.2.2.2.2.2.2) (fun s => μ s.1 s.2.1 s.2.2.1 s.2.2.2.1 s.2.2.2.2.1 s.2.2.2.2.2.1 s.2.2.2.2.2.2.1 s.2.2.2.2.2.2.2) (fun n s hI hk => hs n s.1 s.2.1 s.2.2.1 s.2.2.2.1 s.2.2.2.2.1 s.2.2.2.2.2.1 s.2.2.2.2.2.2.1 s.2.2.2.2.2.2.2 hI (fun b1 b2 b3 b4 b5 b6 b7 b8 h9 hm => hk (b1, b2, b3, b4, b5, b6, b7, b8) h9 hm)) (a1, a2, a3, a4, a5, a6, a7, a8) h
theorem lp9 {A1 A2 A3 A4 A5 A6 A7 A8 A9 : Type} (W : Nat → A1 → A2 → A3 → A4 → A5 → A6 → A7 → A8 → A9 → Prop) (I : A1 → A2 → A3 → A4 → A5 → A6 → A7 → A8 → A9 → Prop) (μ : A1 → A2 → A3 → A4 → A5 → A6 → A7 → A8 → A9 → Nat) (hs : ∀ (n : Nat) (a1 : A1) (a2 : A2) (a3 : A3) (a4 : A4) (a5 : A5) (a6 : A6) (a7 : A7) (a8 : A8) (a9 : A9), I a1 a2 a3 a4 a5 a6 a7 a8 a9 → (∀ (b1 : A1) (b2 : A2) (b3 : A3) (b4 : A4) (b5 : A5) (b6 : A6) (b7 : A7) (b8 : A8) (b9 : A9), I b1 b2 b3 b4 b5 b6 b7 b8 b9 → μ b1 b2 b3 b4 b5 b6 b7 b8 b9 < μ a1 a2 a3 a4 a5 a6 a7 a8 a9 → W n b1 b2 b3 b4 b5 b6 b7 b8 b9) → W (n + 1) a1 a2 a3 a4 a5 a6 a7 a8 a9) (a1 : A1) (a2 : A2) (a3 : A3) (a4 : A4) (a5 : A5) (a6 : A6) (a7 : A7) (a8 : A8) (a9 : A9) (h : I a1 a2 a3 a4 a5 a6 a7 a8 a9) : ∃ n, W n a1 a2 a3 a4 a5 a6 a7 a8 a9 :=
  loop_m (σ := A1 × A2 × A3 × A4 × A5 × A6 × A7 × A8 × A9) (fun n s => W n s.1 s.2.1 s.2.2.1 s.2.2.2.1 s.2.2.2.2.1 s.2.2.2.2.2.1 s.2.2.2.2.2.2.1 s.2.2.2.2.2.2.2.1 s.2.2.2.2.2.2.2.2) (fun s => I s.1 s.2.1 s.2.2.1 s.2.2.2.1 s.2.2.2.2.1 s.2.2.2.2.2.1 s.2.2.2.2.2.2.1 s.2.2.2.2.2.2.2.1 s.2.2.2.2.2.2.2.2) (fun s => μ s.1 s.2.1 s.2.2.1 s.2.2.2.1 s.2.2.2.2.1 s.2.2.2.2.2.1 s.2.2.2.2.2.2.1 s.2.2.2.2.2.2.2.1 s.2.2.2.2.2.2.2.2) (fun n s hI hk => hs n s.1 s.2.1 s.2.2.1 s.2.2.2.1 s.2.2.2.2.1 s.2.2.2.2.2.1 s.2.2.2.2.2.2.1 s.2.2.2.2.2.2.2.1 s.2.2.2.2.2.2.2.2 hI (fun b1 b2 b3 b4 b5 b6 b7 b8 b9 h9 hm => hk (b1, b2, b3, b4, b5, b6, b7, b8, b9) h9 hm)) (a1, a2, a3, a4, a5, a6, a7, a8, a9) h
theorem lp10 {A1 A2 A3 A4 A5 A6 A7 A8 A9 A10 : Type} (W : Nat → A1 → A2 → A3 → A4 → A5 → A6 → A7 → A8 → A9 → A10 → Prop) (I : A1 → A2 → A3 → A4 → A5 → A6 → A7 → A8 → A9 → A10 → Prop) (μ : A1 → A2 → A3 → A4 → A5 → A6 → A7 → A8 → A9 → A10 → Nat) (hs : ∀ (n : Nat) (a1 : A1) (a2 : A2) (a3 : A3) (a4 : A4) (a5 : A5) (a6 : A6) (a7 : A7) (a8 : A8) (a9 : A9) (a10 : A10), I a1 a2 a3 a4 a5 a6 a7 a8 a9 a10 → (∀ (b1 : A1) (b2 : A2) (b3 : A3) (b4 : A4) (b5 : A5) (b6 : A6) (b7 : A7) (b8 : A8) (b9 : A9) (b10 : A10), I b1 b2 b3 b4 b5 b6 b7 b8 b9 b10 → μ b1 b2 b3 b4 b5 b6 b7 b8 b9 b10 < μ a1 a2 a3 a4 a5 a6 a7 a8 a9 a10 → W n b1 b2 b3 b4 b5 b6 b7 b8 b9 b10) → W (n + 1) a1 a2 a3 a4 a5 a6 a7 a8 a9 a10) (a1 : A1) (a2 : A2) (a3 : A3) (a4 : A4) (a5 : A5) (a6 : A6) (a7 : A7) (a8 : A8) (a9 : A9) (a10 : A10) (h : I a1 a2 a3 a4 a5 a6 a7 a8 a9 a10) : ∃ n, W n a1 a2 a3 a4 a5 a6 a7 a8 a9 a10 :=
  loop_m (σ := A1 × A2 × A3 × A4 × A5 × A6 × A7 × A8 × A9 × A10) (fun n s => W n s.1 s.2.1 s.2.2.1 s.2.2.2.1 s.2.2.2.2.1 s.2.2.2.2.2.1 s.2.2.2.2.2.2.1 s.2.2.2.2.2.2.2.1 s.2.2.2.2.2.2.2.2.1 s.2.2.2.2.2.2.2.2.2) (fun s => I s.1 s.2.1 s.2.2.1 s.2.2.2.1 s.2.2.2.2.1 s.2.2.2.2.2.1 s.2.2.2.2.2.2.1 s.2.2.2.2.2.2.2.1 s.2.2.2.2.2.2.2.2.1 s.2.2.2.2.2.2.2.2.2) (fun s => μ s.1 s.2.1 s.2.2.1 s.2.2.2.1 s.2.2.2.2.1 s.2.2.2.2.2.1 s.2.2.2.2.2.2.1 s.2.2.2.2.2.2.2.1 s.2.2.2.2.2.2.2.2.1 s.2.2.2.2.2.2.2.2.2) (fun n s hI hk => hs n s.1 s.2.1 s.2.2.1 s.2.2.2.1 s.2.2.2.2.1 s.2.2.2.2.2.1 s.2.2.2.2.2.2.1 s.2.2.2.2.2.2.2.1 s.2.2.2.2.2.2.2.2.1 s.2.2.2.2.2.2.2.2.2 hI (fun b1 b2 b3 b4 b5 b6 b7 b8 b9 b10 h9 hm => hk (b1, b2, b3, b4, b5, b6, b7, b8, b9, b10) h9 hm)) (a1, a2, a3, a4, a5, a6, a7, a8, a9, a10) h
theorem lp11 {A1 A2 A3 A4 A5 A6 A7 A8 A9 A10 A11 : Type} (W : Nat → A1 → A2 → A3 → A4 → A5 → A6 → A7 → A8 → A9 → A10 → A11 → Prop) (I : A1 → A2 → A3 → A4 → A5 → A6 → A7 → A8 → A9 → A10 → A11 → Prop) (μ : A1 → A2 → A3 → A4 → A5 → A6 → A7 → A8 → A9 → A10 → A11 → Nat) (hs : ∀ (n : Nat) (a1 : A1) (a2 : A2) (a3 : A3) (a4 : A4) (a5 : A5) (a6 : A6) (a7 : A7) (a8 : A8) (a9 : A9) (a10 : A10) (a11 : A11), I a1 a2 a3 a4 a5 a6 a7 a8 a9 a10 a11 → (∀ (b1 : A1) (b2 : A2) (b3 : A3) (b4 : A4) (b5 : A5) (b6 : A6) (b7 : A7) (b8 : A8) (b9 : A9) (b10 : A10) (b11 : A11), I b1 b2 b3 b4 b5 b6 b7 b8 b9 b10 b11 → μ b1 b2 b3 b4 b5 b6 b7 b8 b9 b10 b11 < μ a1 a2 a3 a4 a5 a6 a7 a8 a9 a10 a11 → W n b1 b2 b3 b4 b5 b6 b7 b8 b9 b10 b11) → W (n + 1) a1 a2 a3 a4 a5 a6 a7 a8 a9 a10 a11) (a1 : A1) (a2 : A2) (a3 : A3) (a4 : A4) (a5 : A5) (a6 : A6) (a7 : A7) (a8 : A8) (a9 : A9) (a10 : A10) (a11 : A11) (h : I a1 a2 a3 a4 a5 a6 a7 a8 a9 a10 a11) : ∃ n, W n a1 a2 a3 a4 a5 a6 a7 a8 a9 a10 a11 :=
  loop_m (σ := A1 × A2 × A3 × A4 × A5 × A6 × A7 × A8 × A9 × A10 × A11) (fun n s => W n s.1 s.2.1 s.2.2.1 s.2.2.2.1 s.2.2.2.2.1 s.2.2.2.2.2.1 s.2.2.2.2.2.2.1 s.2.2.2.2.2.2.2.1 s.2.2.2.2.2.2.2.2.1 s.2.2.2.2.2.2.2.2.2.1 s.2.2.2.2.2.2.2.2.2.2) (fun s => I s.1 s.2.1 s.2.2.1 s.2.2.2.1 s.2.2.2.2.1 s.2.2.2.2.2.1 s.2.2.2.2.2.2.1 s.2.2.2.2.2.2.2.1 s.2.2.2.2.2.2.2.2.1 s.2.2.2.2.2.2.2.2.2.1 s.2.2.2.2.2.2.2.2.2.2) (fun s => μ s.1 s.2.1 s.2.2.1 s.2.2.2.1 s.2.2.2.2.1 s.2.2.2.2.2.1 s.2.2.2.2.2.2.1 s.2.2.2.2.2.2.2.1 s.2.2.2.2.2.2.2.2.1 s.2.2.2.2.2.2.2.2.2.1 s.2.2.2.2.2.2.2.2.2.2) (fun n s hI hk => hs n s.1 s.2.1 s.2.2.1 s.2.2.2.1 s.2.2.2.2.1 s.2.2.2.2.2.1 s.2.2.2.2.2.2.1 s.2.2.2.2.2.2.2.1 s.2.2.2.2.2.2.2.2.1 s.2.2.2.2.2.2.2.2.2.1 s.2.2.2.2.2.2.2.2.2.2 hI (fun b1 b2 b3 b4 b5 b6 b7 b8 b9 b10 b11 h9 hm => hk (b1, b2, b3, b4, b5, b6, b7, b8, b9, b10, b11) h9 hm)) (a1, a2, a3, a4, a5, a6, a7, a8, a9, a10, a11) h
theorem lp12 {A1 A2 A3 A4 A5 A6 A7 A8 A9 A10 A11 A12 : Type} (W : Nat → A1 → A2 → A3 → A4 → A5 → A6 → A7 → A8 → A9 → A10 → A11 → A12 → Prop) (I : A1 → A2 → A3 → A4 → A5 → A6 → A7 → A8 → A9 → A10 → A11 → A12 → Prop) (μ : A1 → A2 → A3 → A4 → A5 → A6 → A7 → A8 → A9 → A10 → A11 → A12 → Nat) (hs : ∀ (n : Nat) (a1 : A1) (a2 : A2) (a3 : A3) (a4 : A4) (a5 : A5) (a6 : A6) (a7 : A7) (a8 : A8) (a9 : A9) (a10 : A10) (a11 : A11) (a12 : A12), I a1 a2 a3 a4 a5 a6 a7 a8 a9 a10 a11 a12 → (∀ (b1 : A1) (b2 : A2) (b3 : A3) (b4 : A4) (b5 : A5) (b6 : A6) (b7 : A7) (b8 : A8) (b9 : A9) (b10 : A10) (b11 : A11) (b12 : A12), I b1 b2 b3 b4 b5 b6 b7 b8 b9 b10 b11 b12 → μ b1 b2 b3 b4 b5 b6 b7 b8 b9 b10 b11 b12 < μ a1 a2 a3 a4 a5 a6 a7 a8 a9 a10 a11 a12 → W n b1 b2 b3 b4 b5 b6 b7 b8 b9 b10 b11 b12) → W (n + 1) a1 a2 a3 a4 a5 a6 a7 a8 a9 a10 a11 a12) (a1 : A1) (a2 : A2) (a3 : A3) (a4 : A4) (a5 : A5) (a6 : A6) (a7 : A7) (a8 : A8) (a9 : A9) (a10 : A10) (a11 : A11) (a12 : A12) (h : I a1 a2 a3 a4 a5 a6 a7 a8 a9 a10 a11 a12) : ∃ n, W n a1 a2 a3 a4 a5 a6 a7 a8 a9 a10 a11 a12 :=
  loop_m (σ := A1 × A2 × A3 × A4 × A5 × A6 × A7 × A8 × A9 × A10 × A11 × A12) (fun n s => W n s.1 s.2.1 s.2.2.1 s.2.2.2.1 s.2.2.2.2.1 s.2.2.2.2.2.1 s.2.2.2.2.2.2.1 s.2.2.2.2.2.2.2.1 s.2.2.2.2.2.2.2.2.1 s.2.2.2.2.2.2.2.2.2.1 s.2.2.2.2.2.2.2.2.2.2.1 s.2.2.2.2.2.2.2.2.2.2.2) (fun s => I s.1 s.2.1 s.2.2.1 s.2.2.2.1 s.2.2.2.2.1 s.2.2.2.2.2.1 s.2.2.2.2.2.2.1 s.2.2.2.2.2.2.2.1 s.2.2.2.2.2.2.2.2.1 s.2.2.2.2.2.2.2.2.2.1 s.2.2.2.2.2.2.2.2.2.2.1 s.2.2.2.2.2.2.2.2.2.2.2) (fun s => μ s.1 s.2.1 s.2.2.1 s.2.2.2.1 s.2.2.2.2.1 s.2.2.2.2.2.1 s.2.2.2.2.2.2.1 s.2.2.2.2.2.2.2.1 s.2.2.2.2.2.2.2.2.1 s.2.2.2.2.2.2.2.2.2.1 s.2.2.2.2.2.2.2.2.2.2.1 s.2.2.2.2.2.2.2.2.2.2.2) (fun n s hI hk => hs n s.1 s.2.1 s.2.2.1 s.2.2.2.1 s.2.2.2.2.1 s.2.2.2.2.2.1 s.2.2.2.2.2.2.1 s.2.2.2.2.2.2.2.1 s.2.2.2.2.2.2.2.2.1 s.2.2.2.2.2.2.2.2.2.1 s.2.2.2.2.2.2.2.2.2.2.1 s.2.2.2.2.2.2.2.2.2.2.2 hI (fun b1 b2 b3 b4 b5 b6 b7 b8 b9 b10 b11 b12 h9 hm => hk (b1, b2, b3, b4, b5, b6, b7, b8, b9, b10, b11, b12) h9 hm)) (a1, a2, a3, a4, a5, a6, a7, a8, a9, a10, a11, a12) h
theorem lp13 {A1 A2 A3 A4 A5 A6 A7 A8 A9 A10 A11 A12 A13 : Type} (W : Nat → A1 → A2 → A3 → A4 → A5 → A6 → A7 → A8 → A9 → A10 → A11 → A12 → A13 → Prop) (I : A1 → A2 → A3 → A4 → A5 → A6 → A7 → A8 → A9 → A10 → A11 → A12 → A13 → Prop) (μ : A1 → A2 → A3 → A4 → A5 → A6 → A7 → A8 → A9 → A10 → A11 → A12 → A13 → Nat) (hs : ∀ (n : Nat) (a1 : A1) (a2 : A2) (a3 : A3) (a4 : A4) (a5 : A5) (a6 : A6) (a7 : A7) (a8 : A8) (a9 : A9) (a10 : A10) (a11 : A11) (a12 : A12) (a13 : A13), I a1 a2 a3 a4 a5 a6 a7 a8 a9 a10 a11 a12 a13 → (∀ (b1 : A1) (b2 : A2) (b3 : A3) (b4 : A4) (b5 : A5) (b6 : A6) (b7 : A7) (b8 : A8) (b9 : A9) (b10 : A10) (b11 : A11) (b12 : A12) (b13 : A13), I b1 b2 b3 b4 b5 b6 b7 b8 b9 b10 b11 b12 b13 → μ b1 b2 b3 b4 b5 b6 b7 b8 b9 b10 b11 b12 b13 < μ a1 a2 a3 a4 a5 a6 a7 a8 a9 a10 a11 a12 a13 → W n b1 b2 b3 b4 b5 b6 b7 b8 b9 b10 b11 b12 b13) → W (n + 1) a1 a2 a3 a4 a5 a6 a7 a8 a9 a10 a11 a12 a13) (a1 : A1) (a2 : A2) (a3 : A3) (a4 : A4) (a5 : A5) (a6 : A6) (a7 : A7) (a8 : A8) (a9 : A9) (a10 : A10) (a11 : A11) (a12 : A12) (a13 : A13) (h : I a1 a2 a3 a4 a5 a6 a7 a8 a9 a10 a11 a12 a13) : ∃ n, W n a1 a2 a3 a4 a5 a6 a7 a8 a9 a10 a11 a12 a13 :=
  loop_m (σ := A1 × A2 × A3 × A4 × A5 × A6 × A7 × A8 × A9 × A10 × A11 × A12 × A13) (fun n s => W n s.1 s.2.1 s.2.2.1 s.2.2.2.1 s.2.2.2.2.1 s.2.2.2.2.2.1 s.2.2.2.2.2.2.1 s.2.2.2.2.2.2.2.1 s.2.2.2.2.2.2.2.2.1 s.2.2.2.2.2.2.2.2.2.1 s.2.2.2.2.2.2.2.2.2.2.1 s.2.2.2.2.2.2.2.2.2.2.2.1 s.2.2.2.2.2.2.2.2.2.2.2.2) (fun s => I s.1 s.2.1 s.2.2.1 s.2.2.2.1 s.2.2.2.2.1 s.2.2.2.2.2.1 s.2.2.2.2.2.2.1 s.2.2.2.2.2.2.2.1 s.2.2.2.2.2.2.2.2.1 s.2.2.2.2.2.2.2.2.2.1 s.2.2.2.2.2.2.2.2.2.2.1 s.2.2.2.2.2.2.2.2.2.2.2.1 s.2.2.2.2.2.2.2.2.2.2.2.2) (fun s => μ s.1 s.2.1 s.2.2.1 s.2.2.2.1 s.2.2.2.2.1 s.2.2.2.2.2.1 s.2.2.2.2.2.2.1 s.2.2.2.2.2.2.2.1 s.2.2.2.2.2.2.2.2.1 s.2.2.2.2.2.2.2.2.2.1 s.2.2.2.2.2.2.2.2.2.2.1 s.2.2.2.2.2.2.2.2.2.2.2.1 s.2.2.2.2.2.2.2.2.2.2.2.2) (fun n s hI hk => hs n s.1 s.2.1 s.2.2.1 s.2.2.2.1 s.2.2.2.2.1 s.2.2.2.2.2.1 s.2.2.2.2.2.2.1 s.2.2.2.2.2.2.2.1 s.2.2.2.2.2.2.2.2.1 s.2.2.2.2.2.2.2.2.2.1 s.2.2.2.2.2.2.2.2.2.2.1 s.2.2.2.2.2.2.2.2.2.2.2.1 s.2.2.2.2.2.2.2.2.2.2.2.2 hI (fun b1 b2 b3 b4 b5 b6 b7 b8 b9 b10 b11 b12 b13 h9 hm => hk (b1, b2, b3, b4, b5, b6, b7, b8, b9, b10, b11, b12, b13) h9 hm)) (a1, a2, a3, a4, a5, a6, a7, a8, a9, a10, a11, a12, a13) h
theorem lp14 {A1 A2 A3 A4 A5 A6 A7 A8 A9 A10 A11 A12 A13 A14 : Type} (W : Nat → A1 → A2 → A3 → A4 → A5 → A6 → A7 → A8 → A9 → A10 → A11 → A12 → A13 → A14 → Prop) (I : A1 → A2 → A3 → A4 → A5 → A6 → A7 → A8 → A9 → A10 → A11 → A12 → A13 → A14 → Prop) (μ : A1 → A2 → A3 → A4 → A5 → A6 → A7 → A8 → A9 → A10 → A11 → A12 → A13 → A14 → Nat) (hs : ∀ (n : Nat) (a1 : A1) (a2 : A2) (a3 : A3) (a4 : A4) (a5 : A5) (a6 : A6) (a7 : A7) (a8 : A8) (a9 : A9) (a10 : A10) (a11 : A11) (a12 : A12) (a13 : A13) (a14 : A14), I a1 a2 a3 a4 a5 a6 a7 a8 a9 a10 a11 a12 a13 a14 → (∀ (b1 : A1) (b2 : A2) (b3 : A3) (b4 : A4) (b5 : A5) (b6 : A6) (b7 : A7) (b8 : A8) (b9 : A9) (b10 : A10) (b11 : A11) (b12 : A12) (b13 : A13) (b14 : A14), I b1 b2 b3 b4 b5 b6 b7 b8 b9 b10 b11 b12 b13 b14 → μ b1 b2 b3 b4 b5 b6 b7 b8 b9 b10 b11 b12 b13 b14 < μ a1 a2 a3 a4 a5 a6 a7 a8 a9 a10 a11 a12 a13 a14 → W n b1 b2 b3 b4 b5 b6 b7 b8 b9 b10 b11 b12 b13 b14) → W (n + 1) a1 a2 a3 a4 a5 a6 a7 a8 a9 a10 a11 a12 a13 a14) (a1 : A1) (a2 : A2) (a3 : A3) (a4 : A4) (a5 : A5) (a6 : A6) (a7 : A7) (a8 : A8) (a9 : A9) (a10 : A10) (a11 : A11) (a12 : A12) (a13 : A13) (a14 : A14) (h : I a1 a2 a3 a4 a5 a6 a7 a8 a9 a10 a11 a12 a13 a14) : ∃ n, W n a1 a2 a3 a4 a5 a6 a7 a8 a9 a10 a11 a12 a13 a14 :=
  loop_m (σ := A1 × A2 × A3 × A4 × A5 × A6 × A7 × A8 × A9 × A10 × A11 × A12 × A13 × A14) (fun n s => W n s.1 s.2.1 s.2.2.1 s.2.2.2.1 s.2.2.2.2.1 s.2.2.2.2.2.1 s.2.2.2.2.2.2.1 s.2.2.2.2.2.2.2.1 s.2.2.2.2.2.2.2.2.1 s.2.2.2.2.2.2.2.2.2.1 s.2.2.2.2.2.2.2.2.2.2.1 s.2.2.2.2.2.2.2.2.2.2.2.1 s.2.2.2.2.2.2.2.2.2.2.2.2.1 s.2.2.2.2.2.2.2.2.2.2.2.2.2) (fun s => I s.1 s.2.1 s.2.2.1 s.2.2.2.1 s.2.2.2.2.1 s.2.2.2.2.2.1 s.2.2.2.2.2.2.1 s.2.2.2.2.2.2.2.1 s.2.2.2.2.2.2.2.2.1 s.2.2.2.2.2.2.2.2.2.1 s.2.2.2.2.2.2.2.2.2.2.1 s.2.2.2.2.2.2.2.2.2.2.2.1 s.2.2.2.2.2.2.2.2.2.2.2.2.1 s.2.2.2.2.2.2.2.2.2.2.2.2.2) (fun s => μ s.1 s.2.1 s.2.2.1 s.2.2.2.1 s.2.2.2.2.1 s.2.2.2.2.2.1 s.2.2.2.2.2.2.1 s.2.2.2.2.2.2.2.1 s.2.2.2.2.2.2.2.2.1 s.2.2.2.2.2.2.2.2.2.1 s.2.2.2.2.2.2.2.2.2.2.1 s.2.2.2.2.2.2.2.2.2.2.2.1 s.2.2.2.2.2.2.2.2.2.2.2.2.1 s.2.2.2.2.2.2.2.2.2.2.2.2.2) (fun n s hI hk => hs n s.1 s.2.1 s.2.2.1 s.2.2.2.1 s.2.2.2.2.1 s.2.2.2.2.2.1 s.2.2.2.2.2.2.1 s.2.2.2.2.2.2.2.1 s.2.2.2.2.2.2.2.2.1 s.2.2.2.2.2.2.2.2.2.1 s.2.2.2.2.2.2.2.2.2.2.1 s.2.2.2.2.2.2.2.2.2.2.2.1 s.2.2.2.2.2.2.2.2.2.2.2.2.1 s.2.2.2.2.2.2.2.2.2.2.2.2.2 hI (fun b1 b2 b3 b4 b5 b6 b7 b8 b9 b10 b11 b12 b13 b14 h9 hm => hk (b1, b2, b3, b4, b5, b6, b7, b8, b9, b10, b11, b12, b13, b14) h9 hm)) (a1, a2, a3, a4, a5, a6, a7, a8, a9, a10, a11, a12, a13, a14) h
theorem lp15 {A1 A2 A3 A4 A5 A6 A7 A8 A9 A10 A11 A12 A13 A14 A15 : Type} (W : Nat → A1 → A2 → A3 → A4 → A5 → A6 → A7 → A8 → A9 → A10 → A11 → A12 → A13 → A14 → A15 → Prop) (I : A1 → A2 → A3 → A4 → A5 → A6 → A7 → A8 → A9 → A10 → A11 → A12 → A13 → A14 → A15 → Prop) (μ : A1 → A2 → A3 → A4 → A5 → A6 → A7 → A8 → A9 → A10 → A11 → A12 → A13 → A14 → A15 → Nat) (hs : ∀ (n : Nat) (a1 : A1) (a2 : A2) (a3 : A3) (a4 : A4) (a5 : A5) (a6 : A6) (a7 : A7) (a8 : A8) (a9 : A9) (a10 : A10) (a11 : A11) (a12 : A12) (a13 : A13) (a14 : A14) (a15 : A15), I a1 a2 a3 a4 a5 a6 a7 a8 a9 a10 a11 a12 a13 a14 a15 → (∀ (b1 : A1) (b2 : A2) (b3 : A3) (b4 : A4) (b5 : A5) (b6 : A6) (b7 : A7) (b8 : A8) (b9 : A9) (b10 : A10) (b11 : A11) (b12 : A12) (b13 : A13) (b14 : A14) (b15 : A15), I b1 b2 b3 b4 b5 b6 b7 b8 b9 b10 b11 b12 b13 b14 b15 → μ b1 b2 b3 b4 b5 b6 b7 b8 b9 b10 b11 b12 b13 b14 b15 < μ a1 a2 a3 a4 a5 a6 a7 a8 a9 a10 a11 a12 a13 a14 a15 → W n b1 b2 b3 b4 b5 b6 b7 b8 b9 b10 b11 b12 b13 b14 b15) → W (n + 1) a1 a2 a3 a4 a5 a6 a7 a8 a9 a10 a11 a12 a13 a14 a15) (a1 : A1) (a2 : A2) (a3 : A3) (a4 : A4) (a5 : A5) (a6 : A6) (a7 : A7) (a8 : A8) (a9 : A9) (a10 : A10) (a11 : A11) (a12 : A12) (a13 : A13) (a14 : A14) (a15 : A15) (h : I a1 a2 a3 a4 a5 a6 a7 a8 a9 a10 a11 a12 a13 a14 a15) : ∃ n, W n a1 a2 a3 a4 a5 a6 a7 a8 a9 a10 a11 a12 a13 a14 a15 :=
  loop_m (σ := A1 × A2 × A3 × A4 × A5 × A6 × A7 × A8 × A9 × A10 × A11 × A12 × A13 × A14 × A15) (fun n s => W n s.1 s.2.1 s.2.2.1 s.2.2.2.1 s.2.2.2.2.1 s.2.2.2.2.2.1 s.2.2.2.2.2.2.1 s.2.2.2.2.2.2.2.1 s.2.2.2.2.2.2.2.2.1 s.2.2.2.2.2.2.2.2.2.1 s.2.2.2.2.2.2.2.2.2.2.1 s.2.2.2.2.2.2.2.2.2.2.2.1 s.2.2.2.2.2.2.2.2.2.2.2.2.1 s.2.2.2.2.2.2.2.2.2.2.2.2.2.1 s.2.2.2.2.2.2.2.2.2.2.2.2.2.2) (fun s => I s.1 s.2.1 s.2.2.1 s.2.2.2.1 s.2.2.2.2.1 s.2.2.2.2.2.1 s.2.2.2.2.2.2.1 s.2.2.2.2.2.2.2.1 s.2.2.2.2.2.2.2.2.1 s.2.2.2.2.2.2.2.2.2.1 s.2.2.2.2.2.2.2.2.2.2.1 s.2.2.2.2.2.2.2.2.2.2.2.1 s.2.2.2.2.2.2.2.2.2.2.2.2.1 s.2.2.2.2.2.2.2.2.2.2.2.2.2.1 s.2.2.2.2.2.2.2.2.2.2.2.2.2.2) (fun s => μ s.1 s.2.1 s.2.2.1 s.2.2.2.1 s.2.2.2.2.1 s.2.2.2.2.2.1 s.2.2.2.2.2.2.1 s.2.2.2.2.2.2.2.1 s.2.2.2.2.2.2.2.2.1 s.2.2.2.2.2.2.2.2.2.1 s.2.2.2.2.2.2.2.2.2.2.1 s.2.2.2.2.2.2.2.2.2.2.2.1 s.2.2.2.2.2.2.2.2.2.2.2.2.1 s.2.2.2.2.2.2.2.2.2.2.2.2.2.1 s.2.2.2.2.2.2.2.2.2.2.2.2.2.2) (fun n s hI hk => hs n s.1 s.2.1 s.2.2.1 s.2.2.2.1 s.2.2.2.2.1 s.2.2.2.2.2.1 s.2.2.2.2.2.2.1 s.2.2.2.2.2.2.2.1 s.2.2.2.2.2.2.2.2.1 s.2.2.2.2.2.2.2.2.2.1 s.2.2.2.2.2.2.2.2.2.2.1 s.2.2.2.2.2.2.2.2.2.2.2.1 s.2.2.2.2.2.2.2.2.2.2.2.2.1 s.2.2.2.2.2.2.2.2.2.2.2.2.2.1 s.2.2.2.2.2.2.2.2.2.2.2.2.2.2 hI (fun b1 b2 b3 b4 b5 b6 b7 b8 b9 b10 b11 b12 b13 b14 b15 h9 hm => hk (b1, b2, b3, b4, b5, b6, b7, b8, b9, b10, b11, b12, b13, b14, b15) h9 hm)) (a1, a2, a3, a4, a5, a6, a7, a8, a9, a10, a11, a12, a13, a14, a15) h
theorem lp16 {A1 A2 A3 A4 A5 A6 A7 A8 A9 A10 A11 A12 A13 A14 A15 A16 : Type} (W : Nat → A1 → A2 → A3 → A4 → A5 → A6 → A7 → A8 → A9 → A10 → A11 → A12 → A13 → A14 → A15 → A16 → Prop) (I : A1 → A2 → A3 → A4 → A5 → A6 → A7 → A8 → A9 → A10 → A11 → A12 → A13 → A14 → A15 → A16 → Prop) (μ : A1 → A2 → A3 → A4 → A5 → A6 → A7 → A8 → A9 → A10 → A11 → A12 → A13 → A14 → A15 → A16 → Nat) (hs : ∀ (n : Nat) (a1 : A1) (a2 : A2) (a3 : A3) (a4 : A4) (a5 : A5) (a6 : A6) (a7 : A7) (a8 : A8) (a9 : A9) (a10 : A10) (a11 : A11) (a12 : A12) (a13 : A13) (a14 : A14) (a15 : A15) (a16 : A16), I a1 a2 a3 a4 a5 a6 a7 a8 a9 a10 a11 a12 a13 a14 a15 a16 → (∀ (b1 : A1) (b2 : A2) (b3 : A3) (b4 : A4) (b5 : A5) (b6 : A6) (b7 : A7) (b8 : A8) (b9 : A9) (b10 : A10) (b11 : A11) (b12 : A12) (b13 : A13) (b14 : A14) (b15 : A15) (b16 : A16), I b1 b2 b3 b4 b5 b6 b7 b8 b9 b10 b11 b12 b13 b14 b15 b16 → μ b1 b2 b3 b4 b5 b6 b7 b8 b9 b10 b11 b12 b13 b14 b15 b16 < μ a1 a2 a3 a4 a5 a6 a7 a8 a9 a10 a11 a12 a13 a14 a15 a16 → W n b1 b2 b3 b4 b5 b6 b7 b8 b9 b10 b11 b12 b13 b14 b15 b16) → W (n + 1) a1 a2 a3 a4 a5 a6 a7 a8 a9 a10 a11 a12 a13 a14 a15 a16) (a1 : A1) (a2 : A2) (a3 : A3) (a4 : A4) (a5 : A5) (a6 : A6) (a7 : A7) (a8 : A8) (a9 : A9) (a10 : A10) (a11 : A11) (a12 : A12) (a13 : A13) (a14 : A14) (a15 : A15) (a16 : A16) (h : I a1 a2 a3 a4 a5 a6 a7 a8 a9 a10 a11 a12 a13 a14 a15 a16) : ∃ n, W n a1 a2 a3 a4 a5 a6 a7 a8 a9 a10 a11 a12 a13 a14 a15 a16 :=
  loop_m (σ := A1 × A2 × A3 × A4 × A5 × A6 × A7 × A8 × A9 × A10 × A11 × A12 × A13 × A14 × A15 × A16) (fun n s => W n s.1 s.2.1 s.2.2.1 s.2.2.2.1 s.2.2.2.2.1 s.2.2.2.2.2.1 s.2.2.2.2.2.2.1 s.2.2.2.2.2.2.2.1 s.2.2.2.2.2.2.2.2.1 s.2.2.2.2.2.2.2.2.2.1 s.2.2.2.2.2.2.2.2.2.2.1 s.2.2.2.2.2.2.2.2.2.2.2.1 s.2.2.2.2.2.2.2.2.2.2.2.2.1 s.2.2.2.2.2.2.2.2.2.2.2.2.2.1 s.2.2.2.2.2.2.2.2.2.2.2.2.2.2.1 s.2.2.2.2.2.2.2.2.2.2.2.2.2.2.2) (fun s => I s.1 s.2.1 s.2.2.1 s.2.2.2.1 s.2.2.2.2.1 s.2.2.2.2.2.1 s.2.2.2.2.2.2.1 s.2.2.2.2.2.2.2.1 s.2.2.2.2.2.2.2.2.1 s.2.2.2.2.2.2.2.2.2.1 s.2.2.2.2.2.2.2.2.2.2.1 s.2.2.2.2.2.2.2.2.2.2.2.1 s.2.2.2.2.2.2.2.2.2.2.2.2.1 s.2.2.2.2.2.2.2.2.2.2.2.2.2.1 s.2.2.2.2.2.2.2.2.2.2.2.2.2.2.1 s.2.2.2.2.2.2.2.2.2.2.2.2.2.2.2) (fun s => μ s.1 s.2.1 s.2.2.1 s.2.2.2.1 s.2.2.2.2.1 s.2.2.2.2.2.1 s.2.2.2.2.2.2.1 s.2.2.2.2.2.2.2.1 s.2.2.2.2.2.2.2.2.1 s.2.2.2.2.2.2.2.2.2.1 s.2.2.2.2.2.2.2.2.2.2.1 s.2.2.2.2.2.2.2.2.2.2.2.1 s.2.2.2.2.2.2.2.2.2.2.2.2.1 s.2.2.2.2.2.2.2.2.2.2.2.2.2.1 s.2.2.2.2.2.2.2.2.2.2.2.2.2.2.1 s.2.2.2.2.2.2.2.2.2.2.2.2.2.2.2) (fun n s hI hk => hs n s.1 s.2.1 s.2.2.1 s.2.2.2.1 s.2.2.2.2.1 s.2.2.2.2.2.1 s.2.2.2.2.2.2.1 s.2.2.2.2.2.2.2.1 s.2.2.2.2.2.2.2.2.1 s.2.2.2.2.2.2.2.2.2.1 s.2.2.2.2.2.2.2.2.2.2.1 s.2.2.2.2.2.2.2.2.2.2.2.1 s.2.2.2.2.2.2.2.2.2.2.2.2.1 s.2.2.2.2.2.2.2.2.2.2.2.2.2.1 s.2.2.2.2.2.2.2.2.2.2.2.2.2.2.1 s.2.2.2.2.2.2.2.2.2.2.2.2.2.2.2 hI (fun b1 b2 b3 b4 b5 b6 b7 b8 b9 b10 b11 b12 b13 b14 b15 b16 h9 hm => hk (b1, b2, b3, b4, b5, b6, b7, b8, b9, b10, b11, b12, b13, b14, b15, b16) h9 hm)) (a1, a2, a3, a4, a5, a6, a7, a8, a9, a10, a11, a12, a13, a14, a15, a16) h
theorem pk_least (P : Nat → Prop) (h : ∃ k, P k) : ∃ k, P k ∧ ∀ j, j < k → ¬ P j := by
  obtain ⟨k, hk⟩ := h
  induction k using Nat.strongRecOn with
  | ind k ih =>
    by_cases e : ∃ j, j < k ∧ P j
    · obtain ⟨j, hj, pj⟩ := e
      exact ih j hj pj
    · exact ⟨k, hk, fun j hj pj => e ⟨j, hj, pj⟩⟩
theorem rp1 {ρ A1 : Type} (W : Nat → (ρ → Prop) → A1 → Prop) (ok : A1 → Prop) (μ : A1 → Nat) (val : A1 → ρ)
    (hs : ∀ (d : Nat) (post : ρ → Prop) (a1 : A1), ok a1 → post (val a1) → (∀ (post' : ρ → Prop) (b1 : A1), ok b1 → μ b1 < μ a1 → post' (val b1) → W d post' b1) → W (d + 1) post a1) :
    ∀ (d : Nat) (post : ρ → Prop) (a1 : A1), ok a1 → μ a1 < d → post (val a1) → W d post a1 := by
  intro d
  induction d with
  | zero => intro post a1 _ h; omega
  | succ d ih =>
    intro post a1 ho hm hp
    exact hs d post a1 ho hp (fun post' b1 ho' hm' hp' => ih post' b1 ho' (by omega) hp')
theorem rp2 {ρ A1 A2 : Type} (W : Nat → (ρ → Prop) → A1 → A2 → Prop) (ok : A1 → A2 → Prop) (μ : A1 → A2 → Nat) (val : A1 → A2 → ρ)
    (hs : ∀ (d : Nat) (post : ρ → Prop) (a1 : A1) (a2 : A2), ok a1 a2 → post (val a1 a2) → (∀ (post' : ρ → Prop) (b1 : A1) (b2 : A2), ok b1 b2 → μ b1 b2 < μ a1 a2 → post' (val b1 b2) → W d post' b1 b2) → W (d + 1) post a1 a2) :
    ∀ (d : Nat) (post : ρ → Prop) (a1 : A1) (a2 : A2), ok a1 a2 → μ a1 a2 < d → post (val a1 a2) → W d post a1 a2 := by
  intro d
  induction d with
  | zero => intro post a1 a2 _ h; omega
  | succ d ih =>
    intro post a1 a2 ho hm hp
    exact hs d post a1 a2 ho hp (fun post' b1 b2 ho' hm' hp' => ih post' b1 b2 ho' (by omega) hp')
theorem rp3 {ρ A1 A2 A3 : Type} (W : Nat → (ρ → Prop) → A1 → A2 → A3 → Prop) (ok : A1 → A2 → A3 → Prop) (μ : A1 → A2 → A3 → Nat) (val : A1 → A2 → A3 → ρ)
    (hs : ∀ (d : Nat) (post : ρ → Prop) (a1 : A1) (a2 : A2) (a3 : A3), ok a1 a2 a3 → post (val a1 a2 a3) → (∀ (post' : ρ → Prop) (b1 : A1) (b2 : A2) (b3 : A3), ok b1 b2 b3 → μ b1 b2 b3 < μ a1 a2 a3 → post' (val b1 b2 b3) → W d post' b1 b2 b3) → W (d + 1) post a1 a2 a3) :
    ∀ (d : Nat) (post : ρ → Prop) (a1 : A1) (a2 : A2) (a3 : A3), ok a1 a2 a3 → μ a1 a2 a3 < d → post (val a1 a2 a3) → W d post a1 a2 a3 := by
  intro d
  induction d with
  | zero => intro post a1 a2 a3 _ h; omega
  | succ d ih =>
    intro post a1 a2 a3 ho hm hp
    exact hs d post a1 a2 a3 ho hp (fun post' b1 b2 b3 ho' hm' hp' => ih post' b1 b2 b3 ho' (by omega) hp')
theorem rp4 {ρ A1 A2 A3 A4 : Type} (W : Nat → (ρ → Prop) → A1 → A2 → A3 → A4 → Prop) (ok : A1 → A2 → A3 → A4 → Prop) (μ : A1 → A2 → A3 → A4 → Nat) (val : A1 → A2 → A3 → A4 → ρ)
    (hs : ∀ (d : Nat) (post : ρ → Prop) (a1 : A1) (a2 : A2) (a3 : A3) (a4 : A4), ok a1 a2 a3 a4 → post (val a1 a2 a3 a4) → (∀ (post' : ρ → Prop) (b1 : A1) (b2 : A2) (b3 : A3) (b4 : A4), ok b1 b2 b3 b4 → μ b1 b2 b3 b4 < μ a1 a2 a3 a4 → post' (val b1 b2 b3 b4) → W d post' b1 b2 b3 b4) → W (d + 1) post a1 a2 a3 a4) :
    ∀ (d : Nat) (post : ρ → Prop) (a1 : A1) (a2 : A2) (a3 : A3) (a4 : A4), ok a1 a2 a3 a4 → μ a1 a2 a3 a4 < d → post (val a1 a2 a3 a4) → W d post a1 a2 a3 a4 := by
  intro d
  induction d with
  | zero => intro post a1 a2 a3 a4 _ h; omega
  | succ d ih =>
    intro post a1 a2 a3 a4 ho hm hp
    exact hs d post a1 a2 a3 a4 ho hp (fun post' b1 b2 b3 b4 ho' hm' hp' => ih post' b1 b2 b3 b4 ho' (by omega) hp')
theorem rp5 {ρ A1 A2 A3 A4 A5 : Type} (W : Nat → (ρ → Prop) → A1 → A2 → A3 → A4 → A5 → Prop) (ok : A1 → A2 → A3 → A4 → A5 → Prop) (μ : A1 → A2 → A3 → A4 → A5 → Nat) (val : A1 → A2 → A3 → A4 → A5 → ρ)
    (hs : ∀ (d : Nat) (post : ρ → Prop) (a1 : A1) (a2 : A2) (a3 : A3) (a4 : A4) (a5 : A5), ok a1 a2 a3 a4 a5 → post (val a1 a2 a3 a4 a5) → (∀ (post' : ρ → Prop) (b1 : A1) (b2 : A2) (b3 : A3) (b4 : A4) (b5 : A5), ok b1 b2 b3 b4 b5 → μ b1 b2 b3 b4 b5 < μ a1 a2 a3 a4 a5 → post' (val b1 b2 b3 b4 b5) → W d post' b1 b2 b3 b4 b5) → W (d + 1) post a1 a2 a3 a4 a5) :
    ∀ (d : Nat) (post : ρ → Prop) (a1 : A1) (a2 : A2) (a3 : A3) (a4 : A4) (a5 : A5), ok a1 a2 a3 a4 a5 → μ a1 a2 a3 a4 a5 < d → post (val a1 a2 a3 a4 a5) → W d post a1 a2 a3 a4 a5 := by
  intro d
  induction d with
  | zero => intro post a1 a2 a3 a4 a5 _ h; omega
  | succ d ih =>
    intro post a1 a2 a3 a4 a5 ho hm hp
    exact hs d post a1 a2 a3 a4 a5 ho hp (fun post' b1 b2 b3 b4 b5 ho' hm' hp' => ih post' b1 b2 b3 b4 b5 ho' (by omega) hp')
theorem rp6 {ρ A1 A2 A3 A4 A5 A6 : Type} (W : Nat → (ρ → Prop) → A1 → A2 → A3 → A4 → A5 → A6 → Prop) (ok : A1 → A2 → A3 → A4 → A5 → A6 → Prop) (μ : A1 → A2 → A3 → A4 → A5 → A6 → Nat) (val : A1 → A2 → A3 → A4 → A5 → A6 → ρ)
    (hs : ∀ (d : Nat) (post : ρ → Prop) (a1 : A1) (a2 : A2) (a3 : A3) (a4 : A4) (a5 : A5) (a6 : A6), ok a1 a2 a3 a4 a5 a6 → post (val a1 a2 a3 a4 a5 a6) → (∀ (post' : ρ → Prop) (b1 : A1) (b2 : A2) (b3 : A3) (b4 : A4) (b5 : A5) (b6 : A6), ok b1 b2 b3 b4 b5 b6 → μ b1 b2 b3 b4 b5 b6 < μ a1 a2 a3 a4 a5 a6 → post' (val b1 b2 b3 b4 b5 b6) → W d post' b1 b2 b3 b4 b5 b6) → W (d + 1) post a1 a2 a3 a4 a5 a6) :
    ∀ (d : Nat) (post : ρ → Prop) (a1 : A1) (a2 : A2) (a3 : A3) (a4 : A4) (a5 : A5) (a6 : A6), ok a1 a2 a3 a4 a5 a6 → μ a1 a2 a3 a4 a5 a6 < d → post (val a1 a2 a3 a4 a5 a6) → W d post a1 a2 a3 a4 a5 a6 := by
  intro d
  induction d with
  | zero => intro post a1 a2 a3 a4 a5 a6 _ h; omega
  | succ d ih =>
    intro post a1 a2 a3 a4 a5 a6 ho hm hp
    exact hs d post a1 a2 a3 a4 a5 a6 ho hp (fun post' b1 b2 b3 b4 b5 b6 ho' hm' hp' => ih post' b1 b2 b3 b4 b5 b6 ho' (by omega) hp')
theorem rec_p {σ ρ : Type} (W : Nat → (ρ → Prop) → σ → Prop) (ok : σ → Prop) (μ : σ → Nat) (val : σ → ρ)
    (hs : ∀ d s post, ok s → post (val s) → (∀ s' post', ok s' → μ s' < μ s → post' (val s') → W d post' s') → W (d + 1) post s) :
    ∀ d s post, ok s → μ s < d → post (val s) → W d post s := by
  intro d
  induction d with
  | zero => intro s post _ h; omega
  | succ d ih =>
    intro s post ho hm hp
    exact hs d s post ho hp (fun s' post' ho' hm' hp' => ih s' post' ho' (by omega) hp')
theorem rec_q {σ ρ : Type} (W : Nat → (ρ → Prop) → σ → Prop) (ok : σ → Prop) (μ : σ → Nat) (Q : σ → ρ → Prop)
    (hs : ∀ d s post, ok s → (∀ r, Q s r → post r) → (∀ s' post', ok s' → μ s' < μ s → (∀ r, Q s' r → post' r) → W d post' s') → W (d + 1) post s) :
    ∀ d s post, ok s → μ s < d → (∀ r, Q s r → post r) → W d post s := by
  intro d
  induction d with
  | zero => intro s post _ h; omega
  | succ d ih =>
    intro s post ho hm hp
    exact hs d s post ho hp (fun s' post' ho' hm' hp' => ih s' post' ho' (by omega) hp')
def bx_sum (f : Nat → Int32) : Nat → Int32
  | 0 => 0
  | n + 1 => bx_sum f n + f n
theorem ek_u {A : Prop} {B : Nat → Prop} {k N : Nat} (hk : k < N) (h : B k) : (some k = none → A) ∧ (∀ y : Nat, some k = some y → (y < N ∧ B y)) :=
  ⟨fun z => absurd z (Option.some_ne_none k), fun _ e => (by cases e; exact ⟨hk, h⟩)⟩
theorem ek_nu {A : Prop} {B : Nat → Prop} (h : A) : ((none : Option Nat) = none → A) ∧ (∀ y : Nat, (none : Option Nat) = some y → B y) :=
  ⟨fun _ => h, fun _ e => (by cases e)⟩
theorem ek_if {c d A B : Prop} (e : c ↔ d) (f : d → A) (g : ¬ d → B) : (c → A) ∧ (¬ c → B) :=
  ⟨fun z => f (e.mp z), fun z => g (fun y => z (e.mpr y))⟩
theorem ek_v {α : Sort _} {P : α → Prop} {a b : α} (e : a = b) (h : P b) : P a := e ▸ h
theorem co_some {x : Option Nat} {A : Prop} {B : Nat → Prop} (i : Nat) (h : B i) (hx : x = some i := by rfl) : (x = none → A) ∧ (∀ y : Nat, x = some y → B y) := by
  subst hx
  exact ⟨fun e => (nomatch e), fun y e => Option.some.inj e ▸ h⟩
theorem co_none {x : Option Nat} {A : Prop} {B : Nat → Prop} (h : A) (hx : x = none := by rfl) : (x = none → A) ∧ (∀ y : Nat, x = some y → B y) := by
  subst hx
  exact ⟨fun _ => h, fun y e => (nomatch e)⟩
theorem co_any {x : Option Nat} {A : Prop} {B : Nat → Prop} (hn : x = none → A) (hs : ∀ i : Nat, x = some i → B i) : (x = none → A) ∧ (∀ y : Nat, x = some y → B y) := ⟨hn, hs⟩
theorem co_2 {P : Nat → Prop} (h0 : P 0) (h1 : P 1) {i : Nat} (hi : i < 2) : P i :=
  match i, hi with
  | 0, _ => h0
  | 1, _ => h1
theorem co_3 {P : Nat → Prop} (h0 : P 0) (h1 : P 1) (h2 : P 2) {i : Nat} (hi : i < 3) : P i :=
  match i, hi with
  | 0, _ => h0
  | 1, _ => h1
  | 2, _ => h2
theorem co_4 {P : Nat → Prop} (h0 : P 0) (h1 : P 1) (h2 : P 2) (h3 : P 3) {i : Nat} (hi : i < 4) : P i :=
  match i, hi with
  | 0, _ => h0
  | 1, _ => h1
  | 2, _ => h2
  | 3, _ => h3
theorem co_dec {N : Nat} {P : Nat → Prop} [DecidablePred P] (h : (List.range N).all (fun i => decide (P i)) = true) {i : Nat} (hi : i < N) : P i := by
  have := List.all_eq_true.mp h i (List.mem_range.mpr hi)
  exact of_decide_eq_true this
theorem co_tab {α : Type} {l : List α} {d : α} {P : α → Prop} (h : ∀ a, a ∈ l → P a) {i : Nat} (hi : i < l.length) : P (l.getD i d) := by
  rw [List.getD_eq_getElem?_getD, List.getElem?_eq_getElem hi]
  exact h _ (List.getElem_mem hi)
theorem pk_mu {x : Int32} {L : Nat} (h0 : ¬ x < 0) (h : ¬ nI L ≤ x) (hL : L < 2 ^ 31) : ∃ j : Nat, j < L ∧ x = nI j ∧ x + 1 = nI (j + 1) ∧ x.toNatClampNeg = j ∧ L - (x + 1).toNatClampNeg < L - x.toNatClampNeg := by
  obtain ⟨j, hj, rfl⟩ := nI_of h0
  have hl : j < L := Nat.not_le.mp fun q => h (nI_le q hj)
  refine ⟨j, hl, rfl, nI_1 j, nI_clamp hj, ?_⟩
  rw [nI_1, nI_clamp (by omega), nI_clamp hj]
  omega
theorem op_s {α : Type} {r : Option α} {A : Prop} {B : α → Prop} {y : α} (h : r = some y) (b : B y) : (r = none → A) ∧ ∀ z, r = some z → B z :=
  ⟨fun e => (by rw [h] at e; cases e), fun z e => (by rw [h] at e; cases e; exact b)⟩
def l_holds {α : Type} (a : Nat → Option Nat) (LP : List Nat) (p : Nat → α) (c : Nat) (b : Nat → α) : Prop :=
  ∀ j, j < c → ∃ y, a j = some y ∧ y ∈ LP ∧ p y = b j
theorem l_holds_0 {α : Type} {a : Nat → Option Nat} {LP : List Nat} {p b : Nat → α} : l_holds a LP p 0 b := fun j h => absurd h (Nat.not_lt_zero j)
theorem l_in_new (LP : List Nat) (q : Nat) : q ∈ LP ++ [q] := List.mem_append.mpr (Or.inr (List.mem_singleton.mpr rfl))
def l_sum (b : Nat → Int32) : Nat → Int32
  | 0 => 0
  | k + 1 => l_sum b k + b k
theorem sb_shr0 (x : Int32) : x >>> ((0 : Int32) &&& 31) = x := by
  rw [show ((0 : Int32) &&& 31) = 0 by decide]
  simp
theorem sb_shl0 (x : Int32) : x <<< ((0 : Int32) &&& 31) = x := by
  rw [show ((0 : Int32) &&& 31) = 0 by decide]
  simp
theorem sb_cl0 : (0 : Int32).toNatClampNeg = 0 := by decide
theorem sb_m1 {p : Nat} (h : 0 < p) : nI p + (-1) = nI (p - 1) := by
  obtain ⟨q, rfl⟩ : ∃ q, p = q + 1 := ⟨p - 1, by omega⟩
  exact pk_m1 q
def sb_b (c : Nat) : Int32 := (nI c).toInt8.toInt32
theorem sb_byte : ∀ c, c < 256 → sb_b c &&& 255 = nI c ∧ ((nI c).toUInt32 % 65536).toInt32 = nI c ∧ nI c ≤ 255 := by decide +kernel
def sb_Fit (a : Nat → Int32) : Prop := ∀ j, fits .byte (.int (a j)) = true
def sb_Lat (t : Nat → Nat) (n : Nat) (a : Nat → Int32) : Prop := ∀ j, j < n → t j < 256 ∧ a j = sb_b (t j)
theorem sb_fitB (c : Nat) : fits .byte (.int (sb_b c)) = true := pk_fb _
theorem sb_fit0 : sb_Fit (fun _ => 0) := fun _ => by
  show fits .byte (.int 0) = true
  decide
theorem sb_fitU {a : Nat → Int32} {k : Nat} {x : Int32} (h : sb_Fit a) (hx : fits .byte (.int x) = true) : sb_Fit (upd a k x) := by
  intro j
  by_cases e : j = k
  · subst e
    rw [pk_us]
    exact hx
  · rw [pk_un e]
    exact h j
def sb_cat (t : Nat → Nat) (n : Nat) (s : Nat → Nat) : Nat → Nat := fun j => if j < n then t j else s (j - n)
theorem sb_cat_lo {t s : Nat → Nat} {n j : Nat} (h : j < n) : sb_cat t n s j = t j := if_pos h
theorem sb_cat_hi {t s : Nat → Nat} {n j : Nat} : sb_cat t n s (n + j) = s j := by
  show (if n + j < n then t (n + j) else s (n + j - n)) = s j
  rw [if_neg (by omega), Nat.add_sub_cancel_left]
theorem sb_latPut {t s : Nat → Nat} {n w : Nat} {a a' : Nat → Int32} (h : sb_Lat t n a) (hk : ∀ j, j < n → a' j = a j) (hs : ∀ i, i < w → s i < 256 ∧ a' (n + i) = sb_b (s i)) : sb_Lat (sb_cat t n s) (n + w) a' := by
  intro j hj
  by_cases e : j < n
  · rw [sb_cat_lo e, hk j e]
    exact h j e
  · obtain ⟨i, rfl⟩ : ∃ i, j = n + i := ⟨j - n, by omega⟩
    rw [sb_cat_hi]
    exact hs i (by omega)
theorem sb_latKeep {t : Nat → Nat} {n : Nat} {a a' : Nat → Int32} (h : sb_Lat t n a) (hk : ∀ j, j < n → a' j = a j) : sb_Lat t n a' := fun j hj => by
  rw [hk j hj]
  exact h j hj
def sb_cap (q m : Nat) : Nat := if q ≤ m then m else if 2 * m + 2 < q then q else 2 * m + 2
def sb_Room (q m mc ms : Nat) : Prop := q ≤ m ∨ (1 ≤ mc ∧ sb_cap q m ≤ ms ∧ sb_cap q m ≤ 65536)
theorem sb_cap_ge (q m : Nat) : q ≤ sb_cap q m := by
  unfold sb_cap
  split
  · omega
  · split <;> omega
theorem sb_cap_gem (q m : Nat) : m ≤ sb_cap q m := by
  unfold sb_cap
  split
  · omega
  · split <;> omega
theorem sb_cap_le {q m mc ms : Nat} (hm : m ≤ 65536) (hr : sb_Room q m mc ms) : sb_cap q m ≤ 65536 := by
  rcases hr with h | h
  · rw [sb_cap, if_pos h]
    exact hm
  · exact h.2.2
theorem sb_at {P : Int32 → Prop} {x y : Int32} (e : x = y) (h : P y) : P x := e ▸ h
def sb_dg (w : Nat) : Nat := if w < 10 then 1 else if w < 100 then 2 else if w < 1000 then 3 else if w < 10000 then 4 else if w < 100000 then 5 else if w < 1000000 then 6 else if w < 10000000 then 7 else if w < 100000000 then 8 else if w < 1000000000 then 9 else 10
def sb_dec (v : Nat) : Nat → Nat := fun i => 48 + v / 10 ^ (sb_dg v - 1 - i) % 10
theorem sb_dg_in (w : Nat) : 1 ≤ sb_dg w ∧ sb_dg w ≤ 10 := by
  unfold sb_dg
  constructor <;> (repeat' split) <;> omega
theorem sb_dg100 {w : Nat} (h : 100 ≤ w) (hw : w < 2 ^ 31) : sb_dg w = sb_dg (w / 100) + 2 := by
  rw [sb_dg, sb_dg, if_neg (show ¬ w < 10 by omega), if_neg (show ¬ w < 100 by omega)]
  by_cases h3 : w < 1000
  · rw [if_pos h3, if_pos (show w / 100 < 10 by omega)]
  rw [if_neg h3, if_neg (show ¬ w / 100 < 10 by omega)]
  by_cases h4 : w < 10000
  · rw [if_pos h4, if_pos (show w / 100 < 100 by omega)]
  rw [if_neg h4, if_neg (show ¬ w / 100 < 100 by omega)]
  by_cases h5 : w < 100000
  · rw [if_pos h5, if_pos (show w / 100 < 1000 by omega)]
  rw [if_neg h5, if_neg (show ¬ w / 100 < 1000 by omega)]
  by_cases h6 : w < 1000000
  · rw [if_pos h6, if_pos (show w / 100 < 10000 by omega)]
  rw [if_neg h6, if_neg (show ¬ w / 100 < 10000 by omega)]
  by_cases h7 : w < 10000000
  · rw [if_pos h7, if_pos (show w / 100 < 100000 by omega)]
  rw [if_neg h7, if_neg (show ¬ w / 100 < 100000 by omega)]
  by_cases h8 : w < 100000000
  · rw [if_pos h8, if_pos (show w / 100 < 1000000 by omega)]
  rw [if_neg h8, if_neg (show ¬ w / 100 < 1000000 by omega)]
  by_cases h9 : w < 1000000000
  · rw [if_pos h9, if_pos (show w / 100 < 10000000 by omega)]
  rw [if_neg h9, if_neg (show ¬ w / 100 < 10000000 by omega)]
  rw [if_pos (show w / 100 < 100000000 by omega)]
theorem sb_negT {w : Nat} (h : w < 2 ^ 31) : (-nI w).toInt = -(w : Int) := by
  rw [Int32.toInt_neg, nI_toInt h]
  exact Int.bmod_eq_of_le (by omega) (by omega)
theorem sb_nle {a b : Nat} (ha : a < 2 ^ 31) (hb : b < 2 ^ 31) : -nI a ≤ -nI b ↔ b ≤ a := by
  rw [Int32.le_iff_toInt_le, sb_negT ha, sb_negT hb]
  omega
theorem sb_nlt {a b : Nat} (ha : a < 2 ^ 31) (hb : b < 2 ^ 31) : -nI a < -nI b ↔ b < a := by
  rw [Int32.lt_iff_toInt_lt, sb_negT ha, sb_negT hb]
  omega
theorem sb_cmp {A B : Prop} {x : Int32} (v c : Nat) (f : c ≤ v → A) (g : v < c → B) (hv : v < 2 ^ 31) (hx : x = -nI c := by rfl) (hc : c < 2 ^ 31 := by omega) : (-nI v ≤ x → A) ∧ (¬ -nI v ≤ x → B) := by
  subst hx
  rw [sb_nle hv hc]
  exact ⟨f, fun z => g (by omega)⟩
theorem sb_ndiv {w : Nat} (hw : w < 2 ^ 31) : (-nI w) / 100 = -nI (w / 100) := by
  apply Int32.toInt_inj.mp
  have h100 : (100 : Int32).toInt = 100 := by decide
  rw [Int32.toInt_div, sb_negT hw, h100, sb_negT (by omega), Int.neg_tdiv, Int.tdiv_eq_ediv_of_nonneg (by omega), Int.bmod_eq_of_le (by omega) (by omega)]
  omega
theorem sb_nrem {w : Nat} (hw : w < 2 ^ 31) : (-nI (w / 100)) * 100 - (-nI w) = nI (w % 100) := by
  have h := pk_rem (a := w) (d := 100) hw (by decide) (by decide)
  rw [pk_div hw (by decide) (by decide)] at h
  rw [← h]
  show (-nI (w / 100)) * nI 100 - (-nI w) = nI w - nI (w / 100) * nI 100
  rw [Int32.neg_mul, Int32.sub_neg, Int32.add_comm, ← Int32.sub_eq_add_neg]

/-! rows on bits, shifts and unsigned numbers, to paste: each family out of a closed proof of our own, whole with what it rests on; each by itself clean at Lean in its own claim (generation 39, form 5). Take a family whole -/
/-! ===== Int32 by its bits: bt x i ===== -/
def bt (x : Int32) (i : Nat) : Bool := x.toBitVec.getLsbD i
theorem b_ext {x y : Int32} (h : ∀ i, i < 32 → bt x i = bt y i) : x = y := Int32.toBitVec_inj.mp (BitVec.eq_of_getLsbD_eq (fun i hi => h i hi))
theorem b_or (x y : Int32) (i : Nat) : bt (x ||| y) i = (bt x i || bt y i) := by unfold bt; rw [Int32.toBitVec_or, BitVec.getLsbD_or]
theorem b_and (x y : Int32) (i : Nat) : bt (x &&& y) i = (bt x i && bt y i) := by unfold bt; rw [Int32.toBitVec_and, BitVec.getLsbD_and]
theorem b_xor (x y : Int32) (i : Nat) : bt (x ^^^ y) i = (bt x i ^^ bt y i) := by unfold bt; rw [Int32.toBitVec_xor, BitVec.getLsbD_xor]
theorem b_big {x : Int32} {i : Nat} (h : 32 ≤ i) : bt x i = false := BitVec.getLsbD_of_ge _ _ h
theorem b_255 (i : Nat) : bt 255 i = decide (i < 8) := by
  rcases Nat.lt_or_ge i 32 with h | h
  · exact (by decide +kernel : ∀ i, i < 32 → bt 255 i = decide (i < 8)) i h
  · rw [b_big h, decide_eq_false (by omega)]
theorem b_65535 (i : Nat) : bt 65535 i = decide (i < 16) := by
  rcases Nat.lt_or_ge i 32 with h | h
  · exact (by decide +kernel : ∀ i, i < 32 → bt 65535 i = decide (i < 16)) i h
  · rw [b_big h, decide_eq_false (by omega)]
theorem b_m1 : ∀ i, i < 32 → bt (-1) i = true := by decide +kernel
theorem b_0 (i : Nat) : bt 0 i = false := BitVec.getLsbD_zero
theorem s_l : ∀ n, n < 32 → ((nI n &&& 31).toBitVec.smod 32).toNat = n := by decide +kernel
theorem s_u : ∀ n, n < 32 → (((nI n).toUInt32 &&& Int32.toUInt32 31).toBitVec % 32).toNat = n := by decide +kernel
theorem b_shl (n : Nat) (hn : n < 32) (x : Int32) {i : Nat} (hi : i < 32) : bt (x <<< (nI n &&& 31)) i = (decide (n ≤ i) && bt x (i - n)) := by
  unfold bt
  rw [Int32.toBitVec_shiftLeft]
  show (x.toBitVec <<< ((nI n &&& 31).toBitVec.smod 32).toNat).getLsbD i = _
  rw [s_l n hn, BitVec.getLsbD_shiftLeft]
  rcases Nat.lt_or_ge i n with h | h
  · simp [h, Nat.not_le.mpr h]
  · simp [hi, h, Nat.not_lt.mpr h]
theorem b_ushr (n : Nat) (hn : n < 32) (x : Int32) (i : Nat) : bt ((x.toUInt32 >>> ((nI n).toUInt32 &&& Int32.toUInt32 31)).toInt32) i = bt x (n + i) := by
  show (x.toUInt32 >>> ((nI n).toUInt32 &&& Int32.toUInt32 31)).toBitVec.getLsbD i = x.toUInt32.toBitVec.getLsbD (n + i)
  rw [UInt32.toBitVec_shiftRight]
  show (x.toUInt32.toBitVec >>> (((nI n).toUInt32 &&& Int32.toUInt32 31).toBitVec % 32).toNat).getLsbD i = _
  rw [s_u n hn, BitVec.getLsbD_ushiftRight]
theorem b_sshr (n : Nat) (hn : n < 32) (x : Int32) {i : Nat} (hi : i < 32) : bt (x >>> (nI n &&& 31)) i = if n + i < 32 then bt x (n + i) else bt x 31 := by
  unfold bt
  rw [Int32.toBitVec_shiftRight]
  show (x.toBitVec.sshiftRight ((nI n &&& 31).toBitVec.smod 32).toNat).getLsbD i = _
  rw [s_l n hn, BitVec.getLsbD_sshiftRight, BitVec.msb_eq_getLsbD_last]
  simp [hi]
theorem b_shl8 (x : Int32) {i : Nat} (hi : i < 32) : bt (x <<< ((8 : Int32) &&& 31)) i = (decide (8 ≤ i) && bt x (i - 8)) := b_shl 8 (by omega) x hi
theorem b_shl16 (x : Int32) {i : Nat} (hi : i < 32) : bt (x <<< ((16 : Int32) &&& 31)) i = (decide (16 ≤ i) && bt x (i - 16)) := b_shl 16 (by omega) x hi
theorem b_shl24 (x : Int32) {i : Nat} (hi : i < 32) : bt (x <<< ((24 : Int32) &&& 31)) i = (decide (24 ≤ i) && bt x (i - 24)) := b_shl 24 (by omega) x hi
theorem b_sshr8 (x : Int32) {i : Nat} (hi : i < 32) : bt (x >>> ((8 : Int32) &&& 31)) i = if 8 + i < 32 then bt x (8 + i) else bt x 31 := b_sshr 8 (by omega) x hi
/-! ===== nI under and, xor, >>>, one bit, 65535 ===== -/
theorem nx_and (a b : Nat) : nI a &&& nI b = nI (a &&& b) := by
  apply Int32.toBitVec_inj.1
  show BitVec.ofNat 32 a &&& BitVec.ofNat 32 b = BitVec.ofNat 32 (a &&& b)
  apply BitVec.eq_of_getLsbD_eq
  intro i hi
  simp [hi]
theorem nx_xor (a b : Nat) : nI a ^^^ nI b = nI (a ^^^ b) := by
  apply Int32.toBitVec_inj.1
  show BitVec.ofNat 32 a ^^^ BitVec.ofNat 32 b = BitVec.ofNat 32 (a ^^^ b)
  apply BitVec.eq_of_getLsbD_eq
  intro i hi
  simp [hi]
theorem nx_cnt : ∀ j : Fin 32, (UInt32.ofNat j.val &&& Int32.toUInt32 31).toNat % 32 = j.val := by decide +kernel
theorem nx_ush {k j : Nat} (hk : k < 65536) (hj : j < 32) : ((nI k).toUInt32 >>> ((nI j).toUInt32 &&& Int32.toUInt32 31)).toInt32 = nI (k >>> j) := by
  have hs : k >>> j ≤ k := by
    rw [Nat.shiftRight_eq_div_pow]
    exact Nat.div_le_self _ _
  have e2 : UInt32.ofNat k >>> (UInt32.ofNat j &&& Int32.toUInt32 31) = UInt32.ofNat (k >>> j) := by
    apply UInt32.toNat_inj.1
    have h1 : (UInt32.ofNat k).toNat = k := Nat.mod_eq_of_lt (by omega)
    have h2 : (UInt32.ofNat (k >>> j)).toNat = k >>> j := Nat.mod_eq_of_lt (by omega)
    rw [UInt32.toNat_shiftRight, nx_cnt ⟨j, hj⟩, h1, h2]
  show (UInt32.ofNat k >>> (UInt32.ofNat j &&& Int32.toUInt32 31)).toInt32 = _
  rw [e2]
  rfl
theorem nx_bit {k j : Nat} (hk : k < 65536) (hj : j < 16) : (((nI k).toUInt32 >>> ((nI j).toUInt32 &&& Int32.toUInt32 31)).toInt32 &&& 1) = 0 ↔ k.testBit j = false := by
  rw [nx_ush hk (by omega)]
  show nI (k >>> j) &&& nI 1 = 0 ↔ _
  rw [nx_and, Nat.and_one_is_mod, ← nI_0, nI_eq (by omega) (by omega), Nat.testBit_eq_decide_div_mod_eq, Nat.shiftRight_eq_div_pow, decide_eq_false_iff_not]
  generalize k / 2 ^ j = z
  omega
theorem nx_mod (k : Nat) : nI k &&& 65535 = nI (k % 65536) := by
  show nI k &&& nI 65535 = _
  rw [nx_and, show (65535 : Nat) = 2 ^ 16 - 1 from rfl, Nat.and_two_pow_sub_one_eq_mod]
theorem nx_m16 {k : Nat} (h : k < 65536) : nI k &&& 65535 = nI k := by rw [nx_mod, Nat.mod_eq_of_lt h]
theorem nx_mask (x : Int32) : ∃ k, k < 65536 ∧ x &&& 65535 = nI k := by
  have e : x = nI x.toBitVec.toNat := by
    apply Int32.toBitVec_inj.1
    show x.toBitVec = BitVec.ofNat 32 x.toBitVec.toNat
    simp
  refine ⟨x.toBitVec.toNat % 65536, Nat.mod_lt _ (by omega), ?_⟩
  rw [← nx_mod, ← e]
/-! ===== Int32 as a set of bits: test, set ===== -/
def nf_M (m : Int32) : Nat := 4294967296 - m.toBitVec.toNat
theorem nf_sh : ∀ l, l < 32 → ((1 : Int32) <<< (nI l &&& 31)).toBitVec = BitVec.twoPow 32 l := by decide +kernel
theorem nf_sl : ∀ l, l < 32 → (((nI l).toUInt32 &&& Int32.toUInt32 31).toBitVec % 32).toNat = l := by decide +kernel
theorem nf_tp : ∀ l, l < 32 → BitVec.twoPow 32 l ≠ 0#32 := by decide +kernel
theorem nf_bit (m : Int32) (l : Nat) (hl : l < 32) : ((m.toUInt32 >>> ((nI l).toUInt32 &&& Int32.toUInt32 31)).toInt32 &&& 1) = 0 ↔ (m &&& ((1 : Int32) <<< (nI l &&& 31))) = 0 := by
  have e : ((m.toUInt32 >>> ((nI l).toUInt32 &&& Int32.toUInt32 31)).toInt32).toBitVec = m.toBitVec >>> l := by
    show m.toBitVec >>> (((nI l).toUInt32 &&& Int32.toUInt32 31).toBitVec % 32) = m.toBitVec >>> l
    rw [BitVec.ushiftRight_eq', nf_sl l hl]
  rw [← Int32.toBitVec_inj, ← Int32.toBitVec_inj, Int32.toBitVec_and, Int32.toBitVec_and, nf_sh l hl, e, BitVec.and_twoPow]
  show (m.toBitVec >>> l &&& 1#32) = 0#32 ↔ _ = 0#32
  rw [BitVec.and_one_eq_setWidth_ofBool_getLsbD, BitVec.getLsbD_ushiftRight, Nat.add_zero]
  cases hb : m.toBitVec.getLsbD l
  · exact ⟨fun _ => by simp, fun _ => by decide⟩
  · exact ⟨fun z => absurd z (by decide), fun z => absurd ((if_pos rfl).symm.trans z) (nf_tp l hl)⟩
theorem nf_gr (m k : Int32) (h : m &&& k = 0) (hk : k ≠ 0) : nf_M (m ||| k) < nf_M m := by
  have hm := m.toBitVec.isLt
  have hm' := (m ||| k).toBitVec.isLt
  have h1 : m.toBitVec.toNat ≤ (m ||| k).toBitVec.toNat := by
    rw [Int32.toBitVec_or, BitVec.toNat_or]
    exact Nat.left_le_or
  have h2 : m.toBitVec.toNat ≠ (m ||| k).toBitVec.toNat := by
    intro e
    have e2 : m = m ||| k := Int32.toBitVec_inj.mp (BitVec.eq_of_toNat_eq e)
    apply hk
    apply Int32.toBitVec_inj.mp
    show k.toBitVec = 0#32
    apply BitVec.eq_of_getLsbD_eq
    intro i hi
    have a : m.toBitVec.getLsbD i = (m.toBitVec.getLsbD i || k.toBitVec.getLsbD i) := by rw [← BitVec.getLsbD_or, ← Int32.toBitVec_or, ← e2]
    have b : (m.toBitVec.getLsbD i && k.toBitVec.getLsbD i) = false := by
      rw [← BitVec.getLsbD_and, ← Int32.toBitVec_and, h]
      exact BitVec.getLsbD_zero
    rw [BitVec.getLsbD_zero]
    revert a b
    cases m.toBitVec.getLsbD i <;> cases k.toBitVec.getLsbD i <;> simp
  unfold nf_M
  omega
/-! ===== a byte read unsigned ===== -/
theorem bp_b (x : Int32) : x.toInt8.toInt32 &&& 255 = x &&& 255 := by
  apply Int32.toBitVec_inj.mp
  rw [Int32.toBitVec_and, Int32.toBitVec_and, Int8.toBitVec_toInt32, Int32.toBitVec_toInt8]
  apply BitVec.eq_of_getLsbD_eq
  intro i hi
  rw [BitVec.getLsbD_and, BitVec.getLsbD_and]
  have hm : ∀ i < 32, 8 ≤ i → (255 : Int32).toBitVec.getLsbD i = false := by decide
  rcases Nat.lt_or_ge i 8 with z | z
  · rw [BitVec.getLsbD_signExtend, BitVec.getLsbD_signExtend, if_pos z, if_pos hi]
    simp only [z, hi, decide_true, Bool.true_and]
  · rw [hm i hi z]; simp
/-! ===== the char cast and 65535 ===== -/
theorem em_w (v : Int32) : ∃ w : Nat, w < 65536 ∧ (v.toUInt32 % 65536).toInt32 = nI w ∧ v &&& 65535 = nI w := by
  have hr := lw_u16_r v
  have h0 : (0 : Int32).toInt = 0 := by decide
  obtain ⟨w, h1, h2⟩ := nI_of (x := lw_u16 v) (by rw [Int32.lt_iff_toInt_lt]; omega)
  have h3 : (v.toUInt32 % 65536).toInt32 = nI w := h2
  rw [h2, nI_toInt h1] at hr
  exact ⟨w, by omega, h3, by rw [← lg_i2c_mask, ← lg_i2c_nf, h3]⟩
/-! ===== Int64 as a set of bits: test, set, clear ===== -/
theorem ts_nf {x : Bool} (h : ¬ x = false) : x = true := by cases x <;> first | rfl | exact absurd rfl h
theorem ts_nt {x : Bool} (h : ¬ x = true) : x = false := by cases x <;> first | rfl | exact absurd rfl h
theorem ts_bit {w : Int64} {s : UInt64} {j : Nat} (hj : j < 64) (hs : s.toNat = j) : ((w.toUInt64 >>> s).toInt64 &&& 1) = 0 ↔ w.toBitVec.getLsbD j = false := by
  have e : (w.toUInt64 >>> s).toInt64.toBitVec = w.toBitVec >>> j := by
    apply BitVec.eq_of_toNat_eq
    show (w.toUInt64 >>> s).toNat = _
    rw [UInt64.toNat_shiftRight, hs, Nat.mod_eq_of_lt hj, BitVec.toNat_ushiftRight]
    rfl
  rw [← Int64.toBitVec_inj, Int64.toBitVec_and, e]
  show w.toBitVec >>> j &&& 1#64 = 0#64 ↔ _
  constructor
  · intro h
    have t := congrArg (fun x => x.getLsbD 0) h
    simpa using t
  · intro h
    apply BitVec.eq_of_getLsbD_eq
    intro i hi
    cases i with
    | zero => simp [h]
    | succ i => simp
theorem ts_or {w m : Int64} {j : Nat} (hj : j < 64) (hm : m.toBitVec = BitVec.twoPow 64 j) : (w ||| m) = w ↔ w.toBitVec.getLsbD j = true := by
  rw [← Int64.toBitVec_inj, Int64.toBitVec_or, hm]
  constructor
  · intro h
    have t := congrArg (fun x => x.getLsbD j) h
    simp only [BitVec.getLsbD_or, BitVec.getLsbD_twoPow] at t
    simpa [hj] using t.symm
  · intro h
    apply BitVec.eq_of_getLsbD_eq
    intro i hi
    rw [BitVec.getLsbD_or, BitVec.getLsbD_twoPow]
    by_cases e : j = i
    · subst e; rw [h, Bool.true_or]
    · simp [e]
theorem ts_and {w m : Int64} {j : Nat} (hj : j < 64) (hm : m.toBitVec = BitVec.twoPow 64 j) : (w &&& (m ^^^ (-1))) = w ↔ w.toBitVec.getLsbD j = false := by
  have ha : (-1 : Int64).toBitVec = BitVec.allOnes 64 := by decide
  rw [← Int64.toBitVec_inj, Int64.toBitVec_and, Int64.toBitVec_xor, hm, ha]
  constructor
  · intro h
    have t := congrArg (fun x => x.getLsbD j) h
    simp only [BitVec.getLsbD_and, BitVec.getLsbD_xor, BitVec.getLsbD_twoPow, BitVec.getLsbD_allOnes] at t
    simpa [hj] using t.symm
  · intro h
    apply BitVec.eq_of_getLsbD_eq
    intro i hi
    rw [BitVec.getLsbD_and, BitVec.getLsbD_xor, BitVec.getLsbD_twoPow, BitVec.getLsbD_allOnes]
    by_cases e : j = i
    · subst e; rw [h, Bool.false_and]
    · simp [e, hi]
/-! ===== lN n to 2^64: shifts, and, or, masks, one bit ===== -/
theorem wb_tb (n : Nat) : (lN n).toBitVec = BitVec.ofNat 64 n := rfl
theorem wb_inj {a b : Int64} (h : a.toBitVec = b.toBitVec) : a = b := Int64.toBitVec_inj.mp h
theorem wb_tn {n : Nat} (h : n < 2 ^ 64) : (lN n).toBitVec.toNat = n := by rw [wb_tb, BitVec.toNat_ofNat, Nat.mod_eq_of_lt h]
theorem wb_of (x : Int64) : ∃ n, n < 2 ^ 64 ∧ x = lN n := ⟨x.toBitVec.toNat, x.toBitVec.isLt, wb_inj (by rw [wb_tb]; simp)⟩
theorem wb_of32 (x : Int32) : ∃ n, n < 2 ^ 32 ∧ x = nI n := ⟨x.toBitVec.toNat, x.toBitVec.isLt, Int32.toBitVec_inj.mp (by show _ = BitVec.ofNat 32 _; simp)⟩
theorem wb_c : ∀ k, k < 64 → ((nI k).toInt64 &&& 63) = lN k := by decide +kernel
theorem wb_cu : ∀ k, k < 64 → ((nI k).toInt64.toUInt64 &&& Int64.toUInt64 63) = UInt64.ofNat k := by decide +kernel
theorem wb_sm : ∀ k, k < 64 → (BitVec.ofNat 64 k).smod 64 = BitVec.ofNat 64 k := by decide +kernel
theorem wb_pw {a b : Nat} (h : a ≤ b) : 2 ^ b = 2 ^ a * 2 ^ (b - a) := by rw [← Nat.pow_add]; congr 1; omega
theorem wb_lt2 {a b : Nat} (h : a < b) : 2 ^ a < 2 ^ b := Nat.pow_lt_pow_right (by decide) h
theorem wb_mod (n : Nat) : lN n = lN (n % 2 ^ 64) := wb_inj (by rw [wb_tb, wb_tb]; apply BitVec.eq_of_toNat_eq; rw [BitVec.toNat_ofNat, BitVec.toNat_ofNat, Nat.mod_mod])
theorem wb_shr {n k : Nat} (hn : n < 2 ^ 64) (hk : k < 64) : ((lN n).toUInt64 >>> ((nI k).toInt64.toUInt64 &&& Int64.toUInt64 63)).toInt64 = lN (n / 2 ^ k) := by
  rw [wb_cu k hk]
  apply wb_inj
  apply BitVec.eq_of_toNat_eq
  show ((lN n).toUInt64 >>> UInt64.ofNat k).toNat = (BitVec.ofNat 64 _).toNat
  have h1 : (UInt64.ofNat k).toNat = k := by
    show (BitVec.ofNat 64 k).toNat = k
    rw [BitVec.toNat_ofNat, Nat.mod_eq_of_lt (by omega)]
  have h2 : (lN n).toUInt64.toNat = n := wb_tn hn
  rw [UInt64.toNat_shiftRight, h1, h2, Nat.mod_eq_of_lt hk, Nat.shiftRight_eq_div_pow, BitVec.toNat_ofNat, Nat.mod_eq_of_lt (Nat.lt_of_le_of_lt (Nat.div_le_self _ _) hn)]
theorem wb_shl (n : Nat) {k : Nat} (hk : k < 64) : lN n <<< ((nI k).toInt64 &&& 63) = lN (n * 2 ^ k) := by
  rw [wb_c k hk]
  apply wb_inj
  rw [Int64.toBitVec_shiftLeft, wb_tb, wb_tb, wb_tb, wb_sm k hk]
  apply BitVec.eq_of_toNat_eq
  rw [BitVec.shiftLeft_eq', BitVec.toNat_shiftLeft, BitVec.toNat_ofNat, BitVec.toNat_ofNat, BitVec.toNat_ofNat, Nat.mod_eq_of_lt (show k < 2 ^ 64 by omega), Nat.shiftLeft_eq, Nat.mul_mod, Nat.mod_mod, ← Nat.mul_mod]
theorem wb_and {a b : Nat} (ha : a < 2 ^ 64) (hb : b < 2 ^ 64) : lN a &&& lN b = lN (a &&& b) := by
  apply wb_inj
  rw [Int64.toBitVec_and, wb_tb, wb_tb, wb_tb]
  apply BitVec.eq_of_toNat_eq
  rw [BitVec.toNat_and, BitVec.toNat_ofNat, BitVec.toNat_ofNat, BitVec.toNat_ofNat, Nat.mod_eq_of_lt ha, Nat.mod_eq_of_lt hb, Nat.mod_eq_of_lt (Nat.and_lt_two_pow _ hb)]
theorem wb_or {a b : Nat} (ha : a < 2 ^ 64) (hb : b < 2 ^ 64) : lN a ||| lN b = lN (a ||| b) := by
  apply wb_inj
  rw [Int64.toBitVec_or, wb_tb, wb_tb, wb_tb]
  apply BitVec.eq_of_toNat_eq
  rw [BitVec.toNat_or, BitVec.toNat_ofNat, BitVec.toNat_ofNat, BitVec.toNat_ofNat, Nat.mod_eq_of_lt ha, Nat.mod_eq_of_lt hb, Nat.mod_eq_of_lt (Nat.or_lt_two_pow ha hb)]
theorem wb_mask {n k : Nat} (hn : n < 2 ^ 64) (hk : k < 64) : lN n &&& lN (2 ^ k - 1) = lN (n % 2 ^ k) := by
  rw [wb_and hn (by have := wb_lt2 hk; omega), Nat.and_two_pow_sub_one_eq_mod]
theorem wb_a1 {n : Nat} (hn : n < 2 ^ 64) : lN n &&& 1 = lN (n % 2) := wb_mask (k := 1) hn (by decide)
theorem wb_bit {n k : Nat} (hn : n < 2 ^ 64) (hk : k < 64) : ((lN n).toUInt64 >>> ((nI k).toInt64.toUInt64 &&& Int64.toUInt64 63)).toInt64 &&& 1 = lN (n / 2 ^ k % 2) := by
  rw [wb_shr hn hk, wb_a1 (Nat.lt_of_le_of_lt (Nat.div_le_self _ _) hn)]
theorem wb_xor {q k : Nat} (hk : k < 63) (h : 2 ^ k ≤ q) (h2 : q < 2 ^ (k + 1)) : lN q ^^^ lN (2 ^ k) = lN (q - 2 ^ k) := by
  obtain ⟨r, rfl⟩ : ∃ r, q = 2 ^ k + r := ⟨q - 2 ^ k, by omega⟩
  have hr : r < 2 ^ k := by rw [Nat.pow_succ] at h2; omega
  have hx : (2 ^ k + r) ^^^ 2 ^ k = r := by
    apply Nat.eq_of_testBit_eq
    intro i
    rw [Nat.testBit_xor, Nat.testBit_two_pow]
    rcases Nat.lt_trichotomy i k with h | h | h
    · rw [Nat.testBit_two_pow_add_gt h]
      simp [show ¬ k = i by omega]
    · subst h
      rw [Nat.testBit_two_pow_add_eq]
      simp
    · have a1 : 2 ^ (k + 1) ≤ 2 ^ i := Nat.pow_le_pow_right (by decide) h
      rw [Nat.testBit_lt_two_pow (show 2 ^ k + r < 2 ^ i by omega), Nat.testBit_lt_two_pow (show r < 2 ^ i by omega)]
      simp [show ¬ k = i by omega]
  have b1 := wb_lt2 (show k + 1 < 64 by omega)
  have b2 := wb_lt2 (show k < 64 by omega)
  apply wb_inj
  rw [Int64.toBitVec_xor, wb_tb, wb_tb, wb_tb]
  apply BitVec.eq_of_toNat_eq
  rw [BitVec.toNat_xor, BitVec.toNat_ofNat, BitVec.toNat_ofNat, BitVec.toNat_ofNat, Nat.mod_eq_of_lt (by omega : 2 ^ k + r < 2 ^ 64), Nat.mod_eq_of_lt b2, hx, Nat.add_sub_cancel_left, Nat.mod_eq_of_lt (by omega)]
/-! ===== lN: masks, 'or' of parts that don't overlap is a sum ===== -/
theorem u_tn {n : Nat} (h : n < 2 ^ 64) : (UInt64.ofNat n).toNat = n := Nat.mod_eq_of_lt h
theorem g_and {a b c : Nat} (ha : a < 2 ^ 64) (hb : b < 2 ^ 64) (hc : a &&& b = c) : lN a &&& lN b = lN c := by
  subst hc
  have h : UInt64.ofNat a &&& UInt64.ofNat b = UInt64.ofNat (a &&& b) := UInt64.toNat_inj.mp (by rw [UInt64.toNat_and, u_tn ha, u_tn hb, u_tn (Nat.and_lt_two_pow a hb)])
  have h2 := congrArg UInt64.toInt64 h
  exact h2
theorem g_and1 {a : Nat} (ha : a < 2 ^ 64) : lN a &&& 1 = lN (a % 2) := g_and (b := 1) ha (by decide) (Nat.and_two_pow_sub_one_eq_mod a 1)
theorem g_mask {a s p : Nat} (hp : 2 ^ s = p) (hs : s < 64) (ha : a < 2 ^ 64) : lN a &&& lN (p - 1) = lN (a % p) := by
  subst hp
  have := Nat.pow_lt_pow_right (show 1 < 2 by decide) hs
  exact g_and ha (by omega) (Nat.and_two_pow_sub_one_eq_mod a s)
theorem g_or {k p a b : Nat} (hp : 2 ^ k = p) (ha : a < p) (h : b * p + a < 2 ^ 64) : lN (b * p) ||| lN a = lN (b * p + a) := by
  subst hp
  have h1 : b * 2 ^ k ||| a = b * 2 ^ k + a := by rw [← Nat.shiftLeft_eq, Nat.shiftLeft_add_eq_or_of_lt ha]
  have h3 : UInt64.ofNat (b * 2 ^ k) ||| UInt64.ofNat a = UInt64.ofNat (b * 2 ^ k + a) := UInt64.toNat_inj.mp (by rw [UInt64.toNat_or, u_tn (by omega), u_tn (by omega), u_tn h, h1])
  have h2 := congrArg UInt64.toInt64 h3
  exact h2
theorem g_or' {k p a b : Nat} (hp : 2 ^ k = p) (ha : a < p) (h : a + b * p < 2 ^ 64) : lN a ||| lN (b * p) = lN (a + b * p) := by
  rw [Int64.or_comm, g_or hp ha (by omega), Nat.add_comm]
theorem g_ushr {a k p : Nat} {y : UInt64} (hy : y = UInt64.ofNat k) (hk : k < 64) (hp : 2 ^ k = p) (ha : a < 2 ^ 64) : ((lN a).toUInt64 >>> y).toInt64 = lN (a / p) := by
  subst hy hp
  have h : UInt64.ofNat a >>> UInt64.ofNat k = UInt64.ofNat (a / 2 ^ k) := UInt64.toNat_inj.mp (by rw [UInt64.toNat_shiftRight, u_tn ha, u_tn (by omega), u_tn (Nat.lt_of_le_of_lt (Nat.div_le_self _ _) ha), Nat.mod_eq_of_lt hk, Nat.shiftRight_eq_div_pow])
  have h2 := congrArg UInt64.toInt64 h
  exact h2
theorem g_shl {a k p : Nat} {y : Int64} (hy : y.toBitVec.smod 64 = BitVec.ofNat 64 k) (hk : k < 64) (hp : 2 ^ k = p) (ha : a < 2 ^ 64) : lN a <<< y = lN (a * p) := by
  subst hp
  apply Int64.toBitVec_inj.mp
  rw [Int64.toBitVec_shiftLeft, hy]
  apply BitVec.eq_of_toNat_eq
  have hb : (lN a).toBitVec.toNat = a := Nat.mod_eq_of_lt ha
  have hk' : (BitVec.ofNat 64 k).toNat = k := Nat.mod_eq_of_lt (by omega)
  have h : ((lN a).toBitVec <<< BitVec.ofNat 64 k).toNat = (a * 2 ^ k) % 2 ^ 64 := by simp only [BitVec.shiftLeft_eq', BitVec.toNat_shiftLeft, hb, hk', Nat.shiftLeft_eq]
  exact h
/-! ===== lN to 2^62 under >> and >>> ===== -/
theorem pf_lI {a : Nat} (h : a < 2 ^ 63) : (lN a).toInt = (a : Int) := lg_ofNat_toInt h
theorem pf_shr {a d : Nat} {D : Int64} (hD : (D.toBitVec.smod 64).toNat = d) (h : a < 2 ^ 62) : lN a >>> D = lN (a / 2 ^ d) := by
  have hd : a / 2 ^ d ≤ a := Nat.div_le_self _ _
  apply Int64.toInt_inj.mp
  have e : (lN a >>> D).toInt = (lN a).toInt >>> d := by
    rw [← hD]
    exact BitVec.toInt_sshiftRight ..
  rw [e, Int.shiftRight_eq_div_pow, pf_lI (by omega), pf_lI (by omega)]
  rfl
theorem pf_ushr {a d : Nat} {D : UInt64} (hD : D.toNat % 64 = d) (h : a < 2 ^ 62) : ((lN a).toUInt64 >>> D).toInt64 = lN (a / 2 ^ d) := by
  have hd : a / 2 ^ d ≤ a := Nat.div_le_self _ _
  have e : (lN a).toUInt64 >>> D = UInt64.ofNat (a / 2 ^ d) := UInt64.toNat_inj.mp (by
    rw [UInt64.toNat_shiftRight, hD, Nat.shiftRight_eq_div_pow, UInt64.toNat_ofNat']
    show (UInt64.ofNat a).toNat / 2 ^ d = _
    rw [UInt64.toNat_ofNat', Nat.mod_eq_of_lt (by omega), Nat.mod_eq_of_lt (by omega)])
  rw [e]
  rfl
theorem pf_andw (x : Int64) : ∃ m, m < 2 ^ 32 ∧ x &&& 4294967295 = lN m := ⟨x.toBitVec.toNat % 2 ^ 32, Nat.mod_lt _ (by decide), Int64.toBitVec_inj.mp (BitVec.eq_of_toNat_eq (by
  show (x.toBitVec &&& 4294967295#64).toNat = (BitVec.ofNat 64 (x.toBitVec.toNat % 2 ^ 32)).toNat
  rw [BitVec.toNat_and, show (4294967295#64).toNat = 2 ^ 32 - 1 from by decide, Nat.and_two_pow_sub_one_eq_mod, BitVec.toNat_ofNat]
  omega))⟩
/-! ===== Int64 as an unsigned number: uN x ===== -/
def uN (x : Int64) : Nat := x.toUInt64.toNat
theorem uN_lt (x : Int64) : uN x < 18446744073709551616 := x.toUInt64.toNat_lt
theorem uN_inj {x y : Int64} (h : uN x = uN y) : x = y := congrArg UInt64.toInt64 (UInt64.toNat_inj.mp h)
theorem uN_add (x y : Int64) : uN (x + y) = (uN x + uN y) % 18446744073709551616 := by
  show (x.toUInt64 + y.toUInt64).toNat = _
  exact UInt64.toNat_add _ _
theorem uN_mul (x y : Int64) : uN (x * y) = (uN x * uN y) % 18446744073709551616 := by
  show (x.toUInt64 * y.toUInt64).toNat = _
  exact UInt64.toNat_mul _ _
theorem uN_shl (x : Int64) : uN (x <<< ((1 : Int32).toInt64 &&& 63)) = (2 * uN x) % 18446744073709551616 := by
  have h : (((1 : Int32).toInt64 &&& 63).toBitVec.smod 64).toNat = 1 := by decide
  show (x.toBitVec <<< (((1 : Int32).toInt64 &&& 63).toBitVec.smod 64).toNat).toNat = _
  rw [h, BitVec.toNat_shiftLeft, Nat.shiftLeft_eq, Nat.mul_comm]
  rfl
theorem uN_shr (x : Int64) (s : UInt64) : uN (x.toUInt64 >>> s).toInt64 = uN x / 2 ^ (s.toNat % 64) := by
  show (x.toUInt64 >>> s).toNat = _
  rw [UInt64.toNat_shiftRight, Nat.shiftRight_eq_div_pow]
  rfl
theorem uN_s32 (x : Int64) : uN (x.toUInt64 >>> ((32 : Int32).toInt64.toUInt64 &&& Int64.toUInt64 63)).toInt64 = uN x / 4294967296 := by
  have h : ((32 : Int32).toInt64.toUInt64 &&& Int64.toUInt64 63).toNat % 64 = 32 := by decide
  rw [uN_shr, h]
theorem uN_s63 (x : Int64) : uN (x.toUInt64 >>> ((63 : Int32).toInt64.toUInt64 &&& Int64.toUInt64 63)).toInt64 = uN x / 9223372036854775808 := by
  have h : ((63 : Int32).toInt64.toUInt64 &&& Int64.toUInt64 63).toNat % 64 = 63 := by decide
  rw [uN_shr, h]
theorem uN_lo (x : Int64) : uN (x &&& 4294967295) = uN x % 4294967296 := by
  show (x.toUInt64 &&& Int64.toUInt64 4294967295).toNat = _
  rw [UInt64.toNat_and]
  exact Nat.and_two_pow_sub_one_eq_mod _ 32
theorem uN_bit (x : Int64) : (x &&& 1) = 0 ↔ uN x % 2 = 0 := by
  have h : uN (x &&& 1) = uN x % 2 := by
    show (x.toUInt64 &&& Int64.toUInt64 1).toNat = _
    rw [UInt64.toNat_and]
    exact Nat.and_two_pow_sub_one_eq_mod _ 1
  rw [← h]
  exact ⟨fun z => by rw [z]; rfl, fun z => uN_inj (z.trans rfl)⟩
theorem uN_or {x y : Int64} (hy : uN y < 2) : uN ((x <<< ((1 : Int32).toInt64 &&& 63)) ||| y) = (2 * uN x) % 18446744073709551616 + uN y := by
  have h1 : uN ((x <<< ((1 : Int32).toInt64 &&& 63)) ||| y) = uN (x <<< ((1 : Int32).toInt64 &&& 63)) ||| uN y := UInt64.toNat_or _ _
  have h2 : (2 * uN x) % 18446744073709551616 = 2 ^ 1 * (uN x % 9223372036854775808) := by omega
  rw [h1, uN_shl, h2]
  exact (Nat.two_pow_add_eq_or_of_lt (i := 1) hy _).symm
theorem nat_xor {a : Nat} (h : a < 18446744073709551616) : a ^^^ 2 ^ 63 = (a + 9223372036854775808) % 18446744073709551616 := by
  have h1 : (a ^^^ 2 ^ 63) % 2 ^ 63 = a % 2 ^ 63 := by rw [Nat.xor_mod_two_pow, Nat.mod_self, Nat.xor_zero]
  have h2 : (a ^^^ 2 ^ 63) / 2 ^ 63 = (a / 2 ^ 63) ^^^ 1 := by rw [Nat.xor_div_two_pow, Nat.div_self (Nat.two_pow_pos 63)]
  have h3 : a / 2 ^ 63 = 0 ∨ a / 2 ^ 63 = 1 := by omega
  generalize a ^^^ 2 ^ 63 = t at h1 h2
  rcases h3 with h3 | h3
  · rw [h3] at h2
    have h2 : t / 2 ^ 63 = 1 := h2
    omega
  · rw [h3] at h2
    have h2 : t / 2 ^ 63 = 0 := h2
    omega
theorem uN_xor (x : Int64) : uN (x ^^^ (-9223372036854775808)) = (uN x + 9223372036854775808) % 18446744073709551616 := by
  rw [← nat_xor (uN_lt x)]
  exact UInt64.toNat_xor _ _
theorem uN_int (x : Int64) : x.toInt = if 2 * uN x < 18446744073709551616 then (uN x : Int) else (uN x : Int) - 18446744073709551616 := BitVec.toInt_eq_toNat_cond _
theorem uN_le (x y : Int64) : (x ^^^ (-9223372036854775808)) ≤ (y ^^^ (-9223372036854775808)) ↔ uN x ≤ uN y := by
  have hx := uN_lt x
  have hy := uN_lt y
  rw [Int64.le_iff_toInt_le, uN_int, uN_int, uN_xor, uN_xor]
  omega
theorem uN_sk (x : Int64) {k : Nat} (hk : k < 64) : uN (x.toUInt64 >>> ((nI k).toInt64.toUInt64 &&& Int64.toUInt64 63)).toInt64 = uN x / 2 ^ k := by
  have h : ((nI k).toInt64.toUInt64 &&& Int64.toUInt64 63).toNat % 64 = k := by
    rw [nI_l (by omega), UInt64.toNat_and]
    have e : (lN k).toUInt64.toNat = k % 2 ^ 64 := rfl
    have e2 : (Int64.toUInt64 63).toNat = 2 ^ 6 - 1 := by decide
    rw [e, e2, Nat.and_two_pow_sub_one_eq_mod]
    omega
  rw [uN_shr, h]
/-! ===== unsigned comparison by xor with the least ===== -/
theorem lN_bv (n : Nat) : (lN n).toBitVec = BitVec.ofNat 64 n := rfl
theorem lN_nat {n : Nat} (h : n < 2 ^ 64) : (lN n).toBitVec.toNat = n := by rw [lN_bv, BitVec.toNat_ofNat]; exact Nat.mod_eq_of_lt h
theorem lN_xor (a b : Nat) : lN a ^^^ lN b = lN (a ^^^ b) := by
  apply Int64.toBitVec_inj.mp; rw [Int64.toBitVec_xor, lN_bv, lN_bv, lN_bv]; apply BitVec.eq_of_getLsbD_eq; intro i hi; simp [BitVec.getLsbD_ofNat, Nat.testBit_xor, hi]
theorem lN_ti {m : Nat} (h : m < 2 ^ 64) : (lN m).toInt = if m < 2 ^ 63 then (m : Int) else (m : Int) - 2 ^ 64 := by
  have c := BitVec.toInt_eq_toNat_cond (lN m).toBitVec
  rw [lN_nat h] at c
  show (lN m).toBitVec.toInt = _
  rw [c]
  split <;> split <;> omega
theorem xor63 {x : Nat} (h : x < 2 ^ 63) : x ^^^ 2 ^ 63 = 2 ^ 63 + x := by
  apply Nat.eq_of_testBit_eq
  intro i
  rw [Nat.testBit_xor, Nat.testBit_two_pow]
  rcases Nat.lt_trichotomy i 63 with z | z | z
  · rw [Nat.testBit_two_pow_add_gt z, decide_eq_false (by omega)]; simp
  · subst z; rw [Nat.testBit_two_pow_add_eq]; simp
  · have hp : 2 ^ 64 ≤ 2 ^ i := Nat.pow_le_pow_right (by decide) z
    rw [Nat.testBit_lt_two_pow (show x < 2 ^ i by omega), Nat.testBit_lt_two_pow (show 2 ^ 63 + x < 2 ^ i by omega), decide_eq_false (by omega)]; rfl
theorem xorS {a : Nat} (h : a < 2 ^ 64) : (lN a ^^^ (-9223372036854775808)).toInt = (a : Int) - 2 ^ 63 := by
  rw [show (-9223372036854775808 : Int64) = lN (2 ^ 63) from by decide +kernel, lN_xor]
  rcases Nat.lt_or_ge a (2 ^ 63) with z | z
  · rw [xor63 z, lN_ti (by omega), if_neg (by omega)]; omega
  · obtain ⟨x, rfl⟩ : ∃ x, a = 2 ^ 63 + x := ⟨a - 2 ^ 63, by omega⟩
    rw [← xor63 (by omega), Nat.xor_assoc, Nat.xor_self, Nat.xor_zero, lN_ti (by omega), if_pos (by omega), xor63 (by omega)]; omega
theorem ultL {a b : Nat} (ha : a < 2 ^ 64) (hb : b < 2 ^ 64) : ((lN b ^^^ (-9223372036854775808)) ≤ (lN a ^^^ (-9223372036854775808))) ↔ b ≤ a := by
  rw [Int64.le_iff_toInt_le, xorS ha, xorS hb]; omega
/-! ===== Int64 masks of n low bits ===== -/
theorem cr_bits (W U M : BitVec 64) : ((W &&& U) &&& (U &&& (M ^^^ BitVec.allOnes 64))) = 0#64 ↔ (W &&& U) &&& M = W &&& U := by
  constructor
  · intro h
    apply BitVec.eq_of_getLsbD_eq
    intro i hi
    have e := congrArg (fun x => BitVec.getLsbD x i) h
    simp only [BitVec.getLsbD_and, BitVec.getLsbD_xor, BitVec.getLsbD_allOnes, BitVec.getLsbD_zero, hi, decide_true] at e ⊢
    revert e
    cases W.getLsbD i <;> cases U.getLsbD i <;> cases M.getLsbD i <;> decide
  · intro h
    apply BitVec.eq_of_getLsbD_eq
    intro i hi
    have e := congrArg (fun x => BitVec.getLsbD x i) h
    simp only [BitVec.getLsbD_and, BitVec.getLsbD_xor, BitVec.getLsbD_allOnes, BitVec.getLsbD_zero, hi, decide_true] at e ⊢
    revert e
    cases W.getLsbD i <;> cases U.getLsbD i <;> cases M.getLsbD i <;> decide
theorem cr_mask (w U m : Int64) (n : Nat) (hm : m.toBitVec.toNat = 2 ^ n - 1) : ((w &&& U) &&& (U &&& (m ^^^ (-1)))) = 0 ↔ (w &&& U).toBitVec.toNat < 2 ^ n := by
  have e0 : (-1 : Int64).toBitVec = BitVec.allOnes 64 := by decide
  have z0 : (0 : Int64).toBitVec = 0#64 := by decide
  rw [← Int64.toBitVec_inj, z0, Int64.toBitVec_and, Int64.toBitVec_and, Int64.toBitVec_and, Int64.toBitVec_xor, e0, cr_bits]
  generalize w.toBitVec &&& U.toBitVec = T
  rw [← BitVec.toNat_inj, BitVec.toNat_and, hm, Nat.and_two_pow_sub_one_eq_mod]
  constructor
  · intro h
    have t := Nat.mod_lt T.toNat (Nat.two_pow_pos n)
    rw [h] at t
    exact t
  · exact Nat.mod_eq_of_lt
theorem cr_shr (t : Int64) (x : UInt64) (n : Nat) (hx : x.toNat % 64 = n) : (t.toUInt64 >>> x).toInt64 = 0 ↔ t.toBitVec.toNat < 2 ^ n := by
  rw [← Int64.toBitVec_inj, ← BitVec.toNat_inj]
  show (t.toUInt64 >>> x).toNat = 0 ↔ t.toUInt64.toNat < 2 ^ n
  rw [UInt64.toNat_shiftRight, hx, Nat.shiftRight_eq_div_pow]
  constructor
  · intro h
    have d : t.toUInt64.toNat / 2 ^ n < 1 := by
      rw [h]
      decide
    have e := (Nat.div_lt_iff_lt_mul (Nat.two_pow_pos n)).mp d
    rw [Nat.one_mul] at e
    exact e
  · exact Nat.div_eq_of_lt
theorem cr_amt (s : Int64) : ∃ n, n < 64 ∧ s &&& 63 = lN n ∧ (s.toUInt64 &&& Int64.toUInt64 63).toNat % 64 = n := by
  have e : (s.toUInt64 &&& Int64.toUInt64 63).toNat = s.toUInt64.toNat % 2 ^ 6 := by
    rw [UInt64.toNat_and, show (Int64.toUInt64 63).toNat = 2 ^ 6 - 1 from by decide, Nat.and_two_pow_sub_one_eq_mod]
  refine ⟨s.toUInt64.toNat % 2 ^ 6, by omega, ?_, by omega⟩
  rw [← Int64.toBitVec_inj, ← BitVec.toNat_inj]
  show (s.toUInt64 &&& Int64.toUInt64 63).toNat = (BitVec.ofNat 64 (s.toUInt64.toNat % 2 ^ 6)).toNat
  rw [e, BitVec.toNat_ofNat]
  omega
end
section
/-! pure: a B+-tree by its levels -/
def tr_tp (c : List (Nat × Nat)) : Nat := (c.getLast?.map Prod.snd).getD 0
def tr_it (C : Nat → List (Nat × Nat)) (p : Nat) : Nat × Nat := (p, tr_tp (C p))
def tr_Lw (C : Nat → List (Nat × Nat)) : List (Nat × Nat) → List (List Nat) → List (Nat × Nat) → Prop
  | b, [], e => b = e
  | b, g :: gs, e => g.flatMap C = b ∧ tr_Lw C (g.map (tr_it C)) gs e
def tr_Pt (C : Nat → List (Nat × Nat)) (pp sl : Nat → Int32) : List (Nat × Nat) → List (List Nat) → Prop
  | P, [] => P = []
  | P, g :: gs => ∃ A p B S x R, g = A ++ p :: B ∧ C p = S ++ x :: R ∧ P = A.flatMap C ++ S ∧ pp gs.length = nI p ∧ sl gs.length = nI S.length ∧ tr_Pt C pp sl (A.map (tr_it C)) gs
def tr_So (b : List (Nat × Nat)) : Prop := b.Pairwise (fun x y => x.2 < y.2)
def tr_u (C : Nat → List (Nat × Nat)) (p : Nat) (c : List (Nat × Nat)) : Nat → List (Nat × Nat) := fun q => if q = p then c else C q
def tr_Fi (C : Nat → List (Nat × Nat)) (gs : List (List Nat)) : Prop := ∀ p ∈ gs.flatten, 1 ≤ (C p).length ∧ (C p).length ≤ 4 ∧ (2 ≤ gs.length → 2 ≤ (C p).length)
/-- a stack in an array: the head is the top -/
def tr_FS (a : Nat → Int32) : List Nat → Prop
  | [] => True
  | x :: l => a l.length = nI x ∧ tr_FS a l

theorem tr_lc {α : Type} (l : List α) : l = [] ∨ ∃ S x, l = S ++ [x] := by
  rcases List.eq_nil_or_concat l with h | ⟨S, x, h⟩
  · exact Or.inl h
  · exact Or.inr ⟨S, x, by rw [h, List.concat_eq_append]⟩
theorem tr_us {C : Nat → List (Nat × Nat)} {p : Nat} {c : List (Nat × Nat)} : tr_u C p c p = c := if_pos rfl
theorem tr_un {C : Nat → List (Nat × Nat)} {p q : Nat} {c : List (Nat × Nat)} (h : q ≠ p) : tr_u C p c q = C q := if_neg h

theorem tr_tp_app {S R : List (Nat × Nat)} (h : R ≠ []) : tr_tp (S ++ R) = tr_tp R := by
  obtain ⟨x, R', rfl⟩ := List.exists_cons_of_ne_nil h
  simp [tr_tp, List.getLast?_append, List.getLast?_cons]
theorem tr_tp_1 {S : List (Nat × Nat)} {x : Nat × Nat} : tr_tp (S ++ [x]) = x.2 := by
  rw [tr_tp_app (by simp)]; simp [tr_tp]
theorem tr_tp_mem {c : List (Nat × Nat)} (h : c ≠ []) : ∃ x ∈ c, x.2 = tr_tp c := by
  rcases tr_lc c with rfl | ⟨S, x, rfl⟩
  · exact absurd rfl h
  · exact ⟨x, by simp, tr_tp_1.symm⟩
theorem tr_le_tp {c : List (Nat × Nat)} {x : Nat × Nat} (hs : tr_So c) (hx : x ∈ c) : x.2 ≤ tr_tp c := by
  obtain ⟨S, R, rfl⟩ := List.append_of_mem hx
  rw [tr_tp_app (by simp)]
  rcases tr_lc R with rfl | ⟨R', y, rfl⟩
  · simp [tr_tp]
  · rw [show x :: (R' ++ [y]) = (x :: R') ++ [y] from rfl, tr_tp_1]
    have h2 := (List.pairwise_append.mp hs).2.1
    have h3 := (List.pairwise_cons.mp h2).1 y (by simp)
    exact Nat.le_of_lt h3
theorem tr_split {k : Nat} : ∀ {c : List (Nat × Nat)}, (∃ y ∈ c, k ≤ y.2) → ∃ S x R, c = S ++ x :: R ∧ (∀ y ∈ S, y.2 < k) ∧ k ≤ x.2
  | [], h => by obtain ⟨y, hy, _⟩ := h; simp at hy
  | z :: c, h => by
    by_cases hz : k ≤ z.2
    · exact ⟨[], z, c, rfl, by simp, hz⟩
    · have h' : ∃ y ∈ c, k ≤ y.2 := by
        obtain ⟨y, hy, hk⟩ := h
        rcases List.mem_cons.mp hy with rfl | hy
        · exact absurd hk hz
        · exact ⟨y, hy, hk⟩
      obtain ⟨S, x, R, e, h1, h2⟩ := tr_split h'
      refine ⟨z :: S, x, R, by rw [e]; rfl, ?_, h2⟩
      intro y hy
      rcases List.mem_cons.mp hy with rfl | hy
      · omega
      · exact h1 y hy
theorem tr_fm_congr {C C' : Nat → List (Nat × Nat)} : ∀ {g : List Nat}, (∀ p ∈ g, C' p = C p) → g.flatMap C' = g.flatMap C
  | [], _ => rfl
  | p :: g, h => by
    rw [List.flatMap_cons, List.flatMap_cons, h p (by simp), tr_fm_congr (fun q hq => h q (by simp [hq]))]
theorem tr_mp_congr {C C' : Nat → List (Nat × Nat)} {g : List Nat} (h : ∀ p ∈ g, C' p = C p) : g.map (tr_it C') = g.map (tr_it C) := by
  apply List.map_congr_left
  intro p hp
  unfold tr_it
  rw [h p hp]
theorem tr_Lw_congr {C C' : Nat → List (Nat × Nat)} : ∀ {gs : List (List Nat)} {b e : List (Nat × Nat)}, (∀ p ∈ gs.flatten, C' p = C p) → tr_Lw C b gs e → tr_Lw C' b gs e
  | [], _, _, _, h => h
  | g :: gs, b, e, hc, h => by
    have h1 : ∀ p ∈ g, C' p = C p := fun p hp => hc p (by simp [hp])
    refine ⟨(tr_fm_congr h1).trans h.1, ?_⟩
    rw [tr_mp_congr h1]
    exact tr_Lw_congr (fun p hp => hc p (by rw [List.flatten_cons]; exact List.mem_append_right _ hp)) h.2
theorem tr_Lw_app {C : Nat → List (Nat × Nat)} : ∀ {gs hs : List (List Nat)} {b e : List (Nat × Nat)}, tr_Lw C b (gs ++ hs) e ↔ ∃ m, tr_Lw C b gs m ∧ tr_Lw C m hs e
  | [], hs, b, e => ⟨fun h => ⟨b, rfl, h⟩, fun ⟨m, h1, h2⟩ => by cases h1; exact h2⟩
  | g :: gs, hs, b, e => by
    constructor
    · intro h
      obtain ⟨m, h1, h2⟩ := tr_Lw_app.mp h.2
      exact ⟨m, ⟨h.1, h1⟩, h2⟩
    · intro ⟨m, h1, h2⟩
      exact ⟨h1.1, tr_Lw_app.mpr ⟨m, h1.2, h2⟩⟩
theorem tr_Lw_it {C : Nat → List (Nat × Nat)} : ∀ {gs : List (List Nat)} {b e : List (Nat × Nat)}, gs ≠ [] → tr_Lw C b gs e → ∀ y ∈ e, y.2 = tr_tp (C y.1)
  | [], _, _, h, _ => absurd rfl h
  | [g], b, e, _, h => by
    intro y hy
    have h2 : g.map (tr_it C) = e := h.2
    rw [← h2] at hy
    obtain ⟨p, _, rfl⟩ := List.mem_map.mp hy
    rfl
  | g :: g' :: gs, b, e, _, h => tr_Lw_it (gs := g' :: gs) (by simp) h.2
theorem tr_So_up {C : Nat → List (Nat × Nat)} : ∀ {g : List Nat}, (∀ p ∈ g, C p ≠ []) → tr_So (g.flatMap C) → tr_So (g.map (tr_it C))
  | [], _, _ => List.Pairwise.nil
  | p :: g, hn, h => by
    rw [List.flatMap_cons] at h
    obtain ⟨_, h2, h3⟩ := List.pairwise_append.mp h
    rw [List.map_cons]
    refine List.pairwise_cons.mpr ⟨?_, tr_So_up (fun q hq => hn q (by simp [hq])) h2⟩
    intro y hy
    obtain ⟨q, hq, rfl⟩ := List.mem_map.mp hy
    obtain ⟨x, hx, ex⟩ := tr_tp_mem (hn p (by simp))
    obtain ⟨z, hz, ez⟩ := tr_tp_mem (hn q (by simp [hq]))
    have := h3 x hx z (List.mem_flatMap.mpr ⟨q, hq, hz⟩)
    show tr_tp (C p) < tr_tp (C q)
    omega
theorem tr_So_Lw {C : Nat → List (Nat × Nat)} : ∀ {gs : List (List Nat)} {b e : List (Nat × Nat)}, (∀ p ∈ gs.flatten, C p ≠ []) → tr_Lw C b gs e → tr_So b → tr_So e
  | [], _, _, _, h, hb => by cases h; exact hb
  | g :: gs, b, e, hn, h, hb => by
    rw [← h.1] at hb
    exact tr_So_Lw (fun p hp => hn p (by rw [List.flatten_cons]; exact List.mem_append_right _ hp)) h.2 (tr_So_up (fun p hp => hn p (by simp [hp])) hb)
theorem tr_fm_len {C : Nat → List (Nat × Nat)} : ∀ {g : List Nat}, (∀ p ∈ g, 2 ≤ (C p).length) → 2 * g.length ≤ (g.flatMap C).length
  | [], _ => by simp
  | p :: g, h => by
    have h1 := h p (by simp)
    have h2 := tr_fm_len (C := C) (g := g) (fun q hq => h q (by simp [hq]))
    rw [List.flatMap_cons, List.length_append, List.length_cons]
    omega
theorem tr_cnt {C : Nat → List (Nat × Nat)} : ∀ {gs : List (List Nat)} {b e : List (Nat × Nat)}, (∀ p ∈ gs.flatten, 2 ≤ (C p).length) → tr_Lw C b gs e → gs.flatten.length + e.length ≤ b.length
  | [], _, _, _, h => by cases h; simp
  | g :: gs, b, e, hn, h => by
    have h1 := tr_cnt (fun p hp => hn p (by rw [List.flatten_cons]; exact List.mem_append_right _ hp)) h.2
    have h2 := tr_fm_len (C := C) (g := g) (fun p hp => hn p (by simp [hp]))
    rw [h.1] at h2
    rw [List.length_map] at h1
    rw [List.flatten_cons, List.length_append]
    omega
theorem tr_ht {C : Nat → List (Nat × Nat)} : ∀ {gs : List (List Nat)} {b e : List (Nat × Nat)}, (∀ p ∈ gs.flatten, 2 ≤ (C p).length) → tr_Lw C b gs e → e.length * 2 ^ gs.length ≤ b.length
  | [], _, _, _, h => by cases h; simp
  | g :: gs, b, e, hn, h => by
    have h1 := tr_ht (fun p hp => hn p (by rw [List.flatten_cons]; exact List.mem_append_right _ hp)) h.2
    have h2 := tr_fm_len (C := C) (g := g) (fun p hp => hn p (by simp [hp]))
    rw [h.1] at h2
    rw [List.length_map] at h1
    rw [List.length_cons, Nat.pow_succ, ← Nat.mul_assoc]
    omega
theorem tr_Pt_congr {C C' : Nat → List (Nat × Nat)} {pp pp' sl sl' : Nat → Int32} : ∀ {gs : List (List Nat)} {P : List (Nat × Nat)}, (∀ p ∈ gs.flatten, C' p = C p) → (∀ i, i < gs.length → pp' i = pp i ∧ sl' i = sl i) → tr_Pt C pp sl P gs → tr_Pt C' pp' sl' P gs
  | [], _, _, _, h => h
  | g :: gs, P, hc, hp, h => by
    obtain ⟨A, p, B, S, x, R, rfl, e2, e3, e4, e5, h6⟩ := h
    have hA : ∀ q ∈ A, C' q = C q := fun q hq => hc q (by simp [hq])
    have hl := hp gs.length (by simp)
    refine ⟨A, p, B, S, x, R, rfl, (hc p (by simp)).trans e2, by rw [tr_fm_congr hA]; exact e3, hl.1.trans e4, hl.2.trans e5, ?_⟩
    rw [tr_mp_congr hA]
    exact tr_Pt_congr (fun q hq => hc q (by rw [List.flatten_cons]; exact List.mem_append_right _ hq)) (fun i hi => hp i (by rw [List.length_cons]; omega)) h6
theorem tr_FS_congr {a a' : Nat → Int32} : ∀ {l : List Nat}, (∀ i, i < l.length → a' i = a i) → tr_FS a l → tr_FS a' l
  | [], _, _ => trivial
  | x :: l, hc, h => ⟨(hc l.length (by simp)).trans h.1, tr_FS_congr (fun i hi => hc i (by rw [List.length_cons]; omega)) h.2⟩
theorem tr_FS_push {a : Nat → Int32} {l : List Nat} {x : Nat} (h : tr_FS a l) : tr_FS (upd a l.length (nI x)) (x :: l) :=
  ⟨pk_us, tr_FS_congr (fun i hi => pk_un (by omega)) h⟩
/-- the root is one page: the numbers of pages and levels -/
theorem tr_nums {C : Nat → List (Nat × Nat)} {gs : List (List Nat)} {b : List (Nat × Nat)} {r : Nat × Nat} {F : List Nat} (hf : tr_Fi C gs) (h0 : gs ≠ []) (h : tr_Lw C b gs [r]) (hb : b.length ≤ 49) (hP : (gs.flatten ++ F).Perm (List.range 64)) : gs.length ≤ 5 ∧ 16 ≤ F.length := by
  have hl := hP.length_eq
  rw [List.length_append, List.length_range] at hl
  by_cases h2 : 2 ≤ gs.length
  · have hh : ∀ p ∈ gs.flatten, 2 ≤ (C p).length := fun p hp => (hf p hp).2.2 h2
    have h3 := tr_cnt hh h
    have h4 := tr_ht hh h
    simp only [List.length_cons, List.length_nil, Nat.zero_add, Nat.one_mul] at h3 h4
    refine ⟨?_, by omega⟩
    apply Nat.le_of_not_lt
    intro h6
    have h7 : 2 ^ 6 ≤ 2 ^ gs.length := Nat.pow_le_pow_right (by decide) h6
    omega
  · obtain ⟨g, rfl⟩ : ∃ g, gs = [g] := by
      match gs, h0, h2 with
      | [g], _, _ => exact ⟨g, rfl⟩
      | g :: g' :: l, _, h2 => exact absurd (by simp) h2
    have h3 : g.map (tr_it C) = [r] := h.2
    have h4 : g.length = 1 := by rw [← List.length_map (f := tr_it C), h3]; rfl
    simp only [List.flatten_cons, List.flatten_nil, List.append_nil, List.length_cons, List.length_nil] at hl ⊢
    omega
end
section
/-! the component's page methods over the pages' contents C -/
def tr_PP (pf ps pt : Nat → Int32) (C : Nat → List (Nat × Nat)) : Prop := ∀ p, p < 64 → pf p = nI (C p).length ∧ (C p).length ≤ 5 ∧ ∀ i x, (C p)[i]? = some x → x.1 < 64 ∧ x.2 ≤ 1000 ∧ ps (p * 5 + i) = nI x.1 ∧ pt (p * 5 + i) = nI x.2
theorem tr_PP_set {pf ps pt pf' ps' pt' : Nat → Int32} {C : Nat → List (Nat × Nat)} {p : Nat} {c : List (Nat × Nat)} (h : tr_PP pf ps pt C) (hl : c.length ≤ 5) (hf : pf' p = nI c.length) (hfo : ∀ q, q ≠ p → pf' q = pf q) (ho : ∀ j, (j < p * 5 ∨ p * 5 + 5 ≤ j) → ps' j = ps j ∧ pt' j = pt j) (hc : ∀ i x, c[i]? = some x → x.1 < 64 ∧ x.2 ≤ 1000 ∧ ps' (p * 5 + i) = nI x.1 ∧ pt' (p * 5 + i) = nI x.2) : tr_PP pf' ps' pt' (tr_u C p c) := by
  intro q hq
  by_cases e : q = p
  · subst e
    rw [tr_us]
    exact ⟨hf, hl, hc⟩
  · rw [tr_un e]
    obtain ⟨h1, h2, h3⟩ := h q hq
    refine ⟨(hfo q e).trans h1, h2, fun i x hx => ?_⟩
    have hi : i < (C q).length := by
      have := List.getElem?_eq_some_iff.mp hx
      exact this.1
    obtain ⟨h4, h5, h6, h7⟩ := h3 i x hx
    have := ho (q * 5 + i) (by omega)
    exact ⟨h4, h5, this.1.trans h6, this.2.trans h7⟩
theorem tr_PP_b {pf ps pt : Nat → Int32} {C : Nat → List (Nat × Nat)} {p : Nat} {x : Nat × Nat} (h : tr_PP pf ps pt C) (hp : p < 64) (hx : x ∈ C p) : x.1 < 64 ∧ x.2 ≤ 1000 := by
  obtain ⟨i, hi⟩ := List.getElem?_of_mem hx
  have := (h p hp).2.2 i x hi
  exact ⟨this.1, this.2.1⟩
theorem tr_PP_at {pf ps pt : Nat → Int32} {C : Nat → List (Nat × Nat)} {p : Nat} {S R : List (Nat × Nat)} {x : Nat × Nat} (h : tr_PP pf ps pt C) (hp : p < 64) (hc : C p = S ++ x :: R) : ps (p * 5 + S.length) = nI x.1 ∧ pt (p * 5 + S.length) = nI x.2 ∧ x.1 < 64 ∧ x.2 ≤ 1000 ∧ S.length + 1 ≤ 5 := by
  have h1 := h p hp
  have h2 := h1.2.2 S.length x (by rw [hc]; simp)
  have h3 := h1.2.1
  rw [hc, List.length_append, List.length_cons] at h3
  exact ⟨h2.2.2.1, h2.2.2.2, h2.1, h2.2.1, by omega⟩
theorem tr_tp_b {pf ps pt : Nat → Int32} {C : Nat → List (Nat × Nat)} {p : Nat} (h : tr_PP pf ps pt C) (hp : p < 64) : tr_tp (C p) ≤ 1000 := by
  by_cases e : C p = []
  · rw [e]; decide
  · obtain ⟨x, hx, ex⟩ := tr_tp_mem e
    rw [← ex]
    exact (tr_PP_b h hp hx).2
theorem xw_ix (p i : Nat) : nI p * 5 + nI i = nI (p * 5 + i) := by
  rw [show (5 : Int32) = nI 5 from rfl, pk_mul, nI_add]
def xw_sh (a : Nat → Int32) (lo hi : Nat) : Nat → Int32 := fun j => if lo < j ∧ j ≤ hi then a (j - 1) else a j
def xw_cp (a : Nat → Int32) (f t n : Nat) : Nat → Int32 := fun j => if t ≤ j ∧ j < t + n then a (j - t + f) else a j
theorem xw_sh0 (a : Nat → Int32) (lo : Nat) : xw_sh a lo lo = a := by
  funext j; unfold xw_sh; rw [if_neg (by omega)]
theorem xw_cp0 (a : Nat → Int32) (f t : Nat) : xw_cp a f t 0 = a := by
  funext j; unfold xw_cp; rw [if_neg (by omega)]
theorem xw_sh1 (a : Nat → Int32) {lo hi : Nat} (h : lo ≤ hi) : xw_sh (upd a (hi + 1) (a hi)) lo hi = xw_sh a lo (hi + 1) := by
  funext j; unfold xw_sh upd
  by_cases h1 : lo < j ∧ j ≤ hi
  · rw [if_pos h1, if_neg (by omega), if_pos (by omega)]
  · rw [if_neg h1]
    by_cases h2 : j = hi + 1
    · rw [if_pos h2, if_pos (by omega), h2]; rfl
    · rw [if_neg h2, if_neg (by omega)]
theorem xw_cp1 (a : Nat → Int32) {f t d : Nat} (h : t < f ∨ f + d < t) : xw_cp (upd a t (a f)) (f + 1) (t + 1) d = xw_cp a f t (d + 1) := by
  funext j; unfold xw_cp upd
  by_cases h1 : t + 1 ≤ j ∧ j < t + 1 + d
  · rw [if_pos h1, if_neg (by omega), if_pos (by omega)]
    exact congrArg a (by omega)
  · rw [if_neg h1]
    by_cases h2 : j = t
    · rw [if_pos h2, if_pos (by omega), h2]; exact congrArg a (by omega)
    · rw [if_neg h2, if_neg (by omega)]
section
variable {f_END f_NOBODY f_FAN f_FILL f_STRIDE f_DEPTH f_PAGES f_ROWS f_slots f_capacity f_entryCount f_freeRecs f_freePages f_root f_height : Int32} {f_clock : Int64} {a_recKey a_recState a_recValue a_next a_prev a_readers a_writers a_gapReaders a_owner a_baseState a_baseValue a_recFree a_pageFill a_pageSlot a_pageTop a_pageFree a_pathPage a_pathSlot a_phaseOf a_outcomeOf a_used : Nat → Int32} {a_beganAt : Nat → Int64} {a_opKind a_opFirst a_opSecond : Nat → Int32} {a_acceptedAt : Nat → Int64} {a_rowCount a_rowKeys a_rowValues a_reach : Nat → Int32}
theorem xw_copy {post : SX → Prop} {p i q j : Nat} (hp : p * 5 + i < 320) (hq : q * 5 + j < 320) (h : post (f_END, f_NOBODY, f_FAN, f_FILL, f_STRIDE, f_DEPTH, f_PAGES, f_ROWS, f_slots, f_capacity, f_entryCount, f_freeRecs, f_freePages, f_root, f_height, f_clock, a_recKey, a_recState, a_recValue, a_next, a_prev, a_readers, a_writers, a_gapReaders, a_owner, a_baseState, a_baseValue, a_recFree, a_pageFill, upd a_pageSlot (q * 5 + j) (a_pageSlot (p * 5 + i)), upd a_pageTop (q * 5 + j) (a_pageTop (p * 5 + i)), a_pageFree, a_pathPage, a_pathSlot, a_phaseOf, a_outcomeOf, a_used, a_beganAt, a_opKind, a_opFirst, a_opSecond, a_acceptedAt, a_rowCount, a_rowKeys, a_rowValues, a_reach)) : wpX_copySlot post (f_END, f_NOBODY, f_FAN, f_FILL, f_STRIDE, f_DEPTH, f_PAGES, f_ROWS, f_slots, f_capacity, f_entryCount, f_freeRecs, f_freePages, f_root, f_height, f_clock, a_recKey, a_recState, a_recValue, a_next, a_prev, a_readers, a_writers, a_gapReaders, a_owner, a_baseState, a_baseValue, a_recFree, a_pageFill, a_pageSlot, a_pageTop, a_pageFree, a_pathPage, a_pathSlot, a_phaseOf, a_outcomeOf, a_used, a_beganAt, a_opKind, a_opFirst, a_opSecond, a_acceptedAt, a_rowCount, a_rowKeys, a_rowValues, a_reach) (nI p) (nI i) (nI q) (nI j) := by
  have v1 : vp_in (nI (p * 5 + i)) 320 := vp_in_nI hp (by omega)
  have v2 : vp_in (nI (q * 5 + j)) 320 := vp_in_nI hq (by omega)
  have c1 : (nI (p * 5 + i)).toNatClampNeg = p * 5 + i := nI_clamp (by omega)
  have c2 : (nI (q * 5 + j)).toNatClampNeg = q * 5 + j := nI_clamp (by omega)
  refine nm_r (xw_ix p i) (nm_r (xw_ix q j) ⟨v1, v2, ?_⟩)
  rw [c1, c2]
  exact nm_e ⟨v1, v2, nm_e h⟩
theorem xw_put_loop {post : SX → Prop} {p at' : Nat} {id top : Int32} (hp : p < 64) : ∀ (d : Nat) (a_pageSlot a_pageTop : Nat → Int32) (n : Nat), at' + d ≤ 4 → d < n → post (f_END, f_NOBODY, f_FAN, f_FILL, f_STRIDE, f_DEPTH, f_PAGES, f_ROWS, f_slots, f_capacity, f_entryCount, f_freeRecs, f_freePages, f_root, f_height, f_clock, a_recKey, a_recState, a_recValue, a_next, a_prev, a_readers, a_writers, a_gapReaders, a_owner, a_baseState, a_baseValue, a_recFree, upd a_pageFill p (a_pageFill p + 1), upd (xw_sh a_pageSlot (p * 5 + at') (p * 5 + at' + d)) (p * 5 + at') id, upd (xw_sh a_pageTop (p * 5 + at') (p * 5 + at' + d)) (p * 5 + at') top, a_pageFree, a_pathPage, a_pathSlot, a_phaseOf, a_outcomeOf, a_used, a_beganAt, a_opKind, a_opFirst, a_opSecond, a_acceptedAt, a_rowCount, a_rowKeys, a_rowValues, a_reach) → wX_putSlot_8 post (nI p) (nI at') id top n (nI (at' + d)) f_END f_NOBODY f_FAN f_FILL f_STRIDE f_DEPTH f_PAGES f_ROWS f_slots f_capacity f_entryCount f_freeRecs f_freePages f_root f_height f_clock a_recKey a_recState a_recValue a_next a_prev a_readers a_writers a_gapReaders a_owner a_baseState a_baseValue a_recFree a_pageFill a_pageSlot a_pageTop a_pageFree a_pathPage a_pathSlot a_phaseOf a_outcomeOf a_used a_beganAt a_opKind a_opFirst a_opSecond a_acceptedAt a_rowCount a_rowKeys a_rowValues a_reach
  | 0, a_pageSlot, a_pageTop, n + 1, h1, h2, h => by
    have v1 : vp_in (nI (p * 5 + at')) 320 := vp_in_nI (by omega) (by omega)
    have v2 : vp_in (nI p) 64 := vp_in_nI hp (by omega)
    have c1 : (nI (p * 5 + at')).toNatClampNeg = p * 5 + at' := nI_clamp (by omega)
    have c2 : (nI p).toNatClampNeg = p := nI_clamp (by omega)
    rw [Nat.add_zero] at h
    rw [xw_sh0, xw_sh0] at h
    refine br_t (nI_le (by omega) (by omega)) ?_
    rw [xw_ix, c1, c2]
    exact ⟨v1, nm_e ⟨v1, nm_e ⟨v2, v2, nm_e h⟩⟩⟩
  | d + 1, a_pageSlot, a_pageTop, n + 1, h1, h2, h => by
    refine br_f (nI_ge (by omega) (by omega)) ?_
    rw [show nI (at' + (d + 1)) - 1 = nI (at' + d) from nI_pred _]
    refine xw_copy (by omega) (by omega) (nm_r (pk_m1 (at' + d)) ?_)
    refine xw_put_loop hp d _ _ n (by omega) (by omega) ?_
    rw [show p * 5 + (at' + (d + 1)) = p * 5 + at' + d + 1 by omega, show p * 5 + (at' + d) = p * 5 + at' + d by omega, xw_sh1 _ (by omega), xw_sh1 _ (by omega)]
    exact h
theorem xw_put {post : SX → Prop} {C : Nat → List (Nat × Nat)} {p id top : Nat} {S R : List (Nat × Nat)} (hP : tr_PP a_pageFill a_pageSlot a_pageTop C) (hp : p < 64) (hc : C p = S ++ R) (hl : (C p).length ≤ 4) (hid : id < 64) (ht : top ≤ 1000) (h : ∀ pf ps pt, tr_PP pf ps pt (tr_u C p (S ++ (id, top) :: R)) → post (f_END, f_NOBODY, f_FAN, f_FILL, f_STRIDE, f_DEPTH, f_PAGES, f_ROWS, f_slots, f_capacity, f_entryCount, f_freeRecs, f_freePages, f_root, f_height, f_clock, a_recKey, a_recState, a_recValue, a_next, a_prev, a_readers, a_writers, a_gapReaders, a_owner, a_baseState, a_baseValue, a_recFree, pf, ps, pt, a_pageFree, a_pathPage, a_pathSlot, a_phaseOf, a_outcomeOf, a_used, a_beganAt, a_opKind, a_opFirst, a_opSecond, a_acceptedAt, a_rowCount, a_rowKeys, a_rowValues, a_reach)) : wpX_putSlot post (f_END, f_NOBODY, f_FAN, f_FILL, f_STRIDE, f_DEPTH, f_PAGES, f_ROWS, f_slots, f_capacity, f_entryCount, f_freeRecs, f_freePages, f_root, f_height, f_clock, a_recKey, a_recState, a_recValue, a_next, a_prev, a_readers, a_writers, a_gapReaders, a_owner, a_baseState, a_baseValue, a_recFree, a_pageFill, a_pageSlot, a_pageTop, a_pageFree, a_pathPage, a_pathSlot, a_phaseOf, a_outcomeOf, a_used, a_beganAt, a_opKind, a_opFirst, a_opSecond, a_acceptedAt, a_rowCount, a_rowKeys, a_rowValues, a_reach) (nI p) (nI S.length) (nI id) (nI top) := by
  have hf := (hP p hp).1
  have hl2 : (C p).length = S.length + R.length := by rw [hc, List.length_append]
  have c2 : (nI p).toNatClampNeg = p := nI_clamp (by omega)
  refine ⟨vp_in_nI hp (by omega), ?_⟩
  rw [c2]
  refine nm_r hf ⟨R.length + 1, ?_⟩
  rw [hl2]
  refine xw_put_loop hp R.length _ _ _ (by omega) (by omega) (h _ _ _ ?_)
  refine tr_PP_set hP (by rw [List.length_append, List.length_cons]; omega) ?_ (fun q hq => pk_un hq) ?_ ?_
  · rw [pk_us, hf, nI_1, List.length_append, List.length_cons]
    exact congrArg nI (by omega)
  · intro j hj
    have hn : j ≠ p * 5 + S.length := by omega
    rw [pk_un hn, pk_un hn]
    unfold xw_sh
    rw [if_neg (by omega), if_neg (by omega)]
    exact ⟨rfl, rfl⟩
  · intro i x hx
    have hx0 := hx
    rw [List.getElem?_append] at hx
    by_cases h1 : i < S.length
    · rw [if_pos h1] at hx
      have hx' : (C p)[i]? = some x := by rw [hc, List.getElem?_append, if_pos h1]; exact hx
      obtain ⟨g1, g2, g3, g4⟩ := (hP p hp).2.2 i x hx'
      have hn : p * 5 + i ≠ p * 5 + S.length := by omega
      refine ⟨g1, g2, ?_, ?_⟩
      · rw [pk_un hn]; unfold xw_sh; rw [if_neg (by omega)]; exact g3
      · rw [pk_un hn]; unfold xw_sh; rw [if_neg (by omega)]; exact g4
    · rw [if_neg h1, List.getElem?_cons] at hx
      by_cases h2 : i - S.length = 0
      · rw [if_pos h2] at hx
        have e : i = S.length := by omega
        cases hx
        subst e
        exact ⟨hid, ht, pk_us, pk_us⟩
      · rw [if_neg h2] at hx
        have hx' : (C p)[i - 1]? = some x := by
          rw [hc, List.getElem?_append, if_neg (by omega)]
          rw [show i - 1 - S.length = i - S.length - 1 by omega]; exact hx
        have hb := (List.getElem?_eq_some_iff.mp hx').1
        obtain ⟨g1, g2, g3, g4⟩ := (hP p hp).2.2 (i - 1) x hx'
        have hn : p * 5 + i ≠ p * 5 + S.length := by omega
        refine ⟨g1, g2, ?_, ?_⟩
        · rw [pk_un hn]; unfold xw_sh; rw [if_pos (by omega), show p * 5 + i - 1 = p * 5 + (i - 1) by omega]; exact g3
        · rw [pk_un hn]; unfold xw_sh; rw [if_pos (by omega), show p * 5 + i - 1 = p * 5 + (i - 1) by omega]; exact g4
theorem xw_drop_loop {post : SX → Prop} {p last : Nat} (hp : p < 64) : ∀ (d i : Nat) (a_pageSlot a_pageTop : Nat → Int32) (n : Nat), i + d = last → last ≤ 4 → d < n → post (f_END, f_NOBODY, f_FAN, f_FILL, f_STRIDE, f_DEPTH, f_PAGES, f_ROWS, f_slots, f_capacity, f_entryCount, f_freeRecs, f_freePages, f_root, f_height, f_clock, a_recKey, a_recState, a_recValue, a_next, a_prev, a_readers, a_writers, a_gapReaders, a_owner, a_baseState, a_baseValue, a_recFree, upd a_pageFill p (nI last), xw_cp a_pageSlot (p * 5 + i + 1) (p * 5 + i) d, xw_cp a_pageTop (p * 5 + i + 1) (p * 5 + i) d, a_pageFree, a_pathPage, a_pathSlot, a_phaseOf, a_outcomeOf, a_used, a_beganAt, a_opKind, a_opFirst, a_opSecond, a_acceptedAt, a_rowCount, a_rowKeys, a_rowValues, a_reach) → wX_dropSlot_12 post (nI p) (nI last) n (nI i) f_END f_NOBODY f_FAN f_FILL f_STRIDE f_DEPTH f_PAGES f_ROWS f_slots f_capacity f_entryCount f_freeRecs f_freePages f_root f_height f_clock a_recKey a_recState a_recValue a_next a_prev a_readers a_writers a_gapReaders a_owner a_baseState a_baseValue a_recFree a_pageFill a_pageSlot a_pageTop a_pageFree a_pathPage a_pathSlot a_phaseOf a_outcomeOf a_used a_beganAt a_opKind a_opFirst a_opSecond a_acceptedAt a_rowCount a_rowKeys a_rowValues a_reach
  | 0, i, a_pageSlot, a_pageTop, n + 1, h1, h2, h3, h => by
    have v2 : vp_in (nI p) 64 := vp_in_nI hp (by omega)
    have c2 : (nI p).toNatClampNeg = p := nI_clamp (by omega)
    rw [xw_cp0, xw_cp0] at h
    refine br_t (nI_le (by omega) (by omega)) ?_
    rw [c2]
    exact ⟨v2, nm_e h⟩
  | d + 1, i, a_pageSlot, a_pageTop, n + 1, h1, h2, h3, h => by
    refine br_f (nI_ge (by omega) (by omega)) ?_
    rw [nI_1 i]
    refine xw_copy (by omega) (by omega) (nm_e ?_)
    refine xw_drop_loop hp d (i + 1) _ _ n (by omega) (by omega) (by omega) ?_
    rw [show p * 5 + (i + 1) = p * 5 + i + 1 by omega, xw_cp1 _ (by omega), xw_cp1 _ (by omega)]
    exact h
theorem xw_drop {post : SX → Prop} {C : Nat → List (Nat × Nat)} {p : Nat} {S R : List (Nat × Nat)} {x : Nat × Nat} (hP : tr_PP a_pageFill a_pageSlot a_pageTop C) (hp : p < 64) (hc : C p = S ++ x :: R) (h : ∀ pf ps pt, tr_PP pf ps pt (tr_u C p (S ++ R)) → post (f_END, f_NOBODY, f_FAN, f_FILL, f_STRIDE, f_DEPTH, f_PAGES, f_ROWS, f_slots, f_capacity, f_entryCount, f_freeRecs, f_freePages, f_root, f_height, f_clock, a_recKey, a_recState, a_recValue, a_next, a_prev, a_readers, a_writers, a_gapReaders, a_owner, a_baseState, a_baseValue, a_recFree, pf, ps, pt, a_pageFree, a_pathPage, a_pathSlot, a_phaseOf, a_outcomeOf, a_used, a_beganAt, a_opKind, a_opFirst, a_opSecond, a_acceptedAt, a_rowCount, a_rowKeys, a_rowValues, a_reach)) : wpX_dropSlot post (f_END, f_NOBODY, f_FAN, f_FILL, f_STRIDE, f_DEPTH, f_PAGES, f_ROWS, f_slots, f_capacity, f_entryCount, f_freeRecs, f_freePages, f_root, f_height, f_clock, a_recKey, a_recState, a_recValue, a_next, a_prev, a_readers, a_writers, a_gapReaders, a_owner, a_baseState, a_baseValue, a_recFree, a_pageFill, a_pageSlot, a_pageTop, a_pageFree, a_pathPage, a_pathSlot, a_phaseOf, a_outcomeOf, a_used, a_beganAt, a_opKind, a_opFirst, a_opSecond, a_acceptedAt, a_rowCount, a_rowKeys, a_rowValues, a_reach) (nI p) (nI S.length) := by
  have hf := (hP p hp).1
  have h5 := (hP p hp).2.1
  have hl2 : (C p).length = S.length + R.length + 1 := by rw [hc, List.length_append, List.length_cons]; omega
  have c2 : (nI p).toNatClampNeg = p := nI_clamp (by omega)
  refine ⟨vp_in_nI hp (by omega), ?_⟩
  rw [c2, hf, hl2]
  refine nm_r (nI_pred _) ⟨R.length + 1, ?_⟩
  refine xw_drop_loop hp R.length S.length _ _ _ rfl (by omega) (by omega) (h _ _ _ ?_)
  refine tr_PP_set hP (by rw [List.length_append]; omega) ?_ (fun q hq => pk_un hq) ?_ ?_
  · rw [pk_us, List.length_append]
  · intro j hj
    unfold xw_cp
    rw [if_neg (by omega), if_neg (by omega)]
    exact ⟨rfl, rfl⟩
  · intro i y hx
    rw [List.getElem?_append] at hx
    by_cases h1 : i < S.length
    · rw [if_pos h1] at hx
      have hx' : (C p)[i]? = some y := by rw [hc, List.getElem?_append, if_pos h1]; exact hx
      obtain ⟨g1, g2, g3, g4⟩ := (hP p hp).2.2 i y hx'
      unfold xw_cp
      rw [if_neg (by omega), if_neg (by omega)]
      exact ⟨g1, g2, g3, g4⟩
    · rw [if_neg h1] at hx
      have hb := (List.getElem?_eq_some_iff.mp hx).1
      have hx' : (C p)[i + 1]? = some y := by
        rw [hc, List.getElem?_append, if_neg (by omega), List.getElem?_cons, if_neg (by omega)]
        rw [show i + 1 - S.length - 1 = i - S.length by omega]; exact hx
      obtain ⟨g1, g2, g3, g4⟩ := (hP p hp).2.2 (i + 1) y hx'
      unfold xw_cp
      rw [if_pos (by omega), if_pos (by omega), show p * 5 + i - (p * 5 + S.length) + (p * 5 + S.length + 1) = p * 5 + (i + 1) by omega]
      exact ⟨g1, g2, g3, g4⟩
theorem xw_topOf {post : Int32 → Prop} {C : Nat → List (Nat × Nat)} {p : Nat} (hP : tr_PP a_pageFill a_pageSlot a_pageTop C) (hp : p < 64) (hc : C p ≠ []) (h : post (nI (tr_tp (C p)))) : wpX_topOf post (f_END, f_NOBODY, f_FAN, f_FILL, f_STRIDE, f_DEPTH, f_PAGES, f_ROWS, f_slots, f_capacity, f_entryCount, f_freeRecs, f_freePages, f_root, f_height, f_clock, a_recKey, a_recState, a_recValue, a_next, a_prev, a_readers, a_writers, a_gapReaders, a_owner, a_baseState, a_baseValue, a_recFree, a_pageFill, a_pageSlot, a_pageTop, a_pageFree, a_pathPage, a_pathSlot, a_phaseOf, a_outcomeOf, a_used, a_beganAt, a_opKind, a_opFirst, a_opSecond, a_acceptedAt, a_rowCount, a_rowKeys, a_rowValues, a_reach) (nI p) := by
  rcases tr_lc (C p) with e | ⟨S, x, e⟩
  · exact absurd e hc
  have hf := (hP p hp).1
  have h2 := tr_PP_at hP hp e
  have c2 : (nI p).toNatClampNeg = p := nI_clamp (by omega)
  have hl2 : (C p).length = S.length + 1 := by rw [e, List.length_append]; rfl
  refine ⟨vp_in_nI hp (by omega), ?_⟩
  rw [c2, hf, hl2]
  refine nm_r (nI_pred _) (br_t (nI_pos' (by omega)) ?_)
  rw [xw_ix, nI_clamp (by omega), h2.2.1]
  refine ⟨vp_in_nI (by omega) (by omega), ?_⟩
  rw [e, tr_tp_1] at h
  exact h
theorem xw_refresh {post : SX → Prop} {C : Nat → List (Nat × Nat)} {p c t : Nat} {S R : List (Nat × Nat)} (hP : tr_PP a_pageFill a_pageSlot a_pageTop C) (hp : p < 64) (hc : C p = S ++ (c, t) :: R) (hn : C c ≠ []) (h : ∀ pt, tr_PP a_pageFill a_pageSlot pt (tr_u C p (S ++ (c, tr_tp (C c)) :: R)) → post (f_END, f_NOBODY, f_FAN, f_FILL, f_STRIDE, f_DEPTH, f_PAGES, f_ROWS, f_slots, f_capacity, f_entryCount, f_freeRecs, f_freePages, f_root, f_height, f_clock, a_recKey, a_recState, a_recValue, a_next, a_prev, a_readers, a_writers, a_gapReaders, a_owner, a_baseState, a_baseValue, a_recFree, a_pageFill, a_pageSlot, pt, a_pageFree, a_pathPage, a_pathSlot, a_phaseOf, a_outcomeOf, a_used, a_beganAt, a_opKind, a_opFirst, a_opSecond, a_acceptedAt, a_rowCount, a_rowKeys, a_rowValues, a_reach)) : wpX_refreshTop post (f_END, f_NOBODY, f_FAN, f_FILL, f_STRIDE, f_DEPTH, f_PAGES, f_ROWS, f_slots, f_capacity, f_entryCount, f_freeRecs, f_freePages, f_root, f_height, f_clock, a_recKey, a_recState, a_recValue, a_next, a_prev, a_readers, a_writers, a_gapReaders, a_owner, a_baseState, a_baseValue, a_recFree, a_pageFill, a_pageSlot, a_pageTop, a_pageFree, a_pathPage, a_pathSlot, a_phaseOf, a_outcomeOf, a_used, a_beganAt, a_opKind, a_opFirst, a_opSecond, a_acceptedAt, a_rowCount, a_rowKeys, a_rowValues, a_reach) (nI p) (nI S.length) := by
  have h2 := tr_PP_at hP hp hc
  have hc2 : c < 64 := h2.2.2.1
  have hl := hP p hp
  have hl2 : (C p).length = S.length + R.length + 1 := by rw [hc, List.length_append, List.length_cons]; omega
  unfold wpX_refreshTop
  dsimp only
  rw [xw_ix]
  have v : vp_in (nI (p * 5 + S.length)) 320 := vp_in_nI (by omega) (by omega)
  refine ⟨v, nm_r (e' := nI c) ?_ (xw_topOf hP hc2 hn ⟨v, nm_e (h _ ?_)⟩)⟩
  · rw [nI_clamp (by omega)]; exact h2.1
  · rw [nI_clamp (by omega)]
    have hlen : (S ++ (c, tr_tp (C c)) :: R).length = (C p).length := by rw [hl2, List.length_append, List.length_cons]; omega
    refine tr_PP_set hP (by rw [hlen]; exact hl.2.1) (by rw [hlen]; exact hl.1) (fun _ _ => rfl) ?_ ?_
    · intro j hj
      exact ⟨rfl, pk_un (by omega)⟩
    · intro i x hx
      rw [List.getElem?_append] at hx
      by_cases h1 : i < S.length
      · rw [if_pos h1] at hx
        have hx' : (C p)[i]? = some x := by rw [hc, List.getElem?_append, if_pos h1]; exact hx
        rw [pk_un (by omega)]
        exact hl.2.2 i x hx'
      · rw [if_neg h1, List.getElem?_cons] at hx
        by_cases h3 : i - S.length = 0
        · rw [if_pos h3] at hx
          have e : i = S.length := by omega
          cases hx
          subst e
          exact ⟨hc2, tr_tp_b hP hc2, h2.1, pk_us⟩
        · rw [if_neg h3] at hx
          have hx' : (C p)[i]? = some x := by
            rw [hc, List.getElem?_append, if_neg h1, List.getElem?_cons, if_neg h3]; exact hx
          rw [pk_un (by omega)]
          exact hl.2.2 i x hx'
theorem xw_take {post : Int32 → SX → Prop} {C : Nat → List (Nat × Nat)} {f : Nat} {F : List Nat} (hP : tr_PP a_pageFill a_pageSlot a_pageTop C) (hF : tr_FS a_pageFree (f :: F)) (hf : f_freePages = nI (f :: F).length) (hf2 : f < 64) (hl : F.length < 64) (h : ∀ pf, tr_PP pf a_pageSlot a_pageTop (tr_u C f []) → post (nI f) (f_END, f_NOBODY, f_FAN, f_FILL, f_STRIDE, f_DEPTH, f_PAGES, f_ROWS, f_slots, f_capacity, f_entryCount, f_freeRecs, nI F.length, f_root, f_height, f_clock, a_recKey, a_recState, a_recValue, a_next, a_prev, a_readers, a_writers, a_gapReaders, a_owner, a_baseState, a_baseValue, a_recFree, pf, a_pageSlot, a_pageTop, a_pageFree, a_pathPage, a_pathSlot, a_phaseOf, a_outcomeOf, a_used, a_beganAt, a_opKind, a_opFirst, a_opSecond, a_acceptedAt, a_rowCount, a_rowKeys, a_rowValues, a_reach)) : wpX_takePage post (f_END, f_NOBODY, f_FAN, f_FILL, f_STRIDE, f_DEPTH, f_PAGES, f_ROWS, f_slots, f_capacity, f_entryCount, f_freeRecs, f_freePages, f_root, f_height, f_clock, a_recKey, a_recState, a_recValue, a_next, a_prev, a_readers, a_writers, a_gapReaders, a_owner, a_baseState, a_baseValue, a_recFree, a_pageFill, a_pageSlot, a_pageTop, a_pageFree, a_pathPage, a_pathSlot, a_phaseOf, a_outcomeOf, a_used, a_beganAt, a_opKind, a_opFirst, a_opSecond, a_acceptedAt, a_rowCount, a_rowKeys, a_rowValues, a_reach) := by
  subst hf
  rw [List.length_cons]
  refine br_f (nI_nle (by omega) (by omega)) (nm_r (nI_pred _) ?_)
  unfold wX_takePage_17
  refine ⟨vp_in_nI hl (by omega), nm_r (e' := nI f) ?_ ⟨vp_in_nI hf2 (by omega), nm_e (h _ ?_)⟩⟩
  · rw [nI_clamp (by omega)]; exact hF.1
  · rw [nI_clamp (by omega)]
    exact tr_PP_set hP (by simp) (by rw [pk_us]; rfl) (fun q hq => pk_un hq) (fun j _ => ⟨rfl, rfl⟩) (fun i x hx => by simp at hx)
theorem xw_give {post : SX → Prop} {C : Nat → List (Nat × Nat)} {f : Nat} {F : List Nat} (hP : tr_PP a_pageFill a_pageSlot a_pageTop C) (hF : tr_FS a_pageFree F) (hf : f_freePages = nI F.length) (hf2 : f < 64) (hl : F.length < 64) (h : ∀ pf pe, tr_PP pf a_pageSlot a_pageTop (tr_u C f []) → tr_FS pe (f :: F) → post (f_END, f_NOBODY, f_FAN, f_FILL, f_STRIDE, f_DEPTH, f_PAGES, f_ROWS, f_slots, f_capacity, f_entryCount, f_freeRecs, nI (f :: F).length, f_root, f_height, f_clock, a_recKey, a_recState, a_recValue, a_next, a_prev, a_readers, a_writers, a_gapReaders, a_owner, a_baseState, a_baseValue, a_recFree, pf, a_pageSlot, a_pageTop, pe, a_pathPage, a_pathSlot, a_phaseOf, a_outcomeOf, a_used, a_beganAt, a_opKind, a_opFirst, a_opSecond, a_acceptedAt, a_rowCount, a_rowKeys, a_rowValues, a_reach)) : wpX_givePage post (f_END, f_NOBODY, f_FAN, f_FILL, f_STRIDE, f_DEPTH, f_PAGES, f_ROWS, f_slots, f_capacity, f_entryCount, f_freeRecs, f_freePages, f_root, f_height, f_clock, a_recKey, a_recState, a_recValue, a_next, a_prev, a_readers, a_writers, a_gapReaders, a_owner, a_baseState, a_baseValue, a_recFree, a_pageFill, a_pageSlot, a_pageTop, a_pageFree, a_pathPage, a_pathSlot, a_phaseOf, a_outcomeOf, a_used, a_beganAt, a_opKind, a_opFirst, a_opSecond, a_acceptedAt, a_rowCount, a_rowKeys, a_rowValues, a_reach) (nI f) := by
  subst hf
  have c1 : (nI f).toNatClampNeg = f := nI_clamp (by omega)
  have c2 : (nI F.length).toNatClampNeg = F.length := nI_clamp (by omega)
  refine ⟨vp_in_nI hf2 (by omega), ?_⟩
  rw [c1]
  refine nm_e (br_f (nI_ge (b := 64) hl (by omega)) ⟨vp_in_nI hl (by omega), ?_⟩)
  rw [c2]
  refine nm_e (nm_r (nI_1 _) (h _ _ ?_ (tr_FS_push hF)))
  exact tr_PP_set hP (by simp) (by rw [pk_us]; rfl) (fun q hq => pk_un hq) (fun j _ => ⟨rfl, rfl⟩) (fun i x hx => by simp at hx)
end
end
section
/-! splitting a page, and joining or evening two neighbours -/
theorem tr_uu {C : Nat → List (Nat × Nat)} {p : Nat} {a b : List (Nat × Nat)} : tr_u (tr_u C p a) p b = tr_u C p b := by
  funext q; unfold tr_u
  by_cases e : q = p
  · rw [if_pos e, if_pos e]
  · rw [if_neg e, if_neg e, if_neg e]
section
variable {f_END f_NOBODY f_FAN f_FILL f_STRIDE f_DEPTH f_PAGES f_ROWS f_slots f_capacity f_entryCount f_freeRecs f_freePages f_root f_height : Int32} {f_clock : Int64} {a_recKey a_recState a_recValue a_next a_prev a_readers a_writers a_gapReaders a_owner a_baseState a_baseValue a_recFree a_pageFill a_pageSlot a_pageTop a_pageFree a_pathPage a_pathSlot a_phaseOf a_outcomeOf a_used : Nat → Int32} {a_beganAt : Nat → Int64} {a_opKind a_opFirst a_opSecond : Nat → Int32} {a_acceptedAt : Nat → Int64} {a_rowCount a_rowKeys a_rowValues a_reach : Nat → Int32}
theorem xw_sp52 {post : Int32 → SX → Prop} {p f hh rr : Nat} (hp : p < 64) (hf : f < 64) (h0 : 0 < hh) (h5 : hh + rr ≤ 5) : ∀ (d i : Nat) (a_pageSlot a_pageTop : Nat → Int32) (n : Nat), i + d = rr → d < n → post (nI f) (f_END, f_NOBODY, f_FAN, f_FILL, f_STRIDE, f_DEPTH, f_PAGES, f_ROWS, f_slots, f_capacity, f_entryCount, f_freeRecs, f_freePages, f_root, f_height, f_clock, a_recKey, a_recState, a_recValue, a_next, a_prev, a_readers, a_writers, a_gapReaders, a_owner, a_baseState, a_baseValue, a_recFree, upd (upd a_pageFill f (nI hh)) p (nI rr), xw_cp a_pageSlot (p * 5 + (i + hh)) (p * 5 + i) d, xw_cp a_pageTop (p * 5 + (i + hh)) (p * 5 + i) d, a_pageFree, a_pathPage, a_pathSlot, a_phaseOf, a_outcomeOf, a_used, a_beganAt, a_opKind, a_opFirst, a_opSecond, a_acceptedAt, a_rowCount, a_rowKeys, a_rowValues, a_reach) → wX_splitLow_52 post (nI p) (nI f) (nI hh) (nI rr) n (nI i) f_END f_NOBODY f_FAN f_FILL f_STRIDE f_DEPTH f_PAGES f_ROWS f_slots f_capacity f_entryCount f_freeRecs f_freePages f_root f_height f_clock a_recKey a_recState a_recValue a_next a_prev a_readers a_writers a_gapReaders a_owner a_baseState a_baseValue a_recFree a_pageFill a_pageSlot a_pageTop a_pageFree a_pathPage a_pathSlot a_phaseOf a_outcomeOf a_used a_beganAt a_opKind a_opFirst a_opSecond a_acceptedAt a_rowCount a_rowKeys a_rowValues a_reach
  | 0, i, a_pageSlot, a_pageTop, n + 1, h1, h2, h => by
    rw [xw_cp0, xw_cp0] at h
    refine br_t (nI_le (by omega) (by omega)) ⟨vp_in_nI hf (by omega), ?_⟩
    rw [nI_clamp (n := f) (by omega)]
    refine nm_e ⟨vp_in_nI hp (by omega), ?_⟩
    rw [nI_clamp (n := p) (by omega)]
    exact nm_e h
  | d + 1, i, a_pageSlot, a_pageTop, n + 1, h1, h2, h => by
    refine br_f (nI_ge (by omega) (by omega)) ?_
    rw [nI_add i hh]
    refine xw_copy (by omega) (by omega) (nm_r (nI_1 i) ?_)
    refine xw_sp52 hp hf h0 h5 d (i + 1) _ _ n (by omega) (by omega) ?_
    rw [show p * 5 + (i + 1 + hh) = p * 5 + (i + hh) + 1 by omega, show p * 5 + (i + 1) = p * 5 + i + 1 by omega, xw_cp1 _ (by omega), xw_cp1 _ (by omega)]
    exact h
theorem xw_sp27 {post : Int32 → SX → Prop} {p f hh rr : Nat} (hp : p < 64) (hf : f < 64) (hne : f ≠ p) (h5 : hh + rr ≤ 5) (h3 : 0 < rr) : ∀ (d i : Nat) (a_pageSlot a_pageTop : Nat → Int32) (n : Nat), i + d = hh → d < n → (∃ n52 : Nat, wX_splitLow_52 post (nI p) (nI f) (nI hh) (nI rr) n52 0 f_END f_NOBODY f_FAN f_FILL f_STRIDE f_DEPTH f_PAGES f_ROWS f_slots f_capacity f_entryCount f_freeRecs f_freePages f_root f_height f_clock a_recKey a_recState a_recValue a_next a_prev a_readers a_writers a_gapReaders a_owner a_baseState a_baseValue a_recFree a_pageFill (xw_cp a_pageSlot (p * 5 + i) (f * 5 + i) d) (xw_cp a_pageTop (p * 5 + i) (f * 5 + i) d) a_pageFree a_pathPage a_pathSlot a_phaseOf a_outcomeOf a_used a_beganAt a_opKind a_opFirst a_opSecond a_acceptedAt a_rowCount a_rowKeys a_rowValues a_reach) → wX_splitLow_27 post (nI p) (nI f) (nI hh) (nI rr) n (nI i) f_END f_NOBODY f_FAN f_FILL f_STRIDE f_DEPTH f_PAGES f_ROWS f_slots f_capacity f_entryCount f_freeRecs f_freePages f_root f_height f_clock a_recKey a_recState a_recValue a_next a_prev a_readers a_writers a_gapReaders a_owner a_baseState a_baseValue a_recFree a_pageFill a_pageSlot a_pageTop a_pageFree a_pathPage a_pathSlot a_phaseOf a_outcomeOf a_used a_beganAt a_opKind a_opFirst a_opSecond a_acceptedAt a_rowCount a_rowKeys a_rowValues a_reach
  | 0, i, a_pageSlot, a_pageTop, n + 1, h1, h2, h => by
    rw [xw_cp0, xw_cp0] at h
    exact br_t (nI_le (by omega) (by omega)) h
  | d + 1, i, a_pageSlot, a_pageTop, n + 1, h1, h2, h => by
    refine br_f (nI_ge (by omega) (by omega)) ?_
    refine xw_copy (by omega) (by omega) (nm_r (nI_1 i) ?_)
    refine xw_sp27 hp hf hne h5 h3 d (i + 1) _ _ n (by omega) (by omega) ?_
    rw [show p * 5 + (i + 1) = p * 5 + i + 1 by omega, show f * 5 + (i + 1) = f * 5 + i + 1 by omega, xw_cp1 _ (by omega), xw_cp1 _ (by omega)]
    exact h
theorem xw_split {post : Int32 → SX → Prop} {C : Nat → List (Nat × Nat)} {p f : Nat} {F : List Nat} (hP : tr_PP a_pageFill a_pageSlot a_pageTop C) (hp : p < 64) (hF : tr_FS a_pageFree (f :: F)) (hf : f_freePages = nI (f :: F).length) (hf2 : f < 64) (hl : F.length < 64) (hne : f ≠ p) (h5 : (C p).length = 5) (h : ∀ pf ps pt, tr_PP pf ps pt (tr_u (tr_u C f ((C p).take 2)) p ((C p).drop 2)) → post (nI f) (f_END, f_NOBODY, f_FAN, f_FILL, f_STRIDE, f_DEPTH, f_PAGES, f_ROWS, f_slots, f_capacity, f_entryCount, f_freeRecs, nI F.length, f_root, f_height, f_clock, a_recKey, a_recState, a_recValue, a_next, a_prev, a_readers, a_writers, a_gapReaders, a_owner, a_baseState, a_baseValue, a_recFree, pf, ps, pt, a_pageFree, a_pathPage, a_pathSlot, a_phaseOf, a_outcomeOf, a_used, a_beganAt, a_opKind, a_opFirst, a_opSecond, a_acceptedAt, a_rowCount, a_rowKeys, a_rowValues, a_reach)) : wpX_splitLow post (f_END, f_NOBODY, f_FAN, f_FILL, f_STRIDE, f_DEPTH, f_PAGES, f_ROWS, f_slots, f_capacity, f_entryCount, f_freeRecs, f_freePages, f_root, f_height, f_clock, a_recKey, a_recState, a_recValue, a_next, a_prev, a_readers, a_writers, a_gapReaders, a_owner, a_baseState, a_baseValue, a_recFree, a_pageFill, a_pageSlot, a_pageTop, a_pageFree, a_pathPage, a_pathSlot, a_phaseOf, a_outcomeOf, a_used, a_beganAt, a_opKind, a_opFirst, a_opSecond, a_acceptedAt, a_rowCount, a_rowKeys, a_rowValues, a_reach) (nI p) := by
  have hne' : p ≠ f := fun e => hne e.symm
  refine xw_take hP hF hf hf2 hl fun pf hP1 => ?_
  have h6 := hP1 p hp
  rw [tr_un hne', h5] at h6
  have v : vp_in (nI p) 64 := vp_in_nI hp (by omega)
  refine ⟨v, (by decide), ?_⟩
  rw [nI_clamp (n := p) (by omega), h6.1]
  refine nm_r (e' := nI 2) (by decide) ⟨v, nm_r (e' := nI 3) (by decide) ⟨3, ?_⟩⟩
  refine xw_sp27 hp hf2 hne (by omega) (by omega) 2 0 _ _ _ (by omega) (by omega) ⟨4, ?_⟩
  refine xw_sp52 hp hf2 (by omega) (by omega) 3 0 _ _ _ (by omega) (by omega) (h _ _ _ ?_)
  have hP2 : tr_PP (upd pf f (nI 2)) (xw_cp a_pageSlot (p * 5 + 0) (f * 5 + 0) 2) (xw_cp a_pageTop (p * 5 + 0) (f * 5 + 0) 2) (tr_u (tr_u C f []) f ((C p).take 2)) := by
    refine tr_PP_set hP1 (by rw [List.length_take]; omega) ?_ (fun q hq => pk_un hq) ?_ ?_
    · rw [pk_us, List.length_take, h5]; rfl
    · intro j hj
      unfold xw_cp
      rw [if_neg (by omega), if_neg (by omega)]
      exact ⟨rfl, rfl⟩
    · intro i x hx
      rw [List.getElem?_take] at hx
      by_cases h1 : i < 2
      · rw [if_pos h1] at hx
        unfold xw_cp
        rw [if_pos (by omega), if_pos (by omega), show f * 5 + i - (f * 5 + 0) + (p * 5 + 0) = p * 5 + i by omega]
        exact h6.2.2 i x hx
      · rw [if_neg h1] at hx; exact absurd hx (by simp)
  rw [tr_uu] at hP2
  have h7 := hP2 p hp
  rw [tr_un hne'] at h7
  refine tr_PP_set hP2 (by rw [List.length_drop]; omega) ?_ (fun q hq => pk_un hq) ?_ ?_
  · rw [pk_us, List.length_drop, h5]
  · intro j hj
    have a1 : ∀ a : Nat → Int32, xw_cp a (p * 5 + (0 + 2)) (p * 5 + 0) 3 j = a j := fun a => by
      unfold xw_cp; rw [if_neg (by omega)]
    exact ⟨a1 _, a1 _⟩
  · intro i x hx
    rw [List.getElem?_drop] at hx
    have hb := (List.getElem?_eq_some_iff.mp hx).1
    have a1 : ∀ a : Nat → Int32, xw_cp a (p * 5 + (0 + 2)) (p * 5 + 0) 3 (p * 5 + i) = a (p * 5 + (2 + i)) := fun a => by
      unfold xw_cp; rw [if_pos (by omega)]; exact congrArg a (by omega)
    rw [a1, a1]
    exact h7.2.2 (2 + i) x hx
theorem xw_rb87 {post : SX → Prop} {q la l r lf rf : Nat} (hl : l < 64) (hr : r < 64) (hne : l ≠ r) (h5 : lf + rf ≤ 4) : ∀ (d i : Nat) (a_pageSlot a_pageTop : Nat → Int32) (n : Nat), i + d = rf → d < n → (∀ n', wX_rebalance_87 post (nI q) (nI la) (nI l) (nI r) (nI lf) (nI rf) (n' + 1) (nI rf) f_END f_NOBODY f_FAN f_FILL f_STRIDE f_DEPTH f_PAGES f_ROWS f_slots f_capacity f_entryCount f_freeRecs f_freePages f_root f_height f_clock a_recKey a_recState a_recValue a_next a_prev a_readers a_writers a_gapReaders a_owner a_baseState a_baseValue a_recFree a_pageFill (xw_cp a_pageSlot (r * 5 + i) (l * 5 + (lf + i)) d) (xw_cp a_pageTop (r * 5 + i) (l * 5 + (lf + i)) d) a_pageFree a_pathPage a_pathSlot a_phaseOf a_outcomeOf a_used a_beganAt a_opKind a_opFirst a_opSecond a_acceptedAt a_rowCount a_rowKeys a_rowValues a_reach) → wX_rebalance_87 post (nI q) (nI la) (nI l) (nI r) (nI lf) (nI rf) n (nI i) f_END f_NOBODY f_FAN f_FILL f_STRIDE f_DEPTH f_PAGES f_ROWS f_slots f_capacity f_entryCount f_freeRecs f_freePages f_root f_height f_clock a_recKey a_recState a_recValue a_next a_prev a_readers a_writers a_gapReaders a_owner a_baseState a_baseValue a_recFree a_pageFill a_pageSlot a_pageTop a_pageFree a_pathPage a_pathSlot a_phaseOf a_outcomeOf a_used a_beganAt a_opKind a_opFirst a_opSecond a_acceptedAt a_rowCount a_rowKeys a_rowValues a_reach
  | 0, i, a_pageSlot, a_pageTop, n + 1, h1, h2, h => by
    rw [xw_cp0, xw_cp0] at h
    have e : i = rf := by omega
    subst e
    exact h n
  | d + 1, i, a_pageSlot, a_pageTop, n + 1, h1, h2, h => by
    refine br_f (nI_ge (by omega) (by omega)) ?_
    rw [nI_add lf i]
    refine xw_copy (by omega) (by omega) (nm_r (nI_1 i) ?_)
    refine xw_rb87 hl hr hne h5 d (i + 1) _ _ n (by omega) (by omega) ?_
    rw [show r * 5 + (i + 1) = r * 5 + i + 1 by omega, show l * 5 + (lf + (i + 1)) = l * 5 + (lf + i) + 1 by omega, xw_cp1 _ (by omega), xw_cp1 _ (by omega)]
    exact h
theorem xw_l1 {S : List (Nat × Nat)} {x : Nat × Nat} : nI S.length + 1 = nI (S ++ [x]).length := by
  rw [nI_1, List.length_append]; rfl
theorem xw_rb230 {post : SX → Prop} {C : Nat → List (Nat × Nat)} {q l r t1 t2 : Nat} {S R : List (Nat × Nat)} (hP : tr_PP a_pageFill a_pageSlot a_pageTop C) (hq : q < 64) (hc : C q = S ++ (l, t1) :: (r, t2) :: R) (hlq : l ≠ q) (hrq : r ≠ q) (hl0 : C l ≠ []) (hr0 : C r ≠ []) (h : ∀ pt, tr_PP a_pageFill a_pageSlot pt (tr_u C q (S ++ (l, tr_tp (C l)) :: (r, tr_tp (C r)) :: R)) → post (f_END, f_NOBODY, f_FAN, f_FILL, f_STRIDE, f_DEPTH, f_PAGES, f_ROWS, f_slots, f_capacity, f_entryCount, f_freeRecs, f_freePages, f_root, f_height, f_clock, a_recKey, a_recState, a_recValue, a_next, a_prev, a_readers, a_writers, a_gapReaders, a_owner, a_baseState, a_baseValue, a_recFree, a_pageFill, a_pageSlot, pt, a_pageFree, a_pathPage, a_pathSlot, a_phaseOf, a_outcomeOf, a_used, a_beganAt, a_opKind, a_opFirst, a_opSecond, a_acceptedAt, a_rowCount, a_rowKeys, a_rowValues, a_reach)) : wX_rebalance_230 post (nI q) (nI S.length) f_END f_NOBODY f_FAN f_FILL f_STRIDE f_DEPTH f_PAGES f_ROWS f_slots f_capacity f_entryCount f_freeRecs f_freePages f_root f_height f_clock a_recKey a_recState a_recValue a_next a_prev a_readers a_writers a_gapReaders a_owner a_baseState a_baseValue a_recFree a_pageFill a_pageSlot a_pageTop a_pageFree a_pathPage a_pathSlot a_phaseOf a_outcomeOf a_used a_beganAt a_opKind a_opFirst a_opSecond a_acceptedAt a_rowCount a_rowKeys a_rowValues a_reach := by
  unfold wX_rebalance_230
  refine xw_refresh hP hq hc hl0 fun pt hP1 => ?_
  dsimp only
  rw [xw_l1 (x := (l, tr_tp (C l)))]
  refine xw_refresh (c := r) (t := t2) (R := R) hP1 hq (by rw [tr_us]; simp) (by rw [tr_un hrq]; exact hr0) fun pt' hP2 => h pt' ?_
  rw [tr_uu, tr_un hrq] at hP2
  simpa using hP2
end
end
section
section
variable {f_END f_NOBODY f_FAN f_FILL f_STRIDE f_DEPTH f_PAGES f_ROWS f_slots f_capacity f_entryCount f_freeRecs f_freePages f_root f_height : Int32} {f_clock : Int64} {a_recKey a_recState a_recValue a_next a_prev a_readers a_writers a_gapReaders a_owner a_baseState a_baseValue a_recFree a_pageFill a_pageSlot a_pageTop a_pageFree a_pathPage a_pathSlot a_phaseOf a_outcomeOf a_used : Nat → Int32} {a_beganAt : Nat → Int64} {a_opKind a_opFirst a_opSecond : Nat → Int32} {a_acceptedAt : Nat → Int64} {a_rowCount a_rowKeys a_rowValues a_reach : Nat → Int32}
theorem xw_reb {post : SX → Prop} {C : Nat → List (Nat × Nat)} {q l r t1 t2 : Nat} {S R : List (Nat × Nat)} {F : List Nat} {x2 : Int32} (hP : tr_PP a_pageFill a_pageSlot a_pageTop C) (hq : q < 64) (hc : C q = S ++ (l, t1) :: (r, t2) :: R) (hlr : l ≠ r) (hlq : l ≠ q) (hrq : r ≠ q) (hcl : ((C l).length = 1 ∧ 2 ≤ (C r).length ∧ (C r).length ≤ 4) ∨ (2 ≤ (C l).length ∧ (C l).length ≤ 4 ∧ (C r).length = 1)) (hF : tr_FS a_pageFree F) (hf : f_freePages = nI F.length) (hFl : F.length < 64)
    (hM : ∀ pf ps pt pe C', tr_PP pf ps pt C' → tr_FS pe (r :: F) → C' l = C l ++ C r → (C l ++ C r).length ≤ 4 → C' q = S ++ (l, tr_tp (C l ++ C r)) :: R → (∀ z, z ≠ l → z ≠ q → z ≠ r → C' z = C z) → post (f_END, f_NOBODY, f_FAN, f_FILL, f_STRIDE, f_DEPTH, f_PAGES, f_ROWS, f_slots, f_capacity, f_entryCount, f_freeRecs, nI (r :: F).length, f_root, f_height, f_clock, a_recKey, a_recState, a_recValue, a_next, a_prev, a_readers, a_writers, a_gapReaders, a_owner, a_baseState, a_baseValue, a_recFree, pf, ps, pt, pe, a_pathPage, a_pathSlot, a_phaseOf, a_outcomeOf, a_used, a_beganAt, a_opKind, a_opFirst, a_opSecond, a_acceptedAt, a_rowCount, a_rowKeys, a_rowValues, a_reach))
    (hR : ∀ pf ps pt C' nl nr, tr_PP pf ps pt C' → nl ++ nr = C l ++ C r → 2 ≤ nl.length → nl.length ≤ 4 → 2 ≤ nr.length → nr.length ≤ 4 → C' l = nl → C' r = nr → C' q = S ++ (l, tr_tp nl) :: (r, tr_tp nr) :: R → (∀ z, z ≠ l → z ≠ q → z ≠ r → C' z = C z) → post (f_END, f_NOBODY, f_FAN, f_FILL, f_STRIDE, f_DEPTH, f_PAGES, f_ROWS, f_slots, f_capacity, f_entryCount, f_freeRecs, f_freePages, f_root, f_height, f_clock, a_recKey, a_recState, a_recValue, a_next, a_prev, a_readers, a_writers, a_gapReaders, a_owner, a_baseState, a_baseValue, a_recFree, pf, ps, pt, a_pageFree, a_pathPage, a_pathSlot, a_phaseOf, a_outcomeOf, a_used, a_beganAt, a_opKind, a_opFirst, a_opSecond, a_acceptedAt, a_rowCount, a_rowKeys, a_rowValues, a_reach)) : wX_rebalance_11 post (nI q) x2 (nI S.length) f_END f_NOBODY f_FAN f_FILL f_STRIDE f_DEPTH f_PAGES f_ROWS f_slots f_capacity f_entryCount f_freeRecs f_freePages f_root f_height f_clock a_recKey a_recState a_recValue a_next a_prev a_readers a_writers a_gapReaders a_owner a_baseState a_baseValue a_recFree a_pageFill a_pageSlot a_pageTop a_pageFree a_pathPage a_pathSlot a_phaseOf a_outcomeOf a_used a_beganAt a_opKind a_opFirst a_opSecond a_acceptedAt a_rowCount a_rowKeys a_rowValues a_reach := by
  have hq5 := hP q hq
  have e1 := tr_PP_at hP hq hc
  have hc' : C q = (S ++ [(l, t1)]) ++ (r, t2) :: R := by rw [hc]; simp
  have e2 := tr_PP_at hP hq hc'
  have hl : l < 64 := e1.2.2.1
  have hr : r < 64 := e2.2.2.1
  have hl5 := hP l hl
  have hr5 := hP r hr
  have hlen : (C q).length = S.length + R.length + 2 := by rw [hc]; simp; omega
  have hS1 : (S ++ [(l, t1)]).length = S.length + 1 := by simp
  rw [hS1] at e2
  have vq : vp_in (nI q) 64 := vp_in_nI hq (by omega)
  have vl : vp_in (nI l) 64 := vp_in_nI hl (by omega)
  have vr : vp_in (nI r) 64 := vp_in_nI hr (by omega)
  have cq : (nI q).toNatClampNeg = q := nI_clamp (by omega)
  have cl : (nI l).toNatClampNeg = l := nI_clamp (by omega)
  have cr : (nI r).toNatClampNeg = r := nI_clamp (by omega)
  unfold wX_rebalance_11
  refine ⟨vq, ?_⟩
  rw [cq, hq5.1, hlen, nI_1]
  refine br_t (nI_lt (by omega) (by omega)) ?_
  rw [xw_ix, nI_1, nI_clamp (n := q * 5 + S.length) (by omega), nI_clamp (n := q * 5 + S.length + 1) (by omega)]
  refine ⟨vp_in_nI (by omega) (by omega), nm_r e1.1 ⟨vp_in_nI (by omega) (by omega), nm_r (e' := nI r) e2.1 ⟨vl, nm_r (e' := nI (C l).length) (by rw [cl]; exact hl5.1) ⟨vr, nm_r (e' := nI (C r).length) (by rw [cr]; exact hr5.1) ?_⟩⟩⟩⟩
  rw [nI_add]
  by_cases hs : 4 < (C l).length + (C r).length
  · refine br_t (nI_lt (a := 4) hs (by omega)) ?_
    by_cases hlt : (C l).length < (C r).length
    · refine br_f (nI_ge hlt (by omega)) ?_
      obtain ⟨y, c2, e5⟩ : ∃ y c2, C r = y :: c2 := by
        cases h : C r with
        | nil => rw [h] at hlt; simp at hlt
        | cons y c2 => exact ⟨y, c2, rfl⟩
      have ey := tr_PP_at (S := []) hP hr e5
      simp only [List.length_nil, Nat.add_zero] at ey
      have hcr : (C r).length = c2.length + 1 := by rw [e5]; rfl
      refine xw_copy (p := r) (i := 0) (by omega) (by omega) ⟨vl, ?_⟩
      rw [cl, nI_1]
      refine nm_e ?_
      have hP1 : tr_PP (upd a_pageFill l (nI ((C l).length + 1))) (upd a_pageSlot (l * 5 + (C l).length) (a_pageSlot (r * 5 + 0))) (upd a_pageTop (l * 5 + (C l).length) (a_pageTop (r * 5 + 0))) (tr_u C l (C l ++ [y])) := by
        refine tr_PP_set hP (by simp; omega) (by rw [pk_us]; simp) (fun z hz => pk_un hz) ?_ ?_
        · intro j hj
          rw [pk_un (by omega), pk_un (by omega)]
          exact ⟨rfl, rfl⟩
        · intro i x hx
          rw [List.getElem?_append] at hx
          by_cases h1 : i < (C l).length
          · rw [if_pos h1] at hx
            rw [pk_un (by omega), pk_un (by omega)]
            exact hl5.2.2 i x hx
          · rw [if_neg h1] at hx
            have hb := (List.getElem?_eq_some_iff.mp hx).1
            simp only [List.length_cons, List.length_nil] at hb
            have e : i = (C l).length := by omega
            subst e
            rw [Nat.sub_self] at hx
            cases hx
            rw [pk_us, pk_us]
            exact ⟨ey.2.2.1, ey.2.2.2.1, ey.1, ey.2.1⟩
      refine xw_drop (S := []) (x := y) (R := c2) hP1 hr (by rw [tr_un (fun e => hlr e.symm)]; exact e5) fun pf ps pt hP2 => ?_
      rw [List.nil_append] at hP2
      refine xw_rb230 hP2 hq (t1 := t1) (t2 := t2) (by rw [tr_un (fun e => hrq e.symm), tr_un (fun e => hlq e.symm)]; exact hc) hlq hrq (by rw [tr_un hlr, tr_us]; simp) (by rw [tr_us]; intro e; rw [e] at hcr; simp at hcr; omega) fun pt' hP3 => ?_
      rw [tr_un hlr, tr_us, tr_us] at hP3
      refine hR _ _ _ _ (C l ++ [y]) c2 hP3 (by rw [e5]; simp) (by simp; omega) (by simp; omega) (by omega) (by omega) ?_ ?_ tr_us ?_
      · rw [tr_un hlq, tr_un hlr, tr_us]
      · rw [tr_un hrq, tr_us]
      · intro z h1 h2 h3
        rw [tr_un h2, tr_un h3, tr_un h1]
    · refine br_t (nI_le (by omega) (by omega)) ?_
      rcases tr_lc (C l) with e | ⟨c1, y, e5⟩
      · have h0 : (C l).length = 0 := by rw [e]; rfl
        omega
      have hcl' : (C l).length = c1.length + 1 := by rw [e5]; simp
      have ey := tr_PP_at hP hl e5
      rw [xw_ix]
      refine nm_r (e' := nI (l * 5 + c1.length)) (by rw [hcl']; exact nI_pred _) ⟨vp_in_nI (by omega) (by omega), vp_in_nI (by omega) (by omega), ?_⟩
      rw [nI_clamp (n := l * 5 + c1.length) (by omega), ey.1, ey.2.1]
      refine xw_put (S := []) (R := C r) hP hr rfl (by omega) ey.2.2.1 ey.2.2.2.1 fun pf ps pt hP1 => ⟨vl, ?_⟩
      rw [cl, hcl', nI_pred]
      refine nm_e ?_
      have h9 := hP1 l hl
      rw [tr_un hlr, e5] at h9
      have hP2 : tr_PP (upd pf l (nI c1.length)) ps pt (tr_u (tr_u C r ([] ++ (y.1, y.2) :: C r)) l c1) := by
        refine tr_PP_set hP1 (by omega) pk_us (fun z hz => pk_un hz) (fun j _ => ⟨rfl, rfl⟩) ?_
        intro i x hx
        refine h9.2.2 i x ?_
        rw [List.getElem?_append, if_pos (List.getElem?_eq_some_iff.mp hx).1]
        exact hx
      refine xw_rb230 hP2 hq (t1 := t1) (t2 := t2) (by rw [tr_un (fun e => hlq e.symm), tr_un (fun e => hrq e.symm)]; exact hc) hlq hrq (by rw [tr_us]; intro e; rw [e] at hcl'; simp at hcl'; omega) (by rw [tr_un (fun e => hlr e.symm), tr_us]; simp) fun pt' hP3 => ?_
      rw [tr_us, tr_un (fun e => hlr e.symm), tr_us] at hP3
      refine hR _ _ _ _ c1 (y :: C r) hP3 (by rw [e5]; simp) (by omega) (by omega) (by simp; omega) (by simp; omega) ?_ ?_ tr_us ?_
      · rw [tr_un hlq, tr_us]
      · rw [tr_un hrq, tr_un (fun e => hlr e.symm), tr_us]; rfl
      · intro z h1 h2 h3
        rw [tr_un h2, tr_un h1, tr_un h3]
  · refine br_f (nI_nlt (a := 4) (by omega) (by omega)) ⟨(C r).length + 1, ?_⟩
    refine xw_rb87 hl hr hlr (by omega) (C r).length 0 _ _ _ (by omega) (by omega) fun n' => ?_
    refine br_t (nI_le (Nat.le_refl _) (by omega)) ⟨vl, ?_⟩
    rw [cl, nI_add]
    refine nm_e ?_
    have hP1 : tr_PP (upd a_pageFill l (nI ((C l).length + (C r).length))) (xw_cp a_pageSlot (r * 5 + 0) (l * 5 + ((C l).length + 0)) (C r).length) (xw_cp a_pageTop (r * 5 + 0) (l * 5 + ((C l).length + 0)) (C r).length) (tr_u C l (C l ++ C r)) := by
      refine tr_PP_set hP (by simp; omega) (by rw [pk_us]; simp) (fun z hz => pk_un hz) ?_ ?_
      · intro j hj
        unfold xw_cp
        rw [if_neg (by omega), if_neg (by omega)]
        exact ⟨rfl, rfl⟩
      · intro i x hx
        rw [List.getElem?_append] at hx
        by_cases h1 : i < (C l).length
        · rw [if_pos h1] at hx
          unfold xw_cp
          rw [if_neg (by omega), if_neg (by omega)]
          exact hl5.2.2 i x hx
        · rw [if_neg h1] at hx
          have hb := (List.getElem?_eq_some_iff.mp hx).1
          unfold xw_cp
          rw [if_pos (by omega), if_pos (by omega), show l * 5 + i - (l * 5 + ((C l).length + 0)) + (r * 5 + 0) = r * 5 + (i - (C l).length) by omega]
          exact hr5.2.2 _ x hx
    rw [xw_l1 (x := (l, t1))]
    refine xw_drop (x := (r, t2)) (R := R) hP1 hq (by rw [tr_un (fun e => hlq e.symm)]; exact hc') fun pf ps pt hP2 => ?_
    refine xw_give hP2 hF hf hr hFl fun pf3 pe hP3 hF3 => ?_
    have hne : C l ++ C r ≠ [] := by
      intro e
      have := congrArg List.length e
      simp at this
      rw [this.1, this.2] at hcl
      simp at hcl
    refine xw_refresh (c := l) (t := t1) (S := S) (R := R) hP3 hq ?_ ?_ fun pt4 hP4 => ?_
    · rw [tr_un (fun e => hrq e.symm), tr_us]; simp
    · rw [tr_un hlr, tr_un hlq, tr_us]; exact hne
    · rw [tr_un hlr, tr_un hlq, tr_us] at hP4
      refine hM _ _ _ _ _ hP4 hF3 ?_ (by simp; omega) tr_us ?_
      · rw [tr_un hlq, tr_un hlr, tr_un hlq, tr_us]
      · intro z h1 h2 h3
        rw [tr_un h2, tr_un h3, tr_un h2, tr_un h1]
end
end
section
def tr_T (pf ps pt pe : Nat → Int32) (fp rt ht : Int32) (b : List (Nat × Nat)) (C : Nat → List (Nat × Nat)) (gs : List (List Nat)) (F : List Nat) : Prop := ∃ r t, tr_PP pf ps pt C ∧ tr_FS pe F ∧ fp = nI F.length ∧ rt = nI r ∧ ht = nI gs.length ∧ gs ≠ [] ∧ tr_Lw C b gs [(r, t)] ∧ tr_Fi C gs ∧ (gs.flatten ++ F).Perm (List.range 64)
theorem tr_lt64 {l F : List Nat} (h : (l ++ F).Perm (List.range 64)) {p : Nat} (hp : p ∈ l) : p < 64 := List.mem_range.mp (h.mem_iff.mp (List.mem_append_left _ hp))
section
variable {f_END f_NOBODY f_FAN f_FILL f_STRIDE f_DEPTH f_PAGES f_ROWS f_slots f_capacity f_entryCount f_freeRecs f_freePages f_root f_height : Int32} {f_clock : Int64} {a_recKey a_recState a_recValue a_next a_prev a_readers a_writers a_gapReaders a_owner a_baseState a_baseValue a_recFree a_pageFill a_pageSlot a_pageTop a_pageFree a_pathPage a_pathSlot a_phaseOf a_outcomeOf a_used : Nat → Int32} {a_beganAt : Nat → Int64} {a_opKind a_opFirst a_opSecond : Nat → Int32} {a_acceptedAt : Nat → Int64} {a_rowCount a_rowKeys a_rowValues a_reach : Nat → Int32}
theorem xw_fs_loop {post : Int32 → Prop} {C : Nat → List (Nat × Nat)} {p k : Nat} {S R : List (Nat × Nat)} {x : Nat × Nat} (hP : tr_PP a_pageFill a_pageSlot a_pageTop C) (hp : p < 64) (hc : C p = S ++ x :: R) (hS : ∀ y ∈ S, y.2 < k) (hx : ∀ y ∈ x :: R, k ≤ y.2) (hk : k ≤ 1000) (h : post (nI S.length)) : ∀ (d i n : Nat), i + d + 1 = (C p).length → d < n → wX_firstSlot_20 post (nI k) (nI (p * 5)) (nI ((C p).length - 1)) f_END f_NOBODY f_FAN f_FILL f_STRIDE f_DEPTH f_PAGES f_ROWS f_slots f_capacity f_entryCount f_freeRecs f_freePages f_root f_height f_clock a_recKey a_recState a_recValue a_next a_prev a_readers a_writers a_gapReaders a_owner a_baseState a_baseValue a_recFree a_pageFill a_pageSlot a_pageTop a_pageFree a_pathPage a_pathSlot a_phaseOf a_outcomeOf a_used a_beganAt a_opKind a_opFirst a_opSecond a_acceptedAt a_rowCount a_rowKeys a_rowValues a_reach n (nI (min i S.length)) (nI i)
  | 0, i, n + 1, h1, h2 => by
    have hl2 : (C p).length = S.length + R.length + 1 := by rw [hc, List.length_append, List.length_cons]; omega
    have h5 := (hP p hp).2.1
    rw [show min i S.length = S.length by omega]
    exact br_t (nI_le (by omega) (by omega)) h
  | d + 1, i, n + 1, h1, h2 => by
    have hl2 : (C p).length = S.length + R.length + 1 := by rw [hc, List.length_append, List.length_cons]; omega
    have h5 := (hP p hp).2.1
    obtain ⟨y, hy⟩ : ∃ y, (C p)[i]? = some y := ⟨(C p)[i]'(by omega), List.getElem?_eq_getElem (by omega)⟩
    have h6 := (hP p hp).2.2 i y hy
    have ih := xw_fs_loop hP hp hc hS hx hk h d (i + 1) n (by omega) (by omega)
    refine br_f (nI_ge (by omega) (by omega)) ?_
    rw [nI_add, nI_clamp (by omega), h6.2.2.2]
    refine ⟨vp_in_nI (by omega) (by omega), ?_⟩
    rw [hc, List.getElem?_append] at hy
    by_cases hi : i < S.length
    · rw [if_pos hi] at hy
      have := hS y (List.mem_of_getElem? hy)
      refine br_f (nI_ge this (by omega)) (nm_r (nI_1 i) (nm_r (nI_1 i) ?_))
      rw [show min (i + 1) S.length = i + 1 by omega] at ih
      exact ih
    · rw [if_neg hi] at hy
      have := hx y (List.mem_of_getElem? hy)
      refine br_t (nI_le this (by omega)) (nm_r (nI_1 i) ?_)
      rw [show min (i + 1) S.length = S.length by omega] at ih
      rw [show min i S.length = S.length by omega]
      exact ih
theorem xw_firstSlot {post : Int32 → Prop} {C : Nat → List (Nat × Nat)} {p k : Nat} {S R : List (Nat × Nat)} {x : Nat × Nat} (hP : tr_PP a_pageFill a_pageSlot a_pageTop C) (hp : p < 64) (hc : C p = S ++ x :: R) (hS : ∀ y ∈ S, y.2 < k) (hx : ∀ y ∈ x :: R, k ≤ y.2) (hk : k ≤ 1000) (h : post (nI S.length)) : wpX_firstSlot post (f_END, f_NOBODY, f_FAN, f_FILL, f_STRIDE, f_DEPTH, f_PAGES, f_ROWS, f_slots, f_capacity, f_entryCount, f_freeRecs, f_freePages, f_root, f_height, f_clock, a_recKey, a_recState, a_recValue, a_next, a_prev, a_readers, a_writers, a_gapReaders, a_owner, a_baseState, a_baseValue, a_recFree, a_pageFill, a_pageSlot, a_pageTop, a_pageFree, a_pathPage, a_pathSlot, a_phaseOf, a_outcomeOf, a_used, a_beganAt, a_opKind, a_opFirst, a_opSecond, a_acceptedAt, a_rowCount, a_rowKeys, a_rowValues, a_reach) (nI p) (nI k) := by
  have hl2 : (C p).length = S.length + R.length + 1 := by rw [hc, List.length_append, List.length_cons]; omega
  have h5 := (hP p hp)
  have hl := xw_fs_loop (f_END := f_END) (f_NOBODY := f_NOBODY) (f_FAN := f_FAN) (f_FILL := f_FILL) (f_STRIDE := f_STRIDE) (f_DEPTH := f_DEPTH) (f_PAGES := f_PAGES) (f_ROWS := f_ROWS) (f_slots := f_slots) (f_capacity := f_capacity) (f_entryCount := f_entryCount) (f_freeRecs := f_freeRecs) (f_freePages := f_freePages) (f_root := f_root) (f_height := f_height) (f_clock := f_clock) (a_recKey := a_recKey) (a_recState := a_recState) (a_recValue := a_recValue) (a_next := a_next) (a_prev := a_prev) (a_readers := a_readers) (a_writers := a_writers) (a_gapReaders := a_gapReaders) (a_owner := a_owner) (a_baseState := a_baseState) (a_baseValue := a_baseValue) (a_recFree := a_recFree) (a_pageFree := a_pageFree) (a_pathPage := a_pathPage) (a_pathSlot := a_pathSlot) (a_phaseOf := a_phaseOf) (a_outcomeOf := a_outcomeOf) (a_used := a_used) (a_beganAt := a_beganAt) (a_opKind := a_opKind) (a_opFirst := a_opFirst) (a_opSecond := a_opSecond) (a_acceptedAt := a_acceptedAt) (a_rowCount := a_rowCount) (a_rowKeys := a_rowKeys) (a_rowValues := a_rowValues) (a_reach := a_reach) hP hp hc hS hx hk h ((C p).length - 1) 0 (C p).length (by omega) (by omega)
  rw [Nat.zero_min, nI_0] at hl
  refine nm_r (e' := nI (p * 5)) (by rw [show (5 : Int32) = nI 5 from rfl, pk_mul]) ⟨vp_in_nI hp (by omega), ?_⟩
  rw [nI_clamp (by omega), h5.1]
  refine nm_r (e' := nI ((C p).length - 1)) ?_ ⟨_, hl⟩
  rw [hl2]
  exact nI_pred _
theorem xw_loc_loop {post : Int32 → SX → Prop} {C : Nat → List (Nat × Nat)} {k : Nat} {b : List (Nat × Nat)} (hP : tr_PP a_pageFill a_pageSlot a_pageTop C) (hk : k ≤ 1000) (hb : tr_So b) : ∀ (m : Nat) (gs ga : List (List Nat)) (mid P Q : List (Nat × Nat)) (x : Nat × Nat) (a_pathPage a_pathSlot : Nat → Int32) (pg rcd : Int32) (n : Nat), gs.length = m → m + ga.length ≤ 8 → f_height = nI (m + ga.length) → (∀ p ∈ gs.flatten, p < 64 ∧ C p ≠ []) → tr_Lw C b gs mid → mid = P ++ x :: Q → (∀ y ∈ P, y.2 < k) → k ≤ x.2 → tr_Pt C a_pathPage a_pathSlot P ga → (m = 0 → rcd = nI x.1) → (0 < m → pg = nI x.1) → m < n →
    (∀ pp sl P' x' Q', b = P' ++ x' :: Q' → (∀ y ∈ P', y.2 < k) → k ≤ x'.2 → tr_Pt C pp sl P' (gs ++ ga) → post (nI x'.1) (f_END, f_NOBODY, f_FAN, f_FILL, f_STRIDE, f_DEPTH, f_PAGES, f_ROWS, f_slots, f_capacity, f_entryCount, f_freeRecs, f_freePages, f_root, f_height, f_clock, a_recKey, a_recState, a_recValue, a_next, a_prev, a_readers, a_writers, a_gapReaders, a_owner, a_baseState, a_baseValue, a_recFree, a_pageFill, a_pageSlot, a_pageTop, a_pageFree, pp, sl, a_phaseOf, a_outcomeOf, a_used, a_beganAt, a_opKind, a_opFirst, a_opSecond, a_acceptedAt, a_rowCount, a_rowKeys, a_rowValues, a_reach)) → wX_locate_11 post (nI k) f_END f_NOBODY f_FAN f_FILL f_STRIDE f_DEPTH f_PAGES f_ROWS f_slots f_capacity f_entryCount f_freeRecs f_freePages f_root f_height f_clock n pg rcd (nI ga.length) a_recKey a_recState a_recValue a_next a_prev a_readers a_writers a_gapReaders a_owner a_baseState a_baseValue a_recFree a_pageFill a_pageSlot a_pageTop a_pageFree a_pathPage a_pathSlot a_phaseOf a_outcomeOf a_used a_beganAt a_opKind a_opFirst a_opSecond a_acceptedAt a_rowCount a_rowKeys a_rowValues a_reach
  | 0, gs, ga, mid, P, Q, x, a_pathPage, a_pathSlot, pg, rcd, n + 1, h1, h2, h3, h4, h5, h6, h7, h8, h9, h10, h11, h12, h => by
    have e : gs = [] := List.eq_nil_of_length_eq_zero h1
    subst e
    have e2 : b = mid := h5
    rw [h10 rfl]
    refine br_t (by rw [h3]; exact nI_le (by omega) (by omega)) ?_
    exact h _ _ P x Q (e2.trans h6) h7 h8 h9
  | m + 1, gs, ga, mid, P, Q, x, a_pathPage, a_pathSlot, pg, rcd, n + 1, h1, h2, h3, h4, h5, h6, h7, h8, h9, h10, h11, h12, h => by
    rcases tr_lc gs with e | ⟨gs', g, e⟩
    · rw [e] at h1; simp at h1
    subst e
    obtain ⟨mid', h13, h14⟩ := tr_Lw_app.mp h5
    have h15 : g.flatMap C = mid' := h14.1
    have h16 : g.map (tr_it C) = mid := h14.2
    have hl1 : gs'.length = m := by simp at h1; omega
    rw [h6] at h16
    obtain ⟨A, g2, e3, e4, e5⟩ := List.map_eq_append_iff.mp h16
    obtain ⟨p, B, e6, e7, e8⟩ := List.map_eq_cons_iff.mp e5
    subst e3 e6
    have ep : p = x.1 := by rw [← e7]; rfl
    have hpg : p ∈ (gs' ++ [A ++ p :: B]).flatten := by simp
    have hp4 := h4 p hpg
    have hs' : tr_So mid' := tr_So_Lw (fun q hq => (h4 q (by rw [List.flatten_append]; exact List.mem_append_left _ hq)).2) h13 hb
    have hs2 : tr_So (A.flatMap C ++ (C p ++ B.flatMap C)) := by
      have : (A ++ p :: B).flatMap C = A.flatMap C ++ (C p ++ B.flatMap C) := by simp
      rw [← this, h15]; exact hs'
    have hsp : tr_So (C p) := (List.pairwise_append.mp (List.pairwise_append.mp hs2).2.1).1
    obtain ⟨S, x', R, ec, hS, hx'⟩ := tr_split (k := k) (c := C p) (by
      obtain ⟨y, hy, ey⟩ := tr_tp_mem hp4.2
      refine ⟨y, hy, ?_⟩
      have : x.2 = tr_tp (C p) := by rw [← e7]; rfl
      omega)
    have hxR : ∀ y ∈ x' :: R, k ≤ y.2 := by
      intro y hy
      rcases List.mem_cons.mp hy with rfl | hy
      · exact hx'
      · rw [ec] at hsp
        have := (List.pairwise_cons.mp (List.pairwise_append.mp hsp).2.1).1 y hy
        omega
    have hh : ¬ f_height ≤ nI ga.length := by rw [h3]; exact nI_ge (by omega) (by omega)
    refine br_f hh (br_f (nI_ge (b := 8) (by omega) (by omega)) ?_)
    rw [h11 (by omega), ← ep]
    refine xw_firstSlot hP hp4.1 ec hS hxR hk ?_
    have v8 : vp_in (nI ga.length) 8 := vp_in_nI (by omega) (by omega)
    have hat := tr_PP_at hP hp4.1 ec
    refine ⟨v8, ?_⟩
    rw [nI_clamp (n := ga.length) (by omega)]
    refine nm_e ⟨v8, nm_e ?_⟩
    rw [xw_ix, nI_clamp (n := p * 5 + S.length) (by omega), hat.1]
    refine ⟨vp_in_nI (by omega) (by omega), nm_e ?_⟩
    have hmid : mid' = (A.flatMap C ++ S) ++ x' :: (R ++ B.flatMap C) := by
      rw [← h15]; simp [ec]
    have hPl : ∀ y ∈ A.flatMap C ++ S, y.2 < k := by
      intro y hy
      rcases List.mem_append.mp hy with hy | hy
      · obtain ⟨a, ha, hya⟩ := List.mem_flatMap.mp hy
        have h20 : (tr_it C a).2 < k := h7 _ (by rw [← e4]; exact List.mem_map_of_mem ha)
        have hsa : tr_So (C a) := by
          obtain ⟨A1, A2, rfl⟩ := List.append_of_mem ha
          have h21 := (List.pairwise_append.mp hs2).1
          rw [List.flatMap_append, List.flatMap_cons] at h21
          exact (List.pairwise_append.mp (List.pairwise_append.mp h21).2.1).1
        have h22 := tr_le_tp hsa hya
        have h23 : (tr_it C a).2 = tr_tp (C a) := rfl
        omega
      · exact hS y hy
    have hPt : tr_Pt C (upd a_pathPage ga.length (nI p)) (upd a_pathSlot ga.length (nI S.length)) (A.flatMap C ++ S) ((A ++ p :: B) :: ga) := by
      refine ⟨A, p, B, S, x', R, rfl, ec, rfl, pk_us, pk_us, ?_⟩
      rw [e4]
      exact tr_Pt_congr (fun _ _ => rfl) (fun i hi => ⟨pk_un (by omega), pk_un (by omega)⟩) h9
    have key : ∀ pg' rcd', (m = 0 → rcd' = nI x'.1) → (0 < m → pg' = nI x'.1) → wX_locate_11 post (nI k) f_END f_NOBODY f_FAN f_FILL f_STRIDE f_DEPTH f_PAGES f_ROWS f_slots f_capacity f_entryCount f_freeRecs f_freePages f_root f_height f_clock n pg' rcd' (nI (ga.length + 1)) a_recKey a_recState a_recValue a_next a_prev a_readers a_writers a_gapReaders a_owner a_baseState a_baseValue a_recFree a_pageFill a_pageSlot a_pageTop a_pageFree (upd a_pathPage ga.length (nI p)) (upd a_pathSlot ga.length (nI S.length)) a_phaseOf a_outcomeOf a_used a_beganAt a_opKind a_opFirst a_opSecond a_acceptedAt a_rowCount a_rowKeys a_rowValues a_reach := by
      intro pg' rcd' c1 c2
      refine xw_loc_loop hP hk hb m gs' ((A ++ p :: B) :: ga) mid' (A.flatMap C ++ S) (R ++ B.flatMap C) x' _ _ pg' rcd' n hl1 (by simp; omega) (by rw [h3, List.length_cons]; exact congrArg nI (by omega)) (fun q hq => h4 q (by rw [List.flatten_append]; exact List.mem_append_left _ hq)) h13 hmid hPl hx' hPt c1 c2 (by omega) ?_
      intro pp sl P' x'' Q' g1 g2 g3 g4
      exact h pp sl P' x'' Q' g1 g2 g3 (by rw [List.append_assoc]; exact g4)
    rw [h3, show nI (m + 1 + ga.length) - 1 = nI (m + ga.length) by rw [show m + 1 + ga.length = m + ga.length + 1 by omega]; exact nI_pred _]
    by_cases hm : m = 0
    · refine br_t ?_ (nm_r (nI_1 _) ?_)
      · exact congrArg nI (by omega)
      · have := key (nI p) (nI x'.1) (fun _ => rfl) (fun z => absurd hm (by omega))
        rw [h3] at this
        exact this
    · refine br_f ?_ (nm_r (nI_1 _) ?_)
      · rw [nI_eq (by omega) (by omega)]; omega
      · have := key (nI x'.1) rcd (fun z => absurd z hm) (fun _ => rfl)
        rw [h3] at this
        exact this
theorem xw_locT {post : Int32 → SX → Prop} {b : List (Nat × Nat)} {k : Nat} {C : Nat → List (Nat × Nat)} {gs : List (List Nat)} {F : List Nat} (hT : tr_T a_pageFill a_pageSlot a_pageTop a_pageFree f_freePages f_root f_height b C gs F) (hk : k ≤ 1000) (hb : tr_So b) (hlen : b.length ≤ 49) (hex : ∃ y ∈ b, k ≤ y.2) (h : ∀ pp sl P x Q, b = P ++ x :: Q → (∀ y ∈ P, y.2 < k) → k ≤ x.2 → tr_Pt C pp sl P gs → post (nI x.1) (f_END, f_NOBODY, f_FAN, f_FILL, f_STRIDE, f_DEPTH, f_PAGES, f_ROWS, f_slots, f_capacity, f_entryCount, f_freeRecs, f_freePages, f_root, f_height, f_clock, a_recKey, a_recState, a_recValue, a_next, a_prev, a_readers, a_writers, a_gapReaders, a_owner, a_baseState, a_baseValue, a_recFree, a_pageFill, a_pageSlot, a_pageTop, a_pageFree, pp, sl, a_phaseOf, a_outcomeOf, a_used, a_beganAt, a_opKind, a_opFirst, a_opSecond, a_acceptedAt, a_rowCount, a_rowKeys, a_rowValues, a_reach)) : wpX_locate post (f_END, f_NOBODY, f_FAN, f_FILL, f_STRIDE, f_DEPTH, f_PAGES, f_ROWS, f_slots, f_capacity, f_entryCount, f_freeRecs, f_freePages, f_root, f_height, f_clock, a_recKey, a_recState, a_recValue, a_next, a_prev, a_readers, a_writers, a_gapReaders, a_owner, a_baseState, a_baseValue, a_recFree, a_pageFill, a_pageSlot, a_pageTop, a_pageFree, a_pathPage, a_pathSlot, a_phaseOf, a_outcomeOf, a_used, a_beganAt, a_opKind, a_opFirst, a_opSecond, a_acceptedAt, a_rowCount, a_rowKeys, a_rowValues, a_reach) (nI k) := by
  obtain ⟨r, t, h1, h2, h3, h4, h5, h6, h7, h8, h9⟩ := hT
  have hn := tr_nums h8 h6 h7 hlen h9
  have hne : ∀ p ∈ gs.flatten, p < 64 ∧ C p ≠ [] := by
    intro p hp
    refine ⟨tr_lt64 h9 hp, fun e => ?_⟩
    have := (h8 p hp).1
    rw [e] at this
    simp at this
  have hkt : k ≤ t := by
    obtain ⟨y, hy, hky⟩ := hex
    have h10 : ∀ (gs : List (List Nat)) (b e : List (Nat × Nat)), (∀ p ∈ gs.flatten, C p ≠ []) → tr_Lw C b gs e → tr_So b → (∃ y ∈ b, k ≤ y.2) → ∃ y ∈ e, k ≤ y.2 := by
      intro gs
      induction gs with
      | nil => intro b e _ hL _ hy; cases hL; exact hy
      | cons g gs ih =>
        intro b e hn hL hs ⟨y, hy, hky⟩
        have hs2 := hs
        rw [← hL.1] at hy hs2
        obtain ⟨p, hp, hyp⟩ := List.mem_flatMap.mp hy
        refine ih _ e (fun q hq => hn q (by rw [List.flatten_cons]; exact List.mem_append_right _ hq)) hL.2 (tr_So_up (fun q hq => hn q (by simp [hq])) hs2) ⟨tr_it C p, List.mem_map_of_mem hp, ?_⟩
        have hsa : tr_So (C p) := by
          obtain ⟨A1, A2, rfl⟩ := List.append_of_mem hp
          rw [List.flatMap_append, List.flatMap_cons] at hs2
          exact (List.pairwise_append.mp (List.pairwise_append.mp hs2).2.1).1
        have := tr_le_tp hsa hyp
        show k ≤ tr_tp (C p)
        omega
    obtain ⟨z, hz, hkz⟩ := h10 gs b _ (fun p hp => (hne p hp).2) h7 hb ⟨y, hy, hky⟩
    rw [List.mem_singleton] at hz
    rw [hz] at hkz
    exact hkz
  have hg0 : 0 < gs.length := List.length_pos_iff.mpr h6
  refine ⟨gs.length + 1, ?_⟩
  refine xw_loc_loop h1 hk hb gs.length gs [] [(r, t)] [] [] (r, t) _ _ _ _ _ rfl (by simp; omega) (by rw [h5]; simp) hne h7 rfl (by simp) hkt rfl (fun z => by omega) (fun _ => h4) (by omega) ?_
  intro pp sl P x Q g1 g2 g3 g4
  rw [List.append_nil] at g4
  exact h pp sl P x Q g1 g2 g3 g4
end
end
section
theorem tr_c1 {l : List Nat} (h : l.Perm (List.range 64)) (a : Nat) : l.count a ≤ 1 := by
  rw [h.count_eq a]
  exact List.nodup_iff_count.mp List.nodup_range a
theorem tr_ni {l : List Nat} {a : Nat} (h : l.count a = 0) : a ∉ l := List.count_eq_zero.mp h
theorem tr_cp {l : List Nat} {a : Nat} (h : a ∈ l) : 0 < l.count a := List.count_pos_iff.mpr h
theorem tr_fm_u {C : Nat → List (Nat × Nat)} {p : Nat} {c : List (Nat × Nat)} {A : List Nat} (h : p ∉ A) : A.flatMap (tr_u C p c) = A.flatMap C := tr_fm_congr (fun q hq => tr_un (fun e => h (e ▸ hq)))
theorem tr_mp_u {C : Nat → List (Nat × Nat)} {p : Nat} {c : List (Nat × Nat)} {A : List Nat} (h : p ∉ A) : A.map (tr_it (tr_u C p c)) = A.map (tr_it C) := tr_mp_congr (fun q hq => tr_un (fun e => h (e ▸ hq)))
theorem tr_Lw_u {C : Nat → List (Nat × Nat)} {p : Nat} {c : List (Nat × Nat)} {gs : List (List Nat)} {b e : List (Nat × Nat)} (h : p ∉ gs.flatten) (hL : tr_Lw C b gs e) : tr_Lw (tr_u C p c) b gs e := tr_Lw_congr (fun q hq => tr_un (fun e => h (e ▸ hq))) hL
theorem tr_Pt_u {C : Nat → List (Nat × Nat)} {pp sl : Nat → Int32} {p : Nat} {c : List (Nat × Nat)} {gs : List (List Nat)} {P : List (Nat × Nat)} (h : p ∉ gs.flatten) (hL : tr_Pt C pp sl P gs) : tr_Pt (tr_u C p c) pp sl P gs := tr_Pt_congr (fun q hq => tr_un (fun e => h (e ▸ hq))) (fun _ _ => ⟨rfl, rfl⟩) hL
theorem tr_Lw_mem {C : Nat → List (Nat × Nat)} : ∀ {gs : List (List Nat)} {b e : List (Nat × Nat)}, gs ≠ [] → tr_Lw C b gs e → ∀ y ∈ e, y.1 ∈ gs.flatten
  | [], _, _, h, _ => absurd rfl h
  | [g], b, e, _, h => by
    intro y hy
    have h2 : g.map (tr_it C) = e := h.2
    rw [← h2] at hy
    obtain ⟨p, hp, rfl⟩ := List.mem_map.mp hy
    simp only [List.flatten_cons, List.flatten_nil, List.append_nil]
    exact hp
  | g :: g' :: gs, b, e, _, h => by
    intro y hy
    rw [List.flatten_cons]
    exact List.mem_append_right _ (tr_Lw_mem (gs := g' :: gs) (by simp) h.2 y hy)
section
variable {f_END f_NOBODY f_FAN f_FILL f_STRIDE f_DEPTH f_PAGES f_ROWS f_slots f_capacity f_entryCount f_freeRecs f_freePages f_root f_height : Int32} {f_clock : Int64} {a_recKey a_recState a_recValue a_next a_prev a_readers a_writers a_gapReaders a_owner a_baseState a_baseValue a_recFree a_pageFill a_pageSlot a_pageTop a_pageFree a_pathPage a_pathSlot a_phaseOf a_outcomeOf a_used : Nat → Int32} {a_beganAt : Nat → Int64} {a_opKind a_opFirst a_opSecond : Nat → Int32} {a_acceptedAt : Nat → Int64} {a_rowCount a_rowKeys a_rowValues a_reach : Nat → Int32}
theorem xw_ins_closed {post : SX → Prop} {n : Nat} {x3 x4 x6 : Int32} (hn : 0 < n) (h : post (f_END, f_NOBODY, f_FAN, f_FILL, f_STRIDE, f_DEPTH, f_PAGES, f_ROWS, f_slots, f_capacity, f_entryCount, f_freeRecs, f_freePages, f_root, f_height, f_clock, a_recKey, a_recState, a_recValue, a_next, a_prev, a_readers, a_writers, a_gapReaders, a_owner, a_baseState, a_baseValue, a_recFree, a_pageFill, a_pageSlot, a_pageTop, a_pageFree, a_pathPage, a_pathSlot, a_phaseOf, a_outcomeOf, a_used, a_beganAt, a_opKind, a_opFirst, a_opSecond, a_acceptedAt, a_rowCount, a_rowKeys, a_rowValues, a_reach)) : wX_treeInsert_16 post n x3 x4 0 x6 f_END f_NOBODY f_FAN f_FILL f_STRIDE f_DEPTH f_PAGES f_ROWS f_slots f_capacity f_entryCount f_freeRecs f_freePages f_root f_height f_clock a_recKey a_recState a_recValue a_next a_prev a_readers a_writers a_gapReaders a_owner a_baseState a_baseValue a_recFree a_pageFill a_pageSlot a_pageTop a_pageFree a_pathPage a_pathSlot a_phaseOf a_outcomeOf a_used a_beganAt a_opKind a_opFirst a_opSecond a_acceptedAt a_rowCount a_rowKeys a_rowValues a_reach := by
  obtain ⟨m, rfl⟩ : ∃ m, n = m + 1 := ⟨n - 1, by omega⟩
  have h2 : wX_treeInsert_88 post x3 x4 0 f_END f_NOBODY f_FAN f_FILL f_STRIDE f_DEPTH f_PAGES f_ROWS f_slots f_capacity f_entryCount f_freeRecs f_freePages f_root f_height f_clock a_recKey a_recState a_recValue a_next a_prev a_readers a_writers a_gapReaders a_owner a_baseState a_baseValue a_recFree a_pageFill a_pageSlot a_pageTop a_pageFree a_pathPage a_pathSlot a_phaseOf a_outcomeOf a_used a_beganAt a_opKind a_opFirst a_opSecond a_acceptedAt a_rowCount a_rowKeys a_rowValues a_reach := br_t rfl h
  exact br_c (fun _ => h2) (fun _ => br_t rfl h2)
theorem xw_grow {post : SX → Prop} {C : Nat → List (Nat × Nat)} {b : List (Nat × Nat)} {gb : List (List Nat)} {f r t id top : Nat} {F : List Nat} (hP : tr_PP a_pageFill a_pageSlot a_pageTop C) (hF : tr_FS a_pageFree (f :: F)) (hf : f_freePages = nI (f :: F).length) (hr : f_root = nI r) (hh : f_height = nI gb.length) (hb : gb ≠ []) (hL : tr_Lw C b gb [(id, top), (r, t)]) (hfi : ∀ p ∈ gb.flatten, 2 ≤ (C p).length ∧ (C p).length ≤ 4) (hpe : (gb.flatten ++ f :: F).Perm (List.range 64))
    (h : ∀ pf ps pt fp rt ht C' gs' F', tr_T pf ps pt a_pageFree fp rt ht b C' gs' F' → post (f_END, f_NOBODY, f_FAN, f_FILL, f_STRIDE, f_DEPTH, f_PAGES, f_ROWS, f_slots, f_capacity, f_entryCount, f_freeRecs, fp, rt, ht, f_clock, a_recKey, a_recState, a_recValue, a_next, a_prev, a_readers, a_writers, a_gapReaders, a_owner, a_baseState, a_baseValue, a_recFree, pf, ps, pt, a_pageFree, a_pathPage, a_pathSlot, a_phaseOf, a_outcomeOf, a_used, a_beganAt, a_opKind, a_opFirst, a_opSecond, a_acceptedAt, a_rowCount, a_rowKeys, a_rowValues, a_reach)) : wpX_growRoot post (f_END, f_NOBODY, f_FAN, f_FILL, f_STRIDE, f_DEPTH, f_PAGES, f_ROWS, f_slots, f_capacity, f_entryCount, f_freeRecs, f_freePages, f_root, f_height, f_clock, a_recKey, a_recState, a_recValue, a_next, a_prev, a_readers, a_writers, a_gapReaders, a_owner, a_baseState, a_baseValue, a_recFree, a_pageFill, a_pageSlot, a_pageTop, a_pageFree, a_pathPage, a_pathSlot, a_phaseOf, a_outcomeOf, a_used, a_beganAt, a_opKind, a_opFirst, a_opSecond, a_acceptedAt, a_rowCount, a_rowKeys, a_rowValues, a_reach) (nI id) (nI top) := by
  have hrm : r ∈ gb.flatten := tr_Lw_mem hb hL (r, t) (by simp)
  have him : id ∈ gb.flatten := tr_Lw_mem hb hL (id, top) (by simp)
  have et : t = tr_tp (C r) := tr_Lw_it hb hL (r, t) (by simp)
  have ei : top = tr_tp (C id) := tr_Lw_it hb hL (id, top) (by simp)
  have hr64 : r < 64 := tr_lt64 hpe hrm
  have hi64 : id < 64 := tr_lt64 hpe him
  have hf64 : f < 64 := List.mem_range.mp (hpe.mem_iff.mp (by simp))
  have hFl := hpe.length_eq
  simp only [List.length_append, List.length_cons, List.length_range] at hFl
  have hfn : f ∉ gb.flatten := by
    intro hm
    have h1 := tr_c1 hpe f
    have h2 := tr_cp hm
    simp only [List.count_append, List.count_cons_self] at h1
    omega
  have hne : C r ≠ [] := fun e => by
    have := (hfi r hrm).1
    rw [e] at this; simp at this
  have ht1 : t ≤ 1000 := by rw [et]; exact tr_tp_b hP hr64
  have ht2 : top ≤ 1000 := by rw [ei]; exact tr_tp_b hP hi64
  subst hr
  unfold wpX_growRoot
  dsimp only
  refine xw_topOf hP hr64 hne ?_
  rw [← et]
  refine xw_take hP hF hf hf64 (by omega) fun pf hP1 => ?_
  refine xw_put (S := []) (R := []) hP1 hf64 (by rw [tr_us]; rfl) (by rw [tr_us]; simp) hi64 ht2 fun pf2 ps2 pt2 hP2 => ?_
  refine xw_put (S := [(id, top)]) (R := []) hP2 hf64 (by rw [tr_us]; rfl) (by rw [tr_us]; simp) hr64 ht1 fun pf3 ps3 pt3 hP3 => ?_
  rw [tr_uu, tr_uu] at hP3
  rw [hh]
  refine nm_r (nI_1 _) (h _ _ _ _ _ _ _ (gb ++ [[f]]) F ⟨f, t, hP3, hF.2, rfl, rfl, by simp, by simp, ?_, ?_, ?_⟩)
  · refine tr_Lw_app.mpr ⟨_, tr_Lw_u hfn hL, ?_, ?_⟩
    · simp [tr_us]
    · show [tr_it _ f] = [(f, t)]
      unfold tr_it
      rw [tr_us]
      rfl
  · intro p hp
    rw [List.flatten_append, List.mem_append] at hp
    rcases hp with hp | hp
    · have e : p ≠ f := fun e => hfn (e ▸ hp)
      rw [tr_un e]
      have := hfi p hp
      exact ⟨by omega, this.2, fun _ => this.1⟩
    · have e : p = f := by simpa using hp
      subst e
      rw [tr_us]
      simp
  · refine List.Perm.trans ?_ hpe
    rw [List.perm_iff_count]
    intro a
    simp only [List.flatten_append, List.flatten_cons, List.flatten_nil, List.append_nil, List.count_append, List.count_cons, List.count_nil]
    omega
end
end
section
section
variable {f_END f_NOBODY f_FAN f_FILL f_STRIDE f_DEPTH f_PAGES f_ROWS f_slots f_capacity f_entryCount f_freeRecs f_freePages f_root f_height : Int32} {f_clock : Int64} {a_recKey a_recState a_recValue a_next a_prev a_readers a_writers a_gapReaders a_owner a_baseState a_baseValue a_recFree a_pageFill a_pageSlot a_pageTop a_pageFree a_pathPage a_pathSlot a_phaseOf a_outcomeOf a_used : Nat → Int32} {a_beganAt : Nat → Int64} {a_opKind a_opFirst a_opSecond : Nat → Int32} {a_acceptedAt : Nat → Int64} {a_rowCount a_rowKeys a_rowValues a_reach : Nat → Int32}
theorem tr_m1 (n : Nat) : nI n + (-1) = nI n - 1 := by
  rw [Int32.sub_eq_add_neg]
theorem tr_ins_tp {S R : List (Nat × Nat)} {x y : Nat × Nat} : tr_tp (S ++ y :: x :: R) = tr_tp (S ++ x :: R) := by
  rw [show S ++ y :: x :: R = (S ++ [y]) ++ x :: R by simp, tr_tp_app (by simp), tr_tp_app (by simp)]
theorem xw_ins_loop {post : SX → Prop} {b : List (Nat × Nat)} {r t : Nat} : ∀ (ga gb : List (List Nat)) (C : Nat → List (Nat × Nat)) (F : List Nat) (P Q : List (Nat × Nat)) (x : Nat × Nat) (id top : Nat) (a_pageFill a_pageSlot a_pageTop : Nat → Int32) (f_freePages x6 : Int32) (n : Nat),
    tr_PP a_pageFill a_pageSlot a_pageTop C → tr_FS a_pageFree F → f_freePages = nI F.length → ga.length + 1 ≤ F.length → x6 = nI ga.length - 1 → ga.length ≤ 8 → gb ++ ga ≠ [] → tr_Lw C b gb (P ++ (id, top) :: x :: Q) → tr_Lw C (P ++ x :: Q) ga [(r, t)] → tr_Pt C a_pathPage a_pathSlot P ga → f_root = nI r → f_height = nI (gb.length + ga.length) → (∀ p ∈ gb.flatten, 2 ≤ (C p).length ∧ (C p).length ≤ 4) → (∀ p ∈ ga.flatten, 1 ≤ (C p).length ∧ (C p).length ≤ 4 ∧ (2 ≤ gb.length + ga.length → 2 ≤ (C p).length)) → ((gb ++ ga).flatten ++ F).Perm (List.range 64) → id < 64 → top ≤ 1000 → ga.length + 1 < n →
    (∀ pf ps pt fp rt ht C' gs' F', tr_T pf ps pt a_pageFree fp rt ht b C' gs' F' → post (f_END, f_NOBODY, f_FAN, f_FILL, f_STRIDE, f_DEPTH, f_PAGES, f_ROWS, f_slots, f_capacity, f_entryCount, f_freeRecs, fp, rt, ht, f_clock, a_recKey, a_recState, a_recValue, a_next, a_prev, a_readers, a_writers, a_gapReaders, a_owner, a_baseState, a_baseValue, a_recFree, pf, ps, pt, a_pageFree, a_pathPage, a_pathSlot, a_phaseOf, a_outcomeOf, a_used, a_beganAt, a_opKind, a_opFirst, a_opSecond, a_acceptedAt, a_rowCount, a_rowKeys, a_rowValues, a_reach)) → wX_treeInsert_16 post n (nI id) (nI top) 1 x6 f_END f_NOBODY f_FAN f_FILL f_STRIDE f_DEPTH f_PAGES f_ROWS f_slots f_capacity f_entryCount f_freeRecs f_freePages f_root f_height f_clock a_recKey a_recState a_recValue a_next a_prev a_readers a_writers a_gapReaders a_owner a_baseState a_baseValue a_recFree a_pageFill a_pageSlot a_pageTop a_pageFree a_pathPage a_pathSlot a_phaseOf a_outcomeOf a_used a_beganAt a_opKind a_opFirst a_opSecond a_acceptedAt a_rowCount a_rowKeys a_rowValues a_reach
  | [], gb, C, F, P, Q, x, id, top, a_pageFill, a_pageSlot, a_pageTop, f_freePages, x6, n + 1, hP, hF, hf, hFl, h6, h8, hg, hLb, hLa, hPt, hr, hh, hfb, hfa, hpe, hid, htop, hn, h => by
    have h9 : P ++ x :: Q = [(r, t)] := hLa
    have h10 : P = [] := hPt
    subst h10
    rw [List.nil_append] at h9
    obtain ⟨e1, e2⟩ := List.cons.inj h9
    subst e1 e2
    rw [List.append_nil] at hpe hg
    have h6' : x6 < 0 := by rw [h6]; decide
    match F, hF, hf, hFl, hpe with
    | [], _, _, hFl, _ => simp at hFl
    | f :: F, hF, hf, hFl, hpe =>
      refine br_t h6' (br_f (by decide) ?_)
      exact xw_grow hP hF hf hr (by rw [hh]; simp) hg hLb hfb hpe h
  | g :: gs, gb, C, F, P, Q, x, id, top, a_pageFill, a_pageSlot, a_pageTop, f_freePages, x6, n + 1, hP, hF, hf, hFl, h6, h8, hg, hLb, hLa, hPt, hr, hh, hfb, hfa, hpe, hid, htop, hn, h => by
    obtain ⟨A, p, B, S, y, R, rfl, e2, e3, e4, e5, hPt'⟩ := hPt
    obtain ⟨hL1, hL2⟩ := hLa
    have e6 : x6 = nI gs.length := by rw [h6, List.length_cons]; exact nI_pred _
    rw [List.length_cons] at h8 hFl hn hh hfa
    have hpm : p ∈ ((gb ++ (A ++ p :: B) :: gs).flatten) := by simp
    have hp64 : p < 64 := tr_lt64 hpe hpm
    have e7 : y = x ∧ R ++ B.flatMap C = Q := by
      rw [e3, List.flatMap_append, List.flatMap_cons, e2, List.append_assoc, List.append_assoc, List.append_cancel_left_eq, List.append_cancel_left_eq, List.cons_append] at hL1
      exact List.cons.inj hL1
    obtain ⟨rfl, e8⟩ := e7
    have hcnt := tr_c1 hpe p
    simp only [List.flatten_append, List.flatten_cons, List.count_append, List.count_cons_self] at hcnt
    have hpA : p ∉ A := tr_ni (by omega)
    have hpB : p ∉ B := tr_ni (by omega)
    have hpb : p ∉ gb.flatten := tr_ni (by omega)
    have hpg : p ∉ gs.flatten := tr_ni (by omega)
    have hfp := hfa p (by simp)
    have v8 : vp_in (nI gs.length) 8 := vp_in_nI (by omega) (by omega)
    subst e6
    refine br_f (nI_pos (by omega)) (br_f (by decide) ⟨v8, ?_⟩)
    rw [nI_clamp (n := gs.length) (by omega)]
    refine nm_r e4 ⟨v8, ?_⟩
    rw [e5]
    refine xw_put (R := y :: R) hP hp64 e2 hfp.2.1 hid htop fun pf ps pt hP1 => ⟨vp_in_nI hp64 (by omega), ?_⟩
    have h11 := hP1 p hp64
    rw [tr_us] at h11
    have hlen : (S ++ (id, top) :: y :: R).length = (C p).length + 1 := by rw [e2]; simp; omega
    rw [nI_clamp (n := p) (by omega), h11.1, hlen]
    have hmp : (A ++ p :: B).map (tr_it (tr_u C p (S ++ (id, top) :: y :: R))) = (A ++ p :: B).map (tr_it C) := by
      rw [List.map_append, List.map_cons, tr_mp_u hpA, tr_mp_u hpB, List.map_append, List.map_cons]
      have : tr_it (tr_u C p (S ++ (id, top) :: y :: R)) p = tr_it C p := by
        unfold tr_it; rw [tr_us, tr_ins_tp, ← e2]
      rw [this]
    by_cases h4 : 4 < (C p).length + 1
    · refine br_t (nI_lt (a := 4) h4 (by omega)) ?_
      match F, hF, hf, hFl, hpe with
      | [], _, _, hFl, _ => simp at hFl
      | f :: F, hF, hf, hFl, hpe =>
        rw [List.length_cons] at hFl
        have hf64 : f < 64 := List.mem_range.mp (hpe.mem_iff.mp (by simp))
        have hFl2 := hpe.length_eq
        simp only [List.length_append, List.length_cons, List.length_range] at hFl2
        have hcf := tr_c1 hpe f
        simp only [List.flatten_append, List.flatten_cons, List.count_append, List.count_cons_self, List.count_cons] at hcf
        have hfp' : f ≠ p := by
          intro e; subst e
          simp at hcf
          omega
        have hfA : f ∉ A := tr_ni (by omega)
        have hfB : f ∉ B := tr_ni (by omega)
        have hfb' : f ∉ gb.flatten := tr_ni (by omega)
        have hfg : f ∉ gs.flatten := tr_ni (by omega)
        refine xw_split hP1 hp64 hF hf hf64 (by omega) hfp' (by rw [tr_us, hlen]; omega) fun pf2 ps2 pt2 hP2 => ?_
        rw [tr_us] at hP2
        generalize hc : S ++ (id, top) :: y :: R = c at hP1 hP2 h11 hlen hmp ⊢
        generalize hC1 : tr_u C p c = C1 at hP1 hP2 hmp
        have hc5 : c.length = 5 := by omega
        have hct : (c.take 2).length = 2 := by rw [List.length_take]; omega
        have hcd : (c.drop 2).length = 3 := by rw [List.length_drop]; omega
        have htd : tr_tp (c.drop 2) = tr_tp (C p) := by
          have : c.drop 2 ≠ [] := fun e => by rw [e] at hcd; simp at hcd
          rw [← tr_tp_app (S := c.take 2) this, List.take_append_drop, ← hc, tr_ins_tp, ← e2]
        generalize hC2 : tr_u (tr_u C1 f (c.take 2)) p (c.drop 2) = C2 at hP2 ⊢
        have c2f : C2 f = c.take 2 := by rw [← hC2, tr_un hfp', tr_us]
        have c2p : C2 p = c.drop 2 := by rw [← hC2, tr_us]
        have c2o : ∀ q, q ≠ f → q ≠ p → C2 q = C q := fun q h1 h2 => by
          rw [← hC2, tr_un h2, tr_un h1, ← hC1, tr_un h2]
        have c2A : ∀ q ∈ A, C2 q = C q := fun q hq => c2o q (fun e => hfA (e ▸ hq)) (fun e => hpA (e ▸ hq))
        have c2B : ∀ q ∈ B, C2 q = C q := fun q hq => c2o q (fun e => hfB (e ▸ hq)) (fun e => hpB (e ▸ hq))
        have c2b : ∀ q ∈ gb.flatten, C2 q = C q := fun q hq => c2o q (fun e => hfb' (e ▸ hq)) (fun e => hpb (e ▸ hq))
        have c2g : ∀ q ∈ gs.flatten, C2 q = C q := fun q hq => c2o q (fun e => hfg (e ▸ hq)) (fun e => hpg (e ▸ hq))
        refine xw_topOf hP2 hf64 (by rw [c2f]; intro e; rw [e] at hct; simp at hct) ?_
        rw [c2f]
        have hhs : ∀ q, q ∈ A ∨ q ∈ B → 2 ≤ (C q).length := by
          intro q hq
          by_cases h2 : 2 ≤ gb.length + (gs.length + 1)
          · exact (hfa q (by simp only [List.flatten_cons, List.mem_append, List.mem_cons]; rcases hq with hq | hq; exact Or.inl (Or.inl hq); exact Or.inl (Or.inr (Or.inr hq)))).2.2 h2
          · exfalso
            have hg0 : gs = [] := List.eq_nil_of_length_eq_zero (by omega)
            subst hg0
            have h12 : (A ++ p :: B).map (tr_it C) = [(r, t)] := hL2
            have h13 := congrArg List.length h12
            simp at h13
            have hA0 : A = [] := List.eq_nil_of_length_eq_zero (by omega)
            have hB0 : B = [] := List.eq_nil_of_length_eq_zero (by omega)
            subst hA0 hB0
            rcases hq with hq | hq <;> simp at hq
        refine nm_e ?_
        refine xw_ins_loop (t := t) gs (gb ++ [A ++ f :: p :: B]) C2 F (A.map (tr_it C)) (B.map (tr_it C)) (tr_it C p) f (tr_tp (c.take 2)) _ _ _ _ _ n hP2 hF.2 rfl (by omega) (tr_m1 gs.length) (by omega) (by simp) ?_ ?_ ?_ hr ?_ ?_ ?_ ?_ hf64 ?_ (by omega) h
        · refine tr_Lw_app.mpr ⟨_, tr_Lw_congr c2b hLb, ?_, ?_⟩
          · rw [List.flatMap_append, List.flatMap_cons, List.flatMap_cons, tr_fm_congr c2A, tr_fm_congr c2B, c2f, c2p, ← List.append_assoc (c.take 2), List.take_append_drop, ← hc, e3, ← e8]
            simp
          · show (A ++ f :: p :: B).map (tr_it C2) = _
            rw [List.map_append, List.map_cons, List.map_cons, tr_mp_congr c2A, tr_mp_congr c2B]
            unfold tr_it
            rw [c2f, c2p, htd]
        · have : A.map (tr_it C) ++ tr_it C p :: B.map (tr_it C) = (A ++ p :: B).map (tr_it C) := by simp
          rw [this]
          exact tr_Lw_congr c2g hL2
        · exact tr_Pt_congr c2g (fun _ _ => ⟨rfl, rfl⟩) hPt'
        · rw [hh, List.length_append]
          exact congrArg nI (by simp; omega)
        · intro q hq
          simp only [List.flatten_append, List.flatten_cons, List.flatten_nil, List.append_nil, List.mem_append, List.mem_cons] at hq
          rcases hq with hq | hq | hq | hq | hq
          · rw [c2b q hq]; exact hfb q hq
          · rw [c2A q hq]; exact ⟨hhs q (Or.inl hq), (hfa q (by simp [hq])).2.1⟩
          · rw [hq, c2f]; omega
          · rw [hq, c2p]; omega
          · rw [c2B q hq]; exact ⟨hhs q (Or.inr hq), (hfa q (by simp [hq])).2.1⟩
        · intro q hq
          rw [c2g q hq]
          have := hfa q (by rw [List.flatten_cons]; exact List.mem_append_right _ hq)
          refine ⟨this.1, this.2.1, fun z => this.2.2 ?_⟩
          simp at z
          omega
        · refine List.Perm.trans ?_ hpe
          rw [List.perm_iff_count]
          intro a
          simp only [List.flatten_append, List.flatten_cons, List.flatten_nil, List.append_nil, List.count_append, List.count_cons, List.count_nil]
          omega
        · have := tr_tp_b hP2 hf64
          rw [c2f] at this
          exact this
    · refine br_f (nI_nlt (a := 4) (by omega) (by omega)) (nm_e (xw_ins_closed (by omega) ?_))
      refine h _ _ _ _ _ _ _ (gb ++ (A ++ p :: B) :: gs) F ⟨r, t, hP1, hF, hf, hr, by rw [hh]; simp, by simp, ?_, ?_, hpe⟩
      · refine tr_Lw_app.mpr ⟨_, tr_Lw_u hpb hLb, ?_, ?_⟩
        · rw [List.flatMap_append, List.flatMap_cons, tr_fm_u hpA, tr_fm_u hpB, tr_us, e3, ← e8]
          simp
        · rw [hmp]
          exact tr_Lw_u hpg hL2
      · intro q hq
        rw [List.length_append, List.length_cons]
        rw [List.flatten_append, List.mem_append] at hq
        by_cases e : q = p
        · rw [e, tr_us, hlen]
          exact ⟨by omega, by omega, fun z => by have := hfp.2.2 z; omega⟩
        · rw [tr_un e]
          rcases hq with hq | hq
          · have := hfb q hq
            exact ⟨by omega, this.2, fun _ => this.1⟩
          · exact hfa q hq
end
section
variable {f_END f_NOBODY f_FAN f_FILL f_STRIDE f_DEPTH f_PAGES f_ROWS f_slots f_capacity f_entryCount f_freeRecs f_freePages f_root f_height : Int32} {f_clock : Int64} {a_recKey a_recState a_recValue a_next a_prev a_readers a_writers a_gapReaders a_owner a_baseState a_baseValue a_recFree a_pageFill a_pageSlot a_pageTop a_pageFree a_pathPage a_pathSlot a_phaseOf a_outcomeOf a_used : Nat → Int32} {a_beganAt : Nat → Int64} {a_opKind a_opFirst a_opSecond : Nat → Int32} {a_acceptedAt : Nat → Int64} {a_rowCount a_rowKeys a_rowValues a_reach : Nat → Int32}
theorem xw_insT {post : SX → Prop} {b b' : List (Nat × Nat)} {C : Nat → List (Nat × Nat)} {gs : List (List Nat)} {F : List Nat} {P Q : List (Nat × Nat)} {x : Nat × Nat} {id top : Nat} (hT : tr_T a_pageFill a_pageSlot a_pageTop a_pageFree f_freePages f_root f_height b C gs F) (hlen : b.length ≤ 49) (eb : b = P ++ x :: Q) (eb' : b' = P ++ (id, top) :: x :: Q) (hPt : tr_Pt C a_pathPage a_pathSlot P gs) (hid : id < 64) (htop : top ≤ 1000)
    (h : ∀ pf ps pt fp rt ht C' gs' F', tr_T pf ps pt a_pageFree fp rt ht b' C' gs' F' → post (f_END, f_NOBODY, f_FAN, f_FILL, f_STRIDE, f_DEPTH, f_PAGES, f_ROWS, f_slots, f_capacity, f_entryCount, f_freeRecs, fp, rt, ht, f_clock, a_recKey, a_recState, a_recValue, a_next, a_prev, a_readers, a_writers, a_gapReaders, a_owner, a_baseState, a_baseValue, a_recFree, pf, ps, pt, a_pageFree, a_pathPage, a_pathSlot, a_phaseOf, a_outcomeOf, a_used, a_beganAt, a_opKind, a_opFirst, a_opSecond, a_acceptedAt, a_rowCount, a_rowKeys, a_rowValues, a_reach)) : wpX_treeInsert post (f_END, f_NOBODY, f_FAN, f_FILL, f_STRIDE, f_DEPTH, f_PAGES, f_ROWS, f_slots, f_capacity, f_entryCount, f_freeRecs, f_freePages, f_root, f_height, f_clock, a_recKey, a_recState, a_recValue, a_next, a_prev, a_readers, a_writers, a_gapReaders, a_owner, a_baseState, a_baseValue, a_recFree, a_pageFill, a_pageSlot, a_pageTop, a_pageFree, a_pathPage, a_pathSlot, a_phaseOf, a_outcomeOf, a_used, a_beganAt, a_opKind, a_opFirst, a_opSecond, a_acceptedAt, a_rowCount, a_rowKeys, a_rowValues, a_reach) (nI id) (nI top) := by
  obtain ⟨r, t, h1, h2, h3, h4, h5, h6, h7, h8, h9⟩ := hT
  have hn := tr_nums h8 h6 h7 hlen h9
  refine nm_e ⟨gs.length + 2, ?_⟩
  refine xw_ins_loop (r := r) (t := t) gs [] C F P Q x id top _ _ _ _ _ _ h1 h2 h3 (by omega) (by rw [h5]) (by omega) (by simpa using h6) ?_ ?_ hPt h4 ?_ ?_ ?_ (by simpa using h9) hid htop (by omega) h
  · exact eb'
  · rw [← eb]; exact h7
  · rw [h5]; simp
  · intro p hp; simp at hp
  · intro p hp
    have := h8 p hp
    refine ⟨this.1, this.2.1, fun z => this.2.2 ?_⟩
    simp at z
    omega
end
end
section
section
variable {f_END f_NOBODY f_FAN f_FILL f_STRIDE f_DEPTH f_PAGES f_ROWS f_slots f_capacity f_entryCount f_freeRecs f_freePages f_root f_height : Int32} {f_clock : Int64} {a_recKey a_recState a_recValue a_next a_prev a_readers a_writers a_gapReaders a_owner a_baseState a_baseValue a_recFree a_pageFill a_pageSlot a_pageTop a_pageFree a_pathPage a_pathSlot a_phaseOf a_outcomeOf a_used : Nat → Int32} {a_beganAt : Nat → Int64} {a_opKind a_opFirst a_opSecond : Nat → Int32} {a_acceptedAt : Nat → Int64} {a_rowCount a_rowKeys a_rowValues a_reach : Nat → Int32}
theorem xw_rem_end {post : SX → Prop} {b : List (Nat × Nat)} {C : Nat → List (Nat × Nat)} {gb : List (List Nat)} {p : Nat} {F : List Nat} {n : Nat} (hP : tr_PP a_pageFill a_pageSlot a_pageTop C) (hF : tr_FS a_pageFree F) (hf : f_freePages = nI F.length) (hr : f_root = nI p) (hh : f_height = nI (gb.length + 1)) (hgl : gb.length ≤ 8) (hL : tr_Lw C b gb (C p)) (hfb : ∀ q ∈ gb.flatten, 2 ≤ (C q).length ∧ (C q).length ≤ 4) (hp1 : 1 ≤ (C p).length) (hp4 : (C p).length ≤ 4) (hpe : ((gb ++ [[p]]).flatten ++ F).Perm (List.range 64)) (hn : 0 < n)
    (h : ∀ pf ps pt pe fp rt ht C' gs' F', tr_T pf ps pt pe fp rt ht b C' gs' F' → post (f_END, f_NOBODY, f_FAN, f_FILL, f_STRIDE, f_DEPTH, f_PAGES, f_ROWS, f_slots, f_capacity, f_entryCount, f_freeRecs, fp, rt, ht, f_clock, a_recKey, a_recState, a_recValue, a_next, a_prev, a_readers, a_writers, a_gapReaders, a_owner, a_baseState, a_baseValue, a_recFree, pf, ps, pt, pe, a_pathPage, a_pathSlot, a_phaseOf, a_outcomeOf, a_used, a_beganAt, a_opKind, a_opFirst, a_opSecond, a_acceptedAt, a_rowCount, a_rowKeys, a_rowValues, a_reach)) : wX_treeRemove_31 post n 0 f_END f_NOBODY f_FAN f_FILL f_STRIDE f_DEPTH f_PAGES f_ROWS f_slots f_capacity f_entryCount f_freeRecs f_freePages f_root f_height f_clock a_recKey a_recState a_recValue a_next a_prev a_readers a_writers a_gapReaders a_owner a_baseState a_baseValue a_recFree a_pageFill a_pageSlot a_pageTop a_pageFree a_pathPage a_pathSlot a_phaseOf a_outcomeOf a_used a_beganAt a_opKind a_opFirst a_opSecond a_acceptedAt a_rowCount a_rowKeys a_rowValues a_reach := by
  obtain ⟨m, rfl⟩ : ∃ m, n = m + 1 := ⟨n - 1, by omega⟩
  have hp64 : p < 64 := tr_lt64 hpe (by simp)
  have hpl := hP p hp64
  have hFl := hpe.length_eq
  simp only [List.flatten_append, List.flatten_cons, List.flatten_nil, List.append_nil, List.length_append, List.length_cons, List.length_nil, List.length_range] at hFl
  have hcp := tr_c1 hpe p
  simp only [List.flatten_append, List.flatten_cons, List.flatten_nil, List.append_nil, List.count_append, List.count_cons_self, List.count_nil] at hcp
  have hpb : p ∉ gb.flatten := tr_ni (by omega)
  have stay : (2 ≤ gb.length + 1 → 2 ≤ (C p).length) → post (f_END, f_NOBODY, f_FAN, f_FILL, f_STRIDE, f_DEPTH, f_PAGES, f_ROWS, f_slots, f_capacity, f_entryCount, f_freeRecs, f_freePages, f_root, f_height, f_clock, a_recKey, a_recState, a_recValue, a_next, a_prev, a_readers, a_writers, a_gapReaders, a_owner, a_baseState, a_baseValue, a_recFree, a_pageFill, a_pageSlot, a_pageTop, a_pageFree, a_pathPage, a_pathSlot, a_phaseOf, a_outcomeOf, a_used, a_beganAt, a_opKind, a_opFirst, a_opSecond, a_acceptedAt, a_rowCount, a_rowKeys, a_rowValues, a_reach) := by
    intro h2
    refine h a_pageFill a_pageSlot a_pageTop a_pageFree f_freePages f_root f_height C (gb ++ [[p]]) F ⟨p, tr_tp (C p), hP, hF, hf, hr, by rw [hh]; simp, by simp, ?_, ?_, hpe⟩
    · exact tr_Lw_app.mpr ⟨_, hL, by simp, rfl⟩
    · intro q hq
      rw [List.length_append]
      simp only [List.flatten_append, List.flatten_cons, List.flatten_nil, List.append_nil, List.mem_append, List.mem_singleton] at hq
      rcases hq with hq | hq
      · have := hfb q hq
        exact ⟨by omega, this.2, fun _ => this.1⟩
      · rw [hq]; exact ⟨hp1, hp4, h2⟩
  refine br_t (by decide) ?_
  subst hr
  by_cases hg : gb.length = 0
  · refine br_t ?_ (stay (fun z => by omega))
    rw [hh, hg]
    decide
  · refine br_f ?_ ⟨vp_in_nI hp64 (by omega), ?_⟩
    · rw [hh]
      exact nI_ge (b := gb.length + 1) (a := 1) (by omega) (by omega)
    · rw [nI_clamp (n := p) (by omega), hpl.1]
      by_cases h1 : (C p).length = 1
      · obtain ⟨c, e⟩ := List.length_eq_one_iff.mp h1
        have hat := tr_PP_at (S := []) (R := []) hP hp64 e
        simp only [List.length_nil, Nat.add_zero] at hat
        refine br_t (by rw [h1]; rfl) ?_
        rw [show nI p * 5 = nI (p * 5) by rw [show (5 : Int32) = nI 5 from rfl, pk_mul], nI_clamp (n := p * 5) (by omega), hh]
        refine ⟨vp_in_nI (by omega) (by omega), nm_r hat.1 (nm_r (nI_pred _) ?_)⟩
        refine xw_give hP hF hf hp64 (by omega) fun pf pe hP1 hF1 => ?_
        refine h _ _ _ _ _ _ _ (tr_u C p []) gb (p :: F) ⟨c.1, c.2, hP1, hF1, rfl, rfl, rfl, ?_, ?_, ?_, ?_⟩
        · intro e0; rw [e0] at hg; simp at hg
        · refine tr_Lw_u hpb ?_
          rw [e] at hL
          exact hL
        · intro q hq
          have e0 : q ≠ p := fun e0 => hpb (e0 ▸ hq)
          rw [tr_un e0]
          have := hfb q hq
          exact ⟨by omega, this.2, fun _ => this.1⟩
        · refine List.Perm.trans ?_ hpe
          rw [List.perm_iff_count]
          intro a
          simp only [List.flatten_append, List.flatten_cons, List.flatten_nil, List.append_nil, List.count_append, List.count_cons, List.count_nil]
          omega
      · refine br_f ?_ (stay (fun _ => by omega))
        rw [show (1 : Int32) = nI 1 from rfl, nI_eq (by omega) (by omega)]
        exact h1
theorem xw_rem_loop {post : SX → Prop} {b : List (Nat × Nat)} {r t : Nat} : ∀ (ga gb : List (List Nat)) (C : Nat → List (Nat × Nat)) (F A B : List Nat) (p told : Nat) (a_pageFill a_pageSlot a_pageTop a_pageFree : Nat → Int32) (f_freePages : Int32) (n : Nat),
    tr_PP a_pageFill a_pageSlot a_pageTop C → tr_FS a_pageFree F → f_freePages = nI F.length → gb.length + ga.length ≤ 7 → tr_Lw C b gb ((A ++ p :: B).flatMap C) → tr_Lw C (A.map (tr_it C) ++ (p, told) :: B.map (tr_it C)) ga [(r, t)] → a_pathPage ga.length = nI p → tr_Pt C a_pathPage a_pathSlot (A.map (tr_it C)) ga → f_root = nI r → f_height = nI (gb.length + 1 + ga.length) → (∀ q ∈ gb.flatten, 2 ≤ (C q).length ∧ (C q).length ≤ 4) → (∀ q, q ∈ A ∨ q ∈ B → 2 ≤ (C q).length ∧ (C q).length ≤ 4) → 1 ≤ (C p).length → (C p).length ≤ 4 → (∀ q ∈ ga.flatten, 2 ≤ (C q).length ∧ (C q).length ≤ 4) → ((gb ++ (A ++ p :: B) :: ga).flatten ++ F).Perm (List.range 64) → ga.length < n →
    (∀ pf ps pt pe fp rt ht C' gs' F', tr_T pf ps pt pe fp rt ht b C' gs' F' → post (f_END, f_NOBODY, f_FAN, f_FILL, f_STRIDE, f_DEPTH, f_PAGES, f_ROWS, f_slots, f_capacity, f_entryCount, f_freeRecs, fp, rt, ht, f_clock, a_recKey, a_recState, a_recValue, a_next, a_prev, a_readers, a_writers, a_gapReaders, a_owner, a_baseState, a_baseValue, a_recFree, pf, ps, pt, pe, a_pathPage, a_pathSlot, a_phaseOf, a_outcomeOf, a_used, a_beganAt, a_opKind, a_opFirst, a_opSecond, a_acceptedAt, a_rowCount, a_rowKeys, a_rowValues, a_reach)) → wX_treeRemove_31 post n (nI ga.length) f_END f_NOBODY f_FAN f_FILL f_STRIDE f_DEPTH f_PAGES f_ROWS f_slots f_capacity f_entryCount f_freeRecs f_freePages f_root f_height f_clock a_recKey a_recState a_recValue a_next a_prev a_readers a_writers a_gapReaders a_owner a_baseState a_baseValue a_recFree a_pageFill a_pageSlot a_pageTop a_pageFree a_pathPage a_pathSlot a_phaseOf a_outcomeOf a_used a_beganAt a_opKind a_opFirst a_opSecond a_acceptedAt a_rowCount a_rowKeys a_rowValues a_reach
  | [], gb, C, F, A, B, p, told, a_pageFill, a_pageSlot, a_pageTop, a_pageFree, f_freePages, n, hP, hF, hf, hgl, hLb, hLa, hpp, hPt, hr, hh, hfb, hfg, hp1, hp4, hfa, hpe, hn, h => by
    have h9 : A.map (tr_it C) ++ (p, told) :: B.map (tr_it C) = [(r, t)] := hLa
    have h13 := congrArg List.length h9
    simp at h13
    have hA0 : A = [] := List.eq_nil_of_length_eq_zero (by omega)
    have hB0 : B = [] := List.eq_nil_of_length_eq_zero (by omega)
    subst hA0 hB0
    have e1 : p = r := congrArg Prod.fst (List.cons.inj h9).1
    subst e1
    simp only [List.nil_append, List.flatMap_cons, List.flatMap_nil, List.append_nil] at hLb
    exact xw_rem_end hP hF hf hr (by rw [hh]; rfl) (by omega) hLb hfb hp1 hp4 hpe (by omega) h
  | g2 :: gs, gb, C, F, A, B, p, told, a_pageFill, a_pageSlot, a_pageTop, a_pageFree, f_freePages, n + 1, hP, hF, hf, hgl, hLb, hLa, hpp, hPt, hr, hh, hfb, hfg, hp1, hp4, hfa, hpe, hn, h => by
    obtain ⟨A2, q, B2, S2, y, R2, rfl, e2, e3, e4, e5, hPt'⟩ := hPt
    obtain ⟨hL1, hL2⟩ := hLa
    rw [List.length_cons] at hgl hpp hh hn
    have e7 : y = (p, told) ∧ R2 ++ B2.flatMap C = B.map (tr_it C) := by
      rw [e3, List.flatMap_append, List.flatMap_cons, e2, List.append_assoc, List.append_assoc, List.append_cancel_left_eq, List.append_cancel_left_eq, List.cons_append] at hL1
      exact List.cons.inj hL1
    obtain ⟨rfl, e8⟩ := e7
    have hp64 : p < 64 := tr_lt64 hpe (by simp)
    have hq64 : q < 64 := tr_lt64 hpe (by simp)
    have hqf := hfa q (by simp)
    have hq2 : ∀ z, z ∈ A2 ∨ z ∈ B2 → 2 ≤ (C z).length ∧ (C z).length ≤ 4 := fun z hz => hfa z (by simp only [List.flatten_cons, List.mem_append, List.mem_cons]; rcases hz with hz | hz; exact Or.inl (Or.inl hz); exact Or.inl (Or.inr (Or.inr hz)))
    have hcnt := fun z => tr_c1 hpe z
    simp only [List.flatten_append, List.flatten_cons, List.count_append, List.count_cons] at hcnt
    have hFl := hpe.length_eq
    simp only [List.flatten_append, List.flatten_cons, List.length_append, List.length_cons, List.length_range] at hFl
    have next : ∀ (C' : Nat → List (Nat × Nat)) (F' g' : List Nat) (a_pageFill a_pageSlot a_pageTop a_pageFree : Nat → Int32) (f_freePages : Int32), tr_PP a_pageFill a_pageSlot a_pageTop C' → tr_FS a_pageFree F' → f_freePages = nI F'.length → (∀ z ∈ gb.flatten, C' z = C z) → (∀ z ∈ gs.flatten, C' z = C z) → (∀ z ∈ A2, C' z = C z) → (∀ z ∈ B2, C' z = C z) → g'.flatMap C' = (A ++ p :: B).flatMap C → A2.flatMap C ++ (C' q ++ B2.flatMap C) = g'.map (tr_it C') → (∀ z ∈ g', 2 ≤ (C' z).length ∧ (C' z).length ≤ 4) → 1 ≤ (C' q).length → (C' q).length ≤ 4 → ((gb ++ g' :: (A2 ++ q :: B2) :: gs).flatten ++ F').Perm (List.range 64) → wX_treeRemove_31 post n (nI gs.length) f_END f_NOBODY f_FAN f_FILL f_STRIDE f_DEPTH f_PAGES f_ROWS f_slots f_capacity f_entryCount f_freeRecs f_freePages f_root f_height f_clock a_recKey a_recState a_recValue a_next a_prev a_readers a_writers a_gapReaders a_owner a_baseState a_baseValue a_recFree a_pageFill a_pageSlot a_pageTop a_pageFree a_pathPage a_pathSlot a_phaseOf a_outcomeOf a_used a_beganAt a_opKind a_opFirst a_opSecond a_acceptedAt a_rowCount a_rowKeys a_rowValues a_reach := by
      intro C' F' g' a_pageFill a_pageSlot a_pageTop a_pageFree f_freePages k1 k2 k3 k4 k5 k6 k7 k8 k9 k10 k11 k12 k13
      refine xw_rem_loop (b := b) (r := r) (t := t) gs (gb ++ [g']) C' F' A2 B2 q (tr_tp (C q)) _ _ _ _ _ n k1 k2 k3 (by simp; omega) ?_ ?_ e4 ?_ hr ?_ ?_ ?_ k11 k12 ?_ ?_ (by omega) h
      · refine tr_Lw_app.mpr ⟨_, tr_Lw_congr k4 hLb, k8, ?_⟩
        show g'.map (tr_it C') = _
        rw [← k9, List.flatMap_append, List.flatMap_cons, tr_fm_congr k6, tr_fm_congr k7]
      · rw [tr_mp_congr k6, tr_mp_congr k7]
        refine tr_Lw_congr k5 ?_
        have : (A2 ++ q :: B2).map (tr_it C) = A2.map (tr_it C) ++ (q, tr_tp (C q)) :: B2.map (tr_it C) := by simp [tr_it]
        rw [← this]
        exact hL2
      · rw [tr_mp_congr k6]
        exact tr_Pt_congr k5 (fun _ _ => ⟨rfl, rfl⟩) hPt'
      · rw [hh, List.length_append]
        exact congrArg nI (by simp; omega)
      · intro z hz
        simp only [List.flatten_append, List.flatten_cons, List.flatten_nil, List.append_nil, List.mem_append] at hz
        rcases hz with hz | hz
        · rw [k4 z hz]; exact hfb z hz
        · exact k10 z hz
      · intro z hz
        have : C' z = C z := by rcases hz with hz | hz; exact k6 z hz; exact k7 z hz
        rw [this]
        exact hq2 z hz
      · intro z hz
        rw [k5 z hz]
        exact hfa z (by rw [List.flatten_cons]; exact List.mem_append_right _ hz)
      · simpa using k13
    have hqA2 : q ∉ A2 := fun hm => by have := tr_cp hm; have := hcnt q; simp at this; omega
    have hqB2 : q ∉ B2 := fun hm => by have := tr_cp hm; have := hcnt q; simp at this; omega
    have hqgs : q ∉ gs.flatten := fun hm => by have := tr_cp hm; have := hcnt q; simp at this; omega
    have hqgb : q ∉ gb.flatten := fun hm => by have := tr_cp hm; have := hcnt q; simp at this; omega
    have hqg : q ∉ A ++ p :: B := fun hm => by
      have := tr_cp hm; have h2 := hcnt q; simp only [List.count_append, List.count_cons] at this; simp only [beq_self_eq_true, ↓reduceIte] at h2; omega
    have v8 : vp_in (nI (gs.length + 1)) 8 := vp_in_nI (by omega) (by omega)
    have v8' : vp_in (nI gs.length) 8 := vp_in_nI (by omega) (by omega)
    have hpl := hP p hp64
    rw [List.length_cons]
    refine br_f (nI_nle (by omega) (by omega)) ⟨v8, ?_⟩
    rw [nI_clamp (n := gs.length + 1) (by omega), show nI (gs.length + 1) - 1 = nI gs.length from nI_pred _, nI_clamp (n := gs.length) (by omega)]
    refine nm_r hpp ⟨v8', nm_r e4 ⟨v8', nm_r e5 ⟨vp_in_nI hp64 (by omega), ?_⟩⟩⟩
    rw [nI_clamp (n := p) (by omega), hpl.1]
    by_cases h2 : 2 ≤ (C p).length
    · refine br_t (nI_le (a := 2) h2 (by omega)) ?_
      refine xw_refresh hP hq64 e2 (fun e => by rw [e] at h2; simp at h2) fun pt hP1 => nm_r (pk_m1 _) ?_
      have hlq : (S2 ++ (p, tr_tp (C p)) :: R2).length = (C q).length := by rw [e2]; simp
      have hu : ∀ z, z ≠ q → tr_u C q (S2 ++ (p, tr_tp (C p)) :: R2) z = C z := fun z hz => tr_un hz
      refine next _ F (A ++ p :: B) _ _ _ _ _ hP1 hF hf (fun z hz => hu z (fun e => hqgb (e ▸ hz))) (fun z hz => hu z (fun e => hqgs (e ▸ hz))) (fun z hz => hu z (fun e => hqA2 (e ▸ hz))) (fun z hz => hu z (fun e => hqB2 (e ▸ hz))) (tr_fm_u hqg) ?_ ?_ (by rw [tr_us, hlq]; omega) (by rw [tr_us, hlq]; omega) hpe
      · rw [tr_us, tr_mp_u hqg, List.map_append, List.map_cons, e3, ← e8]
        simp [tr_it]
      · intro z hz
        rw [hu z (fun e => hqg (e ▸ hz))]
        simp only [List.mem_append, List.mem_cons] at hz
        rcases hz with hz | hz | hz
        · exact hfg z (Or.inl hz)
        · rw [hz]; exact ⟨h2, hp4⟩
        · exact hfg z (Or.inr hz)
    · refine br_f (nI_ge (b := 2) (by omega) (by omega)) ?_
      obtain ⟨A', l, rr, B', S', R', t1, t2, f1, f2, f3, f4, f5, f6, f7⟩ : ∃ A' l rr B' S' R' t1 t2, A ++ p :: B = A' ++ l :: rr :: B' ∧ C q = S' ++ (l, t1) :: (rr, t2) :: R' ∧ A'.map (tr_it C) = A2.flatMap C ++ S' ∧ R' ++ B2.flatMap C = B'.map (tr_it C) ∧ (((C l).length = 1 ∧ 2 ≤ (C rr).length ∧ (C rr).length ≤ 4) ∨ (2 ≤ (C l).length ∧ (C l).length ≤ 4 ∧ (C rr).length = 1)) ∧ ((S2.length = 0 ∧ S'.length = 0) ∨ (0 < S2.length ∧ S2.length = S'.length + 1)) ∧ (p = l ∨ p = rr) := by
        rcases tr_lc S2 with hS | ⟨S3, z, hS⟩
        · subst hS
          have hl := congrArg List.length e2
          simp at hl
          match R2, e2, e8, hl with
          | [], _, _, hl => simp at hl; omega
          | z :: R3, e2, e8, hl =>
            obtain ⟨rr, B', hB, e9, e10⟩ := List.map_eq_cons_iff.mp e8.symm
            subst hB
            refine ⟨A, p, rr, B', [], R3, told, z.2, rfl, ?_, e3, e10.symm, ?_, Or.inl ⟨rfl, rfl⟩, Or.inl rfl⟩
            · rw [e2, ← e9]; rfl
            · have := hfg rr (Or.inr (by simp))
              exact Or.inl ⟨by omega, this⟩
        · subst hS
          rw [← List.append_assoc] at e3
          obtain ⟨A', A3, hA, e9, e10⟩ := List.map_eq_append_iff.mp e3
          obtain ⟨l, A4, hA3, e11, e12⟩ := List.map_eq_cons_iff.mp e10
          have e13 : A4 = [] := by simpa using e12
          subst hA hA3 e13
          refine ⟨A', l, p, B, S3, R2, z.2, told, by simp, ?_, e9, e8, ?_, Or.inr ⟨by simp, by simp⟩, Or.inr rfl⟩
          · rw [e2, ← e11]; simp [tr_it]
          · have := hfg l (Or.inl (by simp))
            exact Or.inr ⟨this.1, this.2, by omega⟩
      have fc : ∀ a, (A ++ p :: B).count a = A'.count a + ((if l == a then 1 else 0) + (if rr == a then 1 else 0) + B'.count a) := fun a => by
        rw [f1]
        simp only [List.count_append, List.count_cons]
        omega
      simp only [List.count_append, List.count_cons] at fc
      have hall : ∀ z, A'.count z + ((if l == z then 1 else 0) + (if rr == z then 1 else 0) + B'.count z) + (gb.flatten.count z + gs.flatten.count z + A2.count z + B2.count z + (if q == z then 1 else 0) + F.count z) ≤ 1 := fun z => by
        have h1 := hcnt z
        have h2 := fc z
        omega
      have hlr : l ≠ rr := fun e => by have := hall l; rw [e] at this; simp at this; omega
      have hlq : l ≠ q := fun e => by have := hall l; rw [e] at this; simp at this; omega
      have hrq : rr ≠ q := fun e => by have := hall rr; rw [e] at this; simp at this; omega
      have hne : ∀ z, z ∈ A' ∨ z ∈ B' ∨ z ∈ gb.flatten ∨ z ∈ gs.flatten ∨ z ∈ A2 ∨ z ∈ B2 → z ≠ l ∧ z ≠ q ∧ z ≠ rr := fun z hz => by
        have h1 := hall z
        have h0 : 0 < A'.count z + B'.count z + gb.flatten.count z + gs.flatten.count z + A2.count z + B2.count z := by
          rcases hz with hz | hz | hz | hz | hz | hz <;> have := tr_cp hz <;> omega
        refine ⟨?_, ?_, ?_⟩
        · intro e; subst e; simp at h1; omega
        · intro e; subst e; simp at h1; omega
        · intro e; subst e; simp at h1; omega
      have hfg' : ∀ z, z ∈ A' ∨ z ∈ B' → 2 ≤ (C z).length ∧ (C z).length ≤ 4 := fun z hz => by
        have h1 := hne z (by rcases hz with hz | hz; exact Or.inl hz; exact Or.inr (Or.inl hz))
        have h2 : z ∈ A ++ p :: B := by rw [f1]; simp only [List.mem_append, List.mem_cons]; rcases hz with hz | hz; exact Or.inl hz; exact Or.inr (Or.inr (Or.inr hz))
        have h3 : z ≠ p := by rcases f7 with e | e; rw [e]; exact h1.1; rw [e]; exact h1.2.2
        simp only [List.mem_append, List.mem_cons] at h2
        rcases h2 with h2 | h2 | h2
        · exact hfg z (Or.inl h2)
        · exact absurd h2 h3
        · exact hfg z (Or.inr h2)
      have hql : (C q).length = S'.length + R'.length + 2 := by rw [f2]; simp; omega
      have hM : ∀ pf ps pt pe C', tr_PP pf ps pt C' → tr_FS pe (rr :: F) → C' l = C l ++ C rr → (C l ++ C rr).length ≤ 4 → C' q = S' ++ (l, tr_tp (C l ++ C rr)) :: R' → (∀ z, z ≠ l → z ≠ q → z ≠ rr → C' z = C z) → wX_treeRemove_31 post n (nI gs.length) f_END f_NOBODY f_FAN f_FILL f_STRIDE f_DEPTH f_PAGES f_ROWS f_slots f_capacity f_entryCount f_freeRecs (nI (rr :: F).length) f_root f_height f_clock a_recKey a_recState a_recValue a_next a_prev a_readers a_writers a_gapReaders a_owner a_baseState a_baseValue a_recFree pf ps pt pe a_pathPage a_pathSlot a_phaseOf a_outcomeOf a_used a_beganAt a_opKind a_opFirst a_opSecond a_acceptedAt a_rowCount a_rowKeys a_rowValues a_reach := by
        intro pf ps pt pe C' m1 m2 m3 m4 m5 m6
        have m7 : ∀ z, z ∈ A' ∨ z ∈ B' ∨ z ∈ gb.flatten ∨ z ∈ gs.flatten ∨ z ∈ A2 ∨ z ∈ B2 → C' z = C z := fun z hz => m6 z (hne z hz).1 (hne z hz).2.1 (hne z hz).2.2
        have mA : ∀ z ∈ A', C' z = C z := fun z hz => m7 z (Or.inl hz)
        have mB : ∀ z ∈ B', C' z = C z := fun z hz => m7 z (Or.inr (Or.inl hz))
        refine next C' (rr :: F) (A' ++ l :: B') _ _ _ _ _ m1 m2 rfl (fun z hz => m7 z (by simp only [hz, true_or, or_true])) (fun z hz => m7 z (by simp only [hz, true_or, or_true])) (fun z hz => m7 z (by simp only [hz, true_or, or_true])) (fun z hz => m7 z (by simp only [hz, true_or, or_true])) ?_ ?_ ?_ (by rw [m5]; simp; omega) (by rw [m5]; simp; omega) ?_
        · rw [f1, List.flatMap_append, List.flatMap_cons, tr_fm_congr mA, tr_fm_congr mB, m3]
          simp
        · rw [m5, List.map_append, List.map_cons, tr_mp_congr mA, tr_mp_congr mB, f3, ← f4]
          simp [tr_it, m3]
        · intro z hz
          simp only [List.mem_append, List.mem_cons] at hz
          rcases hz with hz | hz | hz
          · rw [mA z hz]; exact hfg' z (Or.inl hz)
          · rw [hz, m3]
            refine ⟨?_, m4⟩
            rw [List.length_append]
            omega
          · rw [mB z hz]; exact hfg' z (Or.inr hz)
        · refine List.Perm.trans ?_ hpe
          rw [List.perm_iff_count]
          intro a
          have := fc a
          simp only [List.flatten_append, List.flatten_cons, List.flatten_nil, List.append_nil, List.count_append, List.count_cons, List.count_nil]
          omega
      have hR : ∀ pf ps pt C' nl nr, tr_PP pf ps pt C' → nl ++ nr = C l ++ C rr → 2 ≤ nl.length → nl.length ≤ 4 → 2 ≤ nr.length → nr.length ≤ 4 → C' l = nl → C' rr = nr → C' q = S' ++ (l, tr_tp nl) :: (rr, tr_tp nr) :: R' → (∀ z, z ≠ l → z ≠ q → z ≠ rr → C' z = C z) → wX_treeRemove_31 post n (nI gs.length) f_END f_NOBODY f_FAN f_FILL f_STRIDE f_DEPTH f_PAGES f_ROWS f_slots f_capacity f_entryCount f_freeRecs f_freePages f_root f_height f_clock a_recKey a_recState a_recValue a_next a_prev a_readers a_writers a_gapReaders a_owner a_baseState a_baseValue a_recFree pf ps pt a_pageFree a_pathPage a_pathSlot a_phaseOf a_outcomeOf a_used a_beganAt a_opKind a_opFirst a_opSecond a_acceptedAt a_rowCount a_rowKeys a_rowValues a_reach := by
        intro pf ps pt C' nl nr m1 m2 m3 m4 m5 m6 m8 m9 m10 m11
        have m7 : ∀ z, z ∈ A' ∨ z ∈ B' ∨ z ∈ gb.flatten ∨ z ∈ gs.flatten ∨ z ∈ A2 ∨ z ∈ B2 → C' z = C z := fun z hz => m11 z (hne z hz).1 (hne z hz).2.1 (hne z hz).2.2
        have mA : ∀ z ∈ A', C' z = C z := fun z hz => m7 z (Or.inl hz)
        have mB : ∀ z ∈ B', C' z = C z := fun z hz => m7 z (Or.inr (Or.inl hz))
        refine next C' F (A' ++ l :: rr :: B') _ _ _ _ _ m1 hF hf (fun z hz => m7 z (by simp only [hz, true_or, or_true])) (fun z hz => m7 z (by simp only [hz, true_or, or_true])) (fun z hz => m7 z (by simp only [hz, true_or, or_true])) (fun z hz => m7 z (by simp only [hz, true_or, or_true])) ?_ ?_ ?_ (by rw [m10]; simp; omega) (by rw [m10]; simp; omega) ?_
        · rw [f1, List.flatMap_append, List.flatMap_cons, List.flatMap_cons, tr_fm_congr mA, tr_fm_congr mB, m8, m9, List.flatMap_append, List.flatMap_cons, List.flatMap_cons, ← List.append_assoc nl, m2, List.append_assoc (C l)]
        · rw [m10, List.map_append, List.map_cons, List.map_cons, tr_mp_congr mA, tr_mp_congr mB, f3, ← f4]
          simp [tr_it, m8, m9]
        · intro z hz
          simp only [List.mem_append, List.mem_cons] at hz
          rcases hz with hz | hz | hz | hz
          · rw [mA z hz]; exact hfg' z (Or.inl hz)
          · rw [hz, m8]; exact ⟨m3, m4⟩
          · rw [hz, m9]; exact ⟨m5, m6⟩
          · rw [mB z hz]; exact hfg' z (Or.inr hz)
        · refine List.Perm.trans ?_ hpe
          rw [List.perm_iff_count]
          intro a
          have := fc a
          simp only [List.flatten_append, List.flatten_cons, List.flatten_nil, List.append_nil, List.count_append, List.count_cons, List.count_nil]
          omega
      rcases f6 with ⟨z1, z2⟩ | ⟨z1, z2⟩
      · rw [z1, ← z2]
        refine br_t (by rw [z2]; decide) ?_
        exact xw_reb hP hq64 f2 hlr hlq hrq f5 hF hf (by omega) (fun pf ps pt pe C' a1 a2 a3 a4 a5 a6 => nm_r (pk_m1 _) (hM pf ps pt pe C' a1 a2 a3 a4 a5 a6)) (fun pf ps pt C' nl nr a1 a2 a3 a4 a5 a6 a7 a8 a9 a10 => nm_r (pk_m1 _) (hR pf ps pt C' nl nr a1 a2 a3 a4 a5 a6 a7 a8 a9 a10))
      · rw [z2]
        refine br_f (nI_nle (by omega) (by omega)) ?_
        rw [nI_pred]
        exact xw_reb hP hq64 f2 hlr hlq hrq f5 hF hf (by omega) (fun pf ps pt pe C' a1 a2 a3 a4 a5 a6 => nm_r (pk_m1 _) (hM pf ps pt pe C' a1 a2 a3 a4 a5 a6)) (fun pf ps pt C' nl nr a1 a2 a3 a4 a5 a6 a7 a8 a9 a10 => nm_r (pk_m1 _) (hR pf ps pt C' nl nr a1 a2 a3 a4 a5 a6 a7 a8 a9 a10))
theorem tr_uniq {k : Nat} : ∀ {P P' Q Q' : List (Nat × Nat)} {x x' : Nat × Nat}, P ++ x :: Q = P' ++ x' :: Q' → (∀ y ∈ P, y.2 < k) → k ≤ x.2 → (∀ y ∈ P', y.2 < k) → k ≤ x'.2 → P = P' ∧ x = x' ∧ Q = Q'
  | [], [], Q, Q', x, x', h, _, _, _, _ => by
    have := List.cons.inj h
    exact ⟨rfl, this.1, this.2⟩
  | [], z :: P', Q, Q', x, x', h, _, h2, h3, _ => by
    have := (List.cons.inj h).1
    have := h3 z (by simp)
    simp_all
    omega
  | z :: P, [], Q, Q', x, x', h, h1, _, _, h4 => by
    have := (List.cons.inj h).1
    have := h1 z (by simp)
    simp_all
    omega
  | z :: P, z' :: P', Q, Q', x, x', h, h1, h2, h3, h4 => by
    have h5 := List.cons.inj h
    have h6 := tr_uniq h5.2 (fun y hy => h1 y (by simp [hy])) h2 (fun y hy => h3 y (by simp [hy])) h4
    exact ⟨by rw [h5.1, h6.1], h6.2⟩
theorem xw_remT {post : SX → Prop} {b b' : List (Nat × Nat)} {C : Nat → List (Nat × Nat)} {gs : List (List Nat)} {F : List Nat} {P Q : List (Nat × Nat)} {x : Nat × Nat} (hT : tr_T a_pageFill a_pageSlot a_pageTop a_pageFree f_freePages f_root f_height b C gs F) (hlen : b.length ≤ 49) (hs : tr_So b) (eb : b = P ++ x :: Q) (eb' : b' = P ++ Q) (hQ : Q ≠ []) (hx : x.2 ≤ 1000)
    (h : ∀ pf ps pt pe fp rt ht pp sl C' gs' F', tr_T pf ps pt pe fp rt ht b' C' gs' F' → post (f_END, f_NOBODY, f_FAN, f_FILL, f_STRIDE, f_DEPTH, f_PAGES, f_ROWS, f_slots, f_capacity, f_entryCount, f_freeRecs, fp, rt, ht, f_clock, a_recKey, a_recState, a_recValue, a_next, a_prev, a_readers, a_writers, a_gapReaders, a_owner, a_baseState, a_baseValue, a_recFree, pf, ps, pt, pe, pp, sl, a_phaseOf, a_outcomeOf, a_used, a_beganAt, a_opKind, a_opFirst, a_opSecond, a_acceptedAt, a_rowCount, a_rowKeys, a_rowValues, a_reach)) : wpX_treeRemove post (f_END, f_NOBODY, f_FAN, f_FILL, f_STRIDE, f_DEPTH, f_PAGES, f_ROWS, f_slots, f_capacity, f_entryCount, f_freeRecs, f_freePages, f_root, f_height, f_clock, a_recKey, a_recState, a_recValue, a_next, a_prev, a_readers, a_writers, a_gapReaders, a_owner, a_baseState, a_baseValue, a_recFree, a_pageFill, a_pageSlot, a_pageTop, a_pageFree, a_pathPage, a_pathSlot, a_phaseOf, a_outcomeOf, a_used, a_beganAt, a_opKind, a_opFirst, a_opSecond, a_acceptedAt, a_rowCount, a_rowKeys, a_rowValues, a_reach) (nI x.2) := by
  have hPx : ∀ y ∈ P, y.2 < x.2 := fun y hy => by
    rw [eb] at hs
    exact (List.pairwise_append.mp hs).2.2 y hy x (by simp)
  unfold wpX_treeRemove
  refine xw_locT hT hx hs hlen ⟨x, by rw [eb]; simp, Nat.le_refl _⟩ fun pp sl P' x' Q' g1 g2 g3 g4 => ?_
  obtain ⟨rfl, rfl, rfl⟩ := tr_uniq (eb.symm.trans g1) hPx (Nat.le_refl _) g2 g3
  obtain ⟨r, t, h1, h2, h3, h4, h5, h6, h7, h8, h9⟩ := hT
  have hn := tr_nums h8 h6 h7 hlen h9
  match gs, h5, h6, h7, h8, h9, hn, g4 with
  | [], _, h6, _, _, _, _, _ => exact absurd rfl h6
  | g :: ga, h5, h6, h7, h8, h9, hn, g4 =>
    obtain ⟨A, p, B, S, y, R, rfl, e2, e3, e4, e5, hPt⟩ := g4
    have hL1 := h7.1
    have hL2 := h7.2
    have hpm : p ∈ (((A ++ p :: B) :: ga).flatten) := by simp
    have hp64 : p < 64 := tr_lt64 h9 hpm
    rw [eb] at hL1
    have e7 : y = x ∧ R ++ B.flatMap C = Q := by
      rw [e3, List.flatMap_append, List.flatMap_cons, e2, List.append_assoc, List.append_assoc, List.append_cancel_left_eq, List.append_cancel_left_eq, List.cons_append] at hL1
      exact List.cons.inj hL1
    obtain ⟨rfl, e8⟩ := e7
    rw [List.length_cons] at h5 hn
    have hcnt := tr_c1 h9 p
    simp only [List.flatten_cons, List.count_append, List.count_cons_self] at hcnt
    have hpA : p ∉ A := tr_ni (by omega)
    have hpB : p ∉ B := tr_ni (by omega)
    have hpg : p ∉ ga.flatten := tr_ni (by omega)
    have hfp := h8 p hpm
    have v8 : vp_in (nI ga.length) 8 := vp_in_nI (by omega) (by omega)
    refine nm_r (e' := nI ga.length) (by rw [h5]; exact nI_pred _) ⟨v8, v8, ?_⟩
    rw [nI_clamp (n := ga.length) (by omega), e4, e5]
    refine xw_drop h1 hp64 e2 fun pf ps pt hP1 => ⟨ga.length + 1, ?_⟩
    have hCl : (C p).length = (S ++ R).length + 1 := by rw [e2]; simp; omega
    have hs1 : ga = [] → A = [] ∧ B = [] := by
      intro e; subst e
      have h12 : (A ++ p :: B).map (tr_it C) = [(r, t)] := hL2
      have h13 := congrArg List.length h12
      simp at h13
      exact ⟨List.eq_nil_of_length_eq_zero (by omega), List.eq_nil_of_length_eq_zero (by omega)⟩
    have hu : ∀ z, z ≠ p → tr_u C p (S ++ R) z = C z := fun z hz => tr_un hz
    have h2l : ga ≠ [] → 2 ≤ ((A ++ p :: B) :: ga).length := fun e => by
      have := List.length_pos_iff.mpr e
      simp; omega
    refine xw_rem_loop (b := b') (r := r) (t := t) ga [] (tr_u C p (S ++ R)) F A B p (tr_tp (C p)) _ _ _ _ _ _ hP1 h2 h3 (by simp; omega) ?_ ?_ e4 ?_ h4 ?_ (fun q hq => by simp at hq) ?_ ?_ ?_ ?_ (by simpa using h9) (by omega) ?_
    · show b' = _
      rw [eb', List.flatMap_append, List.flatMap_cons, tr_fm_u hpA, tr_fm_u hpB, tr_us, e3, ← e8]
      simp
    · rw [tr_mp_u hpA, tr_mp_u hpB]
      refine tr_Lw_u hpg ?_
      have : (A ++ p :: B).map (tr_it C) = A.map (tr_it C) ++ (p, tr_tp (C p)) :: B.map (tr_it C) := by simp [tr_it]
      rw [← this]
      exact hL2
    · rw [tr_mp_u hpA]
      exact tr_Pt_u hpg hPt
    · rw [h5]; exact congrArg nI (by simp; omega)
    · intro q hq
      have hqp : q ≠ p := fun e => by subst e; rcases hq with hq | hq; exact hpA hq; exact hpB hq
      rw [hu q hqp]
      have := h8 q (by simp only [List.flatten_cons, List.mem_append, List.mem_cons]; rcases hq with hq | hq; exact Or.inl (Or.inl hq); exact Or.inl (Or.inr (Or.inr hq)))
      refine ⟨this.2.2 (h2l ?_), this.2.1⟩
      intro e
      obtain ⟨e1, e2⟩ := hs1 e
      subst e1 e2
      rcases hq with hq | hq <;> simp at hq
    · rw [tr_us]
      by_cases e : ga = []
      · obtain ⟨e1, e9⟩ := hs1 e
        subst e1 e9
        have := List.length_pos_iff.mpr hQ
        rw [← e8] at this
        simp at this
        rw [List.length_append]
        omega
      · have := hfp.2.2 (h2l e)
        omega
    · rw [tr_us]; omega
    · intro q hq
      rw [hu q (fun e => hpg (e ▸ hq))]
      have := h8 q (by rw [List.flatten_cons]; exact List.mem_append_right _ hq)
      refine ⟨this.2.2 (h2l ?_), this.2.1⟩
      intro e; subst e; simp at hq
    · intro pf ps pt pe fp rt ht C' gs' F' hT'
      exact h pf ps pt pe fp rt ht pp sl C' gs' F' hT'
end
end
section
/-! the relation -/
def rg_Lk (nx pv : Nat → Int32) : List Nat → Prop
  | [] => True
  | r :: l => (∀ q l', l = q :: l' → nx r = nI q ∧ pv q = nI r) ∧ rg_Lk nx pv l
def rg_S (L : List Nat) (ky : Nat → Nat) (rk nx pv rf : Nat → Int32) (fr ec : Int32) : Prop :=
  (∀ r ∈ L, r < 48 ∧ ky r < 1000) ∧ ky 48 = 1000 ∧ (∀ r ∈ L ++ [48], rk r = nI (ky r)) ∧ (L ++ [48]).Pairwise (fun a b => ky a < ky b) ∧ rg_Lk nx pv (48 :: (L ++ [48])) ∧ (∃ Fr, tr_FS rf Fr ∧ fr = nI Fr.length ∧ (L ++ Fr).Perm (List.range 48)) ∧ ec = nI L.length
def rg_b (L : List Nat) (ky : Nat → Nat) : List (Nat × Nat) := (L ++ [48]).map (fun r => (r, ky r))
def rg_T (pf ps pt pe : Nat → Int32) (fp rt ht : Int32) (L : List Nat) (ky : Nat → Nat) : Prop := ∃ C gs F, tr_T pf ps pt pe fp rt ht (rg_b L ky) C gs F
def dd_b (b : Bool) : Int32 := if b then 1 else 0
def dd_E (st va rd wr ow bs bv Yst Yva Yrd Ywr Yto Ybs Ybv : Nat → Int32) (k r : Nat) : Prop :=
  (st r = 1 ∨ (st r = 2 ∧ va r = 0)) ∧ Yst k = st r ∧ Yva k = va r ∧
  (∀ t, t < 5 → Yrd (t * 1000 + k) = dd_b (bt (rd r) t) ∧ Ywr (t * 1000 + k) = dd_b (bt (wr r) t) ∧ Yto (t * 1000 + k) = dd_b (decide (ow r = nI t)) ∧ (ow r = nI t → bt (wr r) t = true ∧ ((Ybs (t * 1000 + k) = 1 ∧ bs r = 1 ∧ bv r = Ybv (t * 1000 + k)) ∨ (Ybs (t * 1000 + k) ≠ 1 ∧ bs r = 2 ∧ bv r = 0)))) ∧
  (ow r = -1 ∨ ∃ t, t < 5 ∧ ow r = nI t) ∧ (∀ t u, bt (wr r) t = true → bt (wr r) u = true → t = u)
def dd_N (Yst Yva Ywr Yto : Nat → Int32) (k : Nat) : Prop := Yst k = 0 ∧ Yva k = 0 ∧ ∀ t, t < 5 → Ywr (t * 1000 + k) = 0 ∧ Yto (t * 1000 + k) = 0
/-- q is the first record whose key is x or greater -/
def rg_F (L : List Nat) (ky : Nat → Nat) (x q : Nat) : Prop := q ∈ L ++ [48] ∧ x ≤ ky q ∧ ∀ p ∈ L ++ [48], ky p < x ∨ ky q ≤ ky p
def dd_D (L : List Nat) (ky : Nat → Nat) (ph st va rd wr gr ow bs bv Yst Yva Yrd Ywr Yto Ybs Ybv : Nat → Int32) : Prop :=
  (∀ r ∈ L, dd_E st va rd wr ow bs bv Yst Yva Yrd Ywr Yto Ybs Ybv (ky r) r) ∧
  (∀ k, k < 1000 → (∀ r ∈ L, ky r ≠ k) → dd_N Yst Yva Ywr Yto k) ∧
  (∀ r k, rg_F L ky k r → k ≠ ky r → ∀ t, t < 5 → Yrd (t * 1000 + k) = dd_b (bt (gr r) t)) ∧
  (∀ r ∈ L, ∀ t, bt (rd r) t = true ∨ bt (wr r) t = true → ph t ≠ 0) ∧ (∀ r ∈ L ++ [48], ∀ t, bt (gr r) t = true → ph t ≠ 0) ∧ wr 48 = 0
def dd_T (s : Nat) (ph kd fi se us rc : Nat → Int32) : Prop := ∀ t, (ph t = 0 ∨ (t < s ∧ (ph t = 1 ∨ ph t = 2))) ∧ (ph t ≠ 2 → kd t = 0 ∧ fi t = 0 ∧ se t = 0) ∧ (ph t = 2 → rc t = 0 ∧ ∃ k, k < 1000 ∧ fi t = nI k ∧ (kd t = 1 ∨ kd t = 2 ∨ kd t = 3 ∨ kd t = 4 ∨ (kd t = 5 ∧ ∃ h, se t = nI h ∧ k ≤ h ∧ h < 1000))) ∧ (ph t = 0 → us t = 0 ∧ rc t = 0) ∧ (∃ c, c ≤ 48 ∧ rc t = nI c)
def zz_R (u : SX) (v : SY) : Prop := match u with
  | (f_END, f_NOBODY, f_FAN, f_FILL, f_STRIDE, f_DEPTH, f_PAGES, f_ROWS, f_slots, f_capacity, f_entryCount, f_freeRecs, f_freePages, f_root, f_height, f_clock, a_recKey, a_recState, a_recValue, a_next, a_prev, a_readers, a_writers, a_gapReaders, a_owner, a_baseState, a_baseValue, a_recFree, a_pageFill, a_pageSlot, a_pageTop, a_pageFree, a_pathPage, a_pathSlot, a_phaseOf, a_outcomeOf, a_used, a_beganAt, a_opKind, a_opFirst, a_opSecond, a_acceptedAt, a_rowCount, a_rowKeys, a_rowValues, a_reach) => match v with
    | (g_slots, g_capacity, g_clock, b_states, b_values, b_reads, b_writes, b_touched, b_beforeStates, b_beforeValues, b_phases, b_outcomes, b_used, b_kinds, b_firsts, b_seconds, b_begun, b_accepted, b_rowCounts, b_rowKeys, b_rowValues) => (g_slots = f_slots ∧ g_capacity = f_capacity ∧ g_clock = f_clock ∧ b_phases = a_phaseOf ∧ b_outcomes = a_outcomeOf ∧ b_used = a_used ∧ b_kinds = a_opKind ∧ b_firsts = a_opFirst ∧ b_seconds = a_opSecond ∧ b_begun = a_beganAt ∧ b_accepted = a_acceptedAt ∧ b_rowCounts = a_rowCount ∧ b_rowKeys = a_rowKeys ∧ b_rowValues = a_rowValues) ∧
      ∃ s c L ky, f_slots = nI s ∧ 2 ≤ s ∧ s ≤ 5 ∧ f_capacity = nI c ∧ c ≤ 48 ∧ dd_T s a_phaseOf a_opKind a_opFirst a_opSecond a_used a_rowCount ∧ rg_S L ky a_recKey a_next a_prev a_recFree f_freeRecs f_entryCount ∧ rg_T a_pageFill a_pageSlot a_pageTop a_pageFree f_freePages f_root f_height L ky ∧ dd_D L ky a_phaseOf a_recState a_recValue a_readers a_writers a_gapReaders a_owner a_baseState a_baseValue b_states b_values b_reads b_writes b_touched b_beforeStates b_beforeValues
theorem zz_el {P : SX → SY → Prop} (h : ∀ (f_END f_NOBODY f_FAN f_FILL f_STRIDE f_DEPTH f_PAGES f_ROWS f_slots f_capacity f_entryCount f_freeRecs f_freePages f_root f_height : Int32) (f_clock : Int64) (a_recKey a_recState a_recValue a_next a_prev a_readers a_writers a_gapReaders a_owner a_baseState a_baseValue a_recFree a_pageFill a_pageSlot a_pageTop a_pageFree a_pathPage a_pathSlot a_phaseOf a_outcomeOf a_used : Nat → Int32) (a_beganAt : Nat → Int64) (a_opKind a_opFirst a_opSecond : Nat → Int32) (a_acceptedAt : Nat → Int64) (a_rowCount a_rowKeys a_rowValues a_reach : Nat → Int32) (b_states b_values b_reads b_writes b_touched b_beforeStates b_beforeValues : Nat → Int32) (s c : Nat) (L : List Nat) (ky : Nat → Nat), f_slots = nI s → 2 ≤ s → s ≤ 5 → f_capacity = nI c → c ≤ 48 → dd_T s a_phaseOf a_opKind a_opFirst a_opSecond a_used a_rowCount → rg_S L ky a_recKey a_next a_prev a_recFree f_freeRecs f_entryCount → rg_T a_pageFill a_pageSlot a_pageTop a_pageFree f_freePages f_root f_height L ky → dd_D L ky a_phaseOf a_recState a_recValue a_readers a_writers a_gapReaders a_owner a_baseState a_baseValue b_states b_values b_reads b_writes b_touched b_beforeStates b_beforeValues → P (f_END, f_NOBODY, f_FAN, f_FILL, f_STRIDE, f_DEPTH, f_PAGES, f_ROWS, f_slots, f_capacity, f_entryCount, f_freeRecs, f_freePages, f_root, f_height, f_clock, a_recKey, a_recState, a_recValue, a_next, a_prev, a_readers, a_writers, a_gapReaders, a_owner, a_baseState, a_baseValue, a_recFree, a_pageFill, a_pageSlot, a_pageTop, a_pageFree, a_pathPage, a_pathSlot, a_phaseOf, a_outcomeOf, a_used, a_beganAt, a_opKind, a_opFirst, a_opSecond, a_acceptedAt, a_rowCount, a_rowKeys, a_rowValues, a_reach) (f_slots, f_capacity, f_clock, b_states, b_values, b_reads, b_writes, b_touched, b_beforeStates, b_beforeValues, a_phaseOf, a_outcomeOf, a_used, a_opKind, a_opFirst, a_opSecond, a_beganAt, a_acceptedAt, a_rowCount, a_rowKeys, a_rowValues)) : ∀ {u : SX} {v : SY}, zz_R u v → P u v
  | (f_END, f_NOBODY, f_FAN, f_FILL, f_STRIDE, f_DEPTH, f_PAGES, f_ROWS, f_slots, f_capacity, f_entryCount, f_freeRecs, f_freePages, f_root, f_height, f_clock, a_recKey, a_recState, a_recValue, a_next, a_prev, a_readers, a_writers, a_gapReaders, a_owner, a_baseState, a_baseValue, a_recFree, a_pageFill, a_pageSlot, a_pageTop, a_pageFree, a_pathPage, a_pathSlot, a_phaseOf, a_outcomeOf, a_used, a_beganAt, a_opKind, a_opFirst, a_opSecond, a_acceptedAt, a_rowCount, a_rowKeys, a_rowValues, a_reach), (g_slots, g_capacity, g_clock, b_states, b_values, b_reads, b_writes, b_touched, b_beforeStates, b_beforeValues, b_phases, b_outcomes, b_used, b_kinds, b_firsts, b_seconds, b_begun, b_accepted, b_rowCounts, b_rowKeys, b_rowValues), ⟨⟨e1, e2, e3, e4, e5, e6, e7, e8, e9, e10, e11, e12, e13, e14⟩, s, c, L, ky, h1, h2, h3, h4, h5, h6, h7, h8, h9⟩ => by
    subst e1 e2 e3 e4 e5 e6 e7 e8 e9 e10 e11 e12 e13 e14
    exact h _ _ _ _ _ _ _ _ _ _ _ _ _ _ _ _ _ _ _ _ _ _ _ _ _ _ _ _ _ _ _ _ _ _ _ _ _ _ _ _ _ _ _ _ _ _ _ _ _ _ _ _ _ s c L ky h1 h2 h3 h4 h5 h6 h7 h8 h9
section
variable {f_END f_NOBODY f_FAN f_FILL f_STRIDE f_DEPTH f_PAGES f_ROWS f_slots f_capacity f_entryCount f_freeRecs f_freePages f_root f_height : Int32} {f_clock : Int64} {a_recKey a_recState a_recValue a_next a_prev a_readers a_writers a_gapReaders a_owner a_baseState a_baseValue a_recFree a_pageFill a_pageSlot a_pageTop a_pageFree a_pathPage a_pathSlot a_phaseOf a_outcomeOf a_used : Nat → Int32} {a_beganAt : Nat → Int64} {a_opKind a_opFirst a_opSecond : Nat → Int32} {a_acceptedAt : Nat → Int64} {a_rowCount a_rowKeys a_rowValues a_reach : Nat → Int32} {b_states b_values b_reads b_writes b_touched b_beforeStates b_beforeValues : Nat → Int32}
theorem zz_in {s c : Nat} {L : List Nat} {ky : Nat → Nat} (h1 : f_slots = nI s) (h2 : 2 ≤ s) (h3 : s ≤ 5) (h4 : f_capacity = nI c) (h5 : c ≤ 48) (h6 : dd_T s a_phaseOf a_opKind a_opFirst a_opSecond a_used a_rowCount) (h7 : rg_S L ky a_recKey a_next a_prev a_recFree f_freeRecs f_entryCount) (h8 : rg_T a_pageFill a_pageSlot a_pageTop a_pageFree f_freePages f_root f_height L ky) (h9 : dd_D L ky a_phaseOf a_recState a_recValue a_readers a_writers a_gapReaders a_owner a_baseState a_baseValue b_states b_values b_reads b_writes b_touched b_beforeStates b_beforeValues) : zz_R (f_END, f_NOBODY, f_FAN, f_FILL, f_STRIDE, f_DEPTH, f_PAGES, f_ROWS, f_slots, f_capacity, f_entryCount, f_freeRecs, f_freePages, f_root, f_height, f_clock, a_recKey, a_recState, a_recValue, a_next, a_prev, a_readers, a_writers, a_gapReaders, a_owner, a_baseState, a_baseValue, a_recFree, a_pageFill, a_pageSlot, a_pageTop, a_pageFree, a_pathPage, a_pathSlot, a_phaseOf, a_outcomeOf, a_used, a_beganAt, a_opKind, a_opFirst, a_opSecond, a_acceptedAt, a_rowCount, a_rowKeys, a_rowValues, a_reach) (f_slots, f_capacity, f_clock, b_states, b_values, b_reads, b_writes, b_touched, b_beforeStates, b_beforeValues, a_phaseOf, a_outcomeOf, a_used, a_opKind, a_opFirst, a_opSecond, a_beganAt, a_acceptedAt, a_rowCount, a_rowKeys, a_rowValues) :=
  ⟨⟨rfl, rfl, rfl, rfl, rfl, rfl, rfl, rfl, rfl, rfl, rfl, rfl, rfl, rfl⟩, s, c, L, ky, h1, h2, h3, h4, h5, h6, h7, h8, h9⟩
end
def i_Rel (k : Nat) (u : SX) (v : SY) : Prop := zz_R u v
theorem i_up {k : Nat} {u : SX} {v : SY} (h : i_Rel k u v) : i_Rel (k + 4) u v := h
end
section
/-! the ring -/
theorem rg_split {k : Nat} {ky : Nat → Nat} : ∀ {R : List Nat}, (∃ y ∈ R, k ≤ ky y) → ∃ A r B, R = A ++ r :: B ∧ (∀ y ∈ A, ky y < k) ∧ k ≤ ky r
  | [], h => by obtain ⟨y, hy, _⟩ := h; simp at hy
  | z :: c, h => by
    by_cases hz : k ≤ ky z
    · exact ⟨[], z, c, rfl, by simp, hz⟩
    · have h' : ∃ y ∈ c, k ≤ ky y := by
        obtain ⟨y, hy, hk⟩ := h
        rcases List.mem_cons.mp hy with rfl | hy
        · exact absurd hk hz
        · exact ⟨y, hy, hk⟩
      obtain ⟨S, x, R, e, h1, h2⟩ := rg_split h'
      refine ⟨z :: S, x, R, by rw [e]; rfl, ?_, h2⟩
      intro y hy
      rcases List.mem_cons.mp hy with rfl | hy
      · omega
      · exact h1 y hy
section
variable {L : List Nat} {ky : Nat → Nat} {rk nx pv rf : Nat → Int32} {fr ec : Int32}
theorem rg_lt (h : rg_S L ky rk nx pv rf fr ec) {r : Nat} (hr : r ∈ L) : r < 48 ∧ ky r < 1000 := h.1 r hr
theorem rg_le (h : rg_S L ky rk nx pv rf fr ec) {r : Nat} (hr : r ∈ L ++ [48]) : r < 49 ∧ ky r ≤ 1000 := by
  rcases List.mem_append.mp hr with hr | hr
  · have := h.1 r hr; omega
  · rw [List.mem_singleton] at hr
    subst hr
    have := h.2.1
    omega
theorem rg_L (h : rg_S L ky rk nx pv rf fr ec) {r : Nat} (hr : r ∈ L ++ [48]) (hk : ky r < 1000) : r ∈ L := by
  rcases List.mem_append.mp hr with hr | hr
  · exact hr
  · rw [List.mem_singleton] at hr
    subst hr
    have := h.2.1
    omega
theorem rg_k (h : rg_S L ky rk nx pv rf fr ec) {r : Nat} (hr : r ∈ L ++ [48]) : rk r = nI (ky r) := h.2.2.1 r hr
theorem rg_len (h : rg_S L ky rk nx pv rf fr ec) : L.length ≤ 48 ∧ ∃ Fr, tr_FS rf Fr ∧ fr = nI Fr.length ∧ L.length + Fr.length = 48 := by
  obtain ⟨Fr, h1, h2, h3⟩ := h.2.2.2.2.2.1
  have := h3.length_eq
  rw [List.length_append, List.length_range] at this
  exact ⟨by omega, Fr, h1, h2, this⟩
theorem rg_find (h : rg_S L ky rk nx pv rf fr ec) {k : Nat} (hk : k ≤ 1000) : ∃ A r B, L ++ [48] = A ++ r :: B ∧ (∀ y ∈ A, ky y < k) ∧ k ≤ ky r :=
  rg_split ⟨48, by simp, by rw [h.2.1]; exact hk⟩
theorem rg_ord (h : rg_S L ky rk nx pv rf fr ec) {A B : List Nat} {r : Nat} (e : L ++ [48] = A ++ r :: B) : (∀ a ∈ A, ky a < ky r) ∧ (∀ b ∈ B, ky r < ky b) ∧ (∀ a ∈ A, ∀ b ∈ B, ky a < ky b) := by
  have h1 := h.2.2.2.1
  rw [e] at h1
  obtain ⟨h2, h3, h4⟩ := List.pairwise_append.mp h1
  exact ⟨fun a ha => h4 a ha r (by simp), (List.pairwise_cons.mp h3).1, fun a ha b hb => h4 a ha b (by simp [hb])⟩
theorem rg_toF (h : rg_S L ky rk nx pv rf fr ec) {A B : List Nat} {r k : Nat} (e : L ++ [48] = A ++ r :: B) (hA : ∀ y ∈ A, ky y < k) (hr : k ≤ ky r) : rg_F L ky k r := by
  refine ⟨by rw [e]; simp, hr, fun p hp => ?_⟩
  rw [e] at hp
  have ho := rg_ord h e
  simp only [List.mem_append, List.mem_cons] at hp
  rcases hp with hp | hp | hp
  · exact Or.inl (hA p hp)
  · rw [hp]; exact Or.inr (Nat.le_refl _)
  · have := ho.2.1 p hp; exact Or.inr (by omega)
theorem rg_inj (h : rg_S L ky rk nx pv rf fr ec) {p q : Nat} (hp : p ∈ L ++ [48]) (hq : q ∈ L ++ [48]) (e : ky p = ky q) : p = q := by
  obtain ⟨A, B, e1⟩ := List.append_of_mem hp
  have ho := rg_ord h e1
  rw [e1] at hq
  simp only [List.mem_append, List.mem_cons] at hq
  rcases hq with hq | hq | hq
  · have := ho.1 q hq; omega
  · exact hq.symm
  · have := ho.2.1 q hq; omega
theorem rg_Fu (h : rg_S L ky rk nx pv rf fr ec) {p q k : Nat} (hp : rg_F L ky k p) (hq : rg_F L ky k q) : p = q := by
  refine rg_inj h hp.1 hq.1 ?_
  have h1 := hp.2.2 q hq.1
  have h2 := hq.2.2 p hp.1
  have h3 := hp.2.1
  have h4 := hq.2.1
  omega
theorem rg_nd (h : rg_S L ky rk nx pv rf fr ec) : (L ++ [48]).Nodup := by
  refine List.Pairwise.imp ?_ h.2.2.2.1
  intro a b hab e
  subst e
  omega
theorem rg_Lk_app {nx pv : Nat → Int32} : ∀ {A B : List Nat} {r : Nat}, rg_Lk nx pv (A ++ r :: B) ↔ rg_Lk nx pv (A ++ [r]) ∧ rg_Lk nx pv (r :: B)
  | [], B, r => ⟨fun h => ⟨⟨(fun q l' e => nomatch e), trivial⟩, h⟩, fun h => h.2⟩
  | a :: A, B, r => by
    have ih := rg_Lk_app (nx := nx) (pv := pv) (A := A) (B := B) (r := r)
    constructor
    · intro h
      have h2 := ih.mp h.2
      refine ⟨⟨?_, h2.1⟩, h2.2⟩
      intro q l' e
      cases A with
      | nil => cases e; exact h.1 _ _ rfl
      | cons a' A => cases e; exact h.1 _ _ rfl
    · intro ⟨h1, h2⟩
      refine ⟨?_, ih.mpr ⟨h1.2, h2⟩⟩
      intro q l' e
      cases A with
      | nil => cases e; exact h1.1 _ _ rfl
      | cons a' A => cases e; exact h1.1 _ _ rfl
theorem rg_Lk_congr {nx pv nx' pv' : Nat → Int32} : ∀ {l : List Nat}, (∀ r ∈ l.dropLast, nx' r = nx r) → (∀ q ∈ l.tail, pv' q = pv q) → rg_Lk nx pv l → rg_Lk nx' pv' l
  | [], _, _, _ => trivial
  | [r], _, _, _ => ⟨(fun q l' e => nomatch e), trivial⟩
  | r :: q :: l, h1, h2, h => by
    refine ⟨fun q' l' e => ?_, rg_Lk_congr (fun x hx => h1 x ?_) (fun x hx => h2 x ?_) h.2⟩
    · cases e
      have := h.1 q l rfl
      rw [h1 r (by simp), h2 q (by simp)]
      exact this
    · rw [List.dropLast_cons₂]; exact List.mem_cons_of_mem _ hx
    · rw [List.tail_cons] at hx ⊢; exact List.mem_cons_of_mem _ hx
theorem rg_next (h : rg_S L ky rk nx pv rf fr ec) {A B : List Nat} {r q : Nat} (e : L ++ [48] = A ++ r :: q :: B) : nx r = nI q ∧ pv q = nI r := by
  have h1 := h.2.2.2.2.1
  rw [e] at h1
  have h2 := (rg_Lk_app (A := 48 :: A) (r := r) (B := q :: B)).mp h1
  exact h2.2.1 q B rfl
theorem rg_head (h : rg_S L ky rk nx pv rf fr ec) {B : List Nat} {q : Nat} (e : L ++ [48] = q :: B) : nx 48 = nI q ∧ pv q = nI 48 := by
  have h1 := h.2.2.2.2.1
  rw [e] at h1
  exact h1.1 q B rfl
end
theorem rg_So {L : List Nat} {ky : Nat → Nat} {rk nx pv rf : Nat → Int32} {fr ec : Int32} (h : rg_S L ky rk nx pv rf fr ec) : tr_So (rg_b L ky) := by
  unfold rg_b tr_So
  rw [List.pairwise_map]
  exact h.2.2.2.1
section
variable {f_END f_NOBODY f_FAN f_FILL f_STRIDE f_DEPTH f_PAGES f_ROWS f_slots f_capacity f_entryCount f_freeRecs f_freePages f_root f_height : Int32} {f_clock : Int64} {a_recKey a_recState a_recValue a_next a_prev a_readers a_writers a_gapReaders a_owner a_baseState a_baseValue a_recFree a_pageFill a_pageSlot a_pageTop a_pageFree a_pathPage a_pathSlot a_phaseOf a_outcomeOf a_used : Nat → Int32} {a_beganAt : Nat → Int64} {a_opKind a_opFirst a_opSecond : Nat → Int32} {a_acceptedAt : Nat → Int64} {a_rowCount a_rowKeys a_rowValues a_reach : Nat → Int32}
theorem xw_locP {post : Int32 → SX → Prop} {L : List Nat} {ky : Nat → Nat} {k r : Nat} {A B : List Nat} {C : Nat → List (Nat × Nat)} {gs : List (List Nat)} {F : List Nat} (hS : rg_S L ky a_recKey a_next a_prev a_recFree f_freeRecs f_entryCount) (hT : tr_T a_pageFill a_pageSlot a_pageTop a_pageFree f_freePages f_root f_height (rg_b L ky) C gs F) (hk : k ≤ 1000) (e : L ++ [48] = A ++ r :: B) (hA : ∀ y ∈ A, ky y < k) (hr : k ≤ ky r) (h : ∀ pp sl, tr_Pt C pp sl (A.map (fun r => (r, ky r))) gs → post (nI r) (f_END, f_NOBODY, f_FAN, f_FILL, f_STRIDE, f_DEPTH, f_PAGES, f_ROWS, f_slots, f_capacity, f_entryCount, f_freeRecs, f_freePages, f_root, f_height, f_clock, a_recKey, a_recState, a_recValue, a_next, a_prev, a_readers, a_writers, a_gapReaders, a_owner, a_baseState, a_baseValue, a_recFree, a_pageFill, a_pageSlot, a_pageTop, a_pageFree, pp, sl, a_phaseOf, a_outcomeOf, a_used, a_beganAt, a_opKind, a_opFirst, a_opSecond, a_acceptedAt, a_rowCount, a_rowKeys, a_rowValues, a_reach)) : wpX_locate post (f_END, f_NOBODY, f_FAN, f_FILL, f_STRIDE, f_DEPTH, f_PAGES, f_ROWS, f_slots, f_capacity, f_entryCount, f_freeRecs, f_freePages, f_root, f_height, f_clock, a_recKey, a_recState, a_recValue, a_next, a_prev, a_readers, a_writers, a_gapReaders, a_owner, a_baseState, a_baseValue, a_recFree, a_pageFill, a_pageSlot, a_pageTop, a_pageFree, a_pathPage, a_pathSlot, a_phaseOf, a_outcomeOf, a_used, a_beganAt, a_opKind, a_opFirst, a_opSecond, a_acceptedAt, a_rowCount, a_rowKeys, a_rowValues, a_reach) (nI k) := by
  have hl := (rg_len hS).1
  have eb : rg_b L ky = A.map (fun r => (r, ky r)) ++ (r, ky r) :: B.map (fun r => (r, ky r)) := by
    unfold rg_b; rw [e]; simp
  refine xw_locT hT hk (rg_So hS) (by unfold rg_b; simp; omega) ⟨(r, ky r), by rw [eb]; simp, hr⟩ fun pp sl P x Q g1 g2 g3 g4 => ?_
  obtain ⟨e1, e2, e3⟩ := tr_uniq (eb.symm.trans g1) (by
    intro y hy
    obtain ⟨a, ha, rfl⟩ := List.mem_map.mp hy
    exact hA a ha) hr g2 g3
  rw [← e1] at g4
  rw [← e2]
  exact h pp sl g4
theorem xw_locate {post : Int32 → SX → Prop} {L : List Nat} {ky : Nat → Nat} {k r : Nat} {A B : List Nat} (hS : rg_S L ky a_recKey a_next a_prev a_recFree f_freeRecs f_entryCount) (hT : rg_T a_pageFill a_pageSlot a_pageTop a_pageFree f_freePages f_root f_height L ky) (hk : k ≤ 1000) (e : L ++ [48] = A ++ r :: B) (hA : ∀ y ∈ A, ky y < k) (hr : k ≤ ky r) (h : ∀ pp sl, post (nI r) (f_END, f_NOBODY, f_FAN, f_FILL, f_STRIDE, f_DEPTH, f_PAGES, f_ROWS, f_slots, f_capacity, f_entryCount, f_freeRecs, f_freePages, f_root, f_height, f_clock, a_recKey, a_recState, a_recValue, a_next, a_prev, a_readers, a_writers, a_gapReaders, a_owner, a_baseState, a_baseValue, a_recFree, a_pageFill, a_pageSlot, a_pageTop, a_pageFree, pp, sl, a_phaseOf, a_outcomeOf, a_used, a_beganAt, a_opKind, a_opFirst, a_opSecond, a_acceptedAt, a_rowCount, a_rowKeys, a_rowValues, a_reach)) : wpX_locate post (f_END, f_NOBODY, f_FAN, f_FILL, f_STRIDE, f_DEPTH, f_PAGES, f_ROWS, f_slots, f_capacity, f_entryCount, f_freeRecs, f_freePages, f_root, f_height, f_clock, a_recKey, a_recState, a_recValue, a_next, a_prev, a_readers, a_writers, a_gapReaders, a_owner, a_baseState, a_baseValue, a_recFree, a_pageFill, a_pageSlot, a_pageTop, a_pageFree, a_pathPage, a_pathSlot, a_phaseOf, a_outcomeOf, a_used, a_beganAt, a_opKind, a_opFirst, a_opSecond, a_acceptedAt, a_rowCount, a_rowKeys, a_rowValues, a_reach) (nI k) := by
  obtain ⟨C, gs, F, hT⟩ := hT
  exact xw_locP hS hT hk e hA hr (fun pp sl _ => h pp sl)
end
end
section
/-! bits of masks -/
theorem bk_b1 : ∀ j, j < 32 → bt 1 j = decide (j = 0) := by decide +kernel
theorem bk_one {t : Nat} (ht : t < 32) (i : Nat) : bt ((1 : Int32) <<< (nI t &&& 31)) i = decide (i = t) := by
  by_cases hi : i < 32
  · rw [b_shl t ht 1 hi, bk_b1 _ (by omega)]
    by_cases e : i = t
    · subst e; simp
    · by_cases e2 : t ≤ i
      · have : ¬ (i - t = 0) := by omega
        simp [e, this]
      · simp [e2, e]
  · rw [b_big (by omega)]
    have : ¬ (i = t) := by omega
    simp [this]
theorem bk_keep {t : Nat} (ht : t < 32) (x : Int32) (i : Nat) : bt (x &&& (((1 : Int32) <<< (nI t &&& 31)) ^^^ (-1))) i = (bt x i && !decide (i = t)) := by
  by_cases hi : i < 32
  · rw [b_and, b_xor, bk_one ht, b_m1 i hi]; simp
  · rw [b_big (by omega), b_big (by omega)]; simp
theorem bk_or {t : Nat} (ht : t < 32) (x : Int32) (i : Nat) : bt (x ||| ((1 : Int32) <<< (nI t &&& 31))) i = (bt x i || decide (i = t)) := by
  rw [b_or, bk_one ht]
theorem bk_z (x : Int32) : x = 0 ↔ ∀ i, bt x i = false := by
  constructor
  · intro e i; rw [e]; exact b_0 i
  · intro h; exact b_ext (fun i _ => by rw [h i, b_0])
theorem bk_and0 {t : Nat} (ht : t < 32) (x : Int32) : (x &&& ((1 : Int32) <<< (nI t &&& 31))) = 0 ↔ bt x t = false := by
  rw [bk_z]
  constructor
  · intro h
    have := h t
    rw [b_and, bk_one ht] at this
    simpa using this
  · intro h i
    rw [b_and, bk_one ht]
    by_cases e : i = t
    · subst e; rw [h]; rfl
    · simp [e]
theorem bk_shr0 {t : Nat} (ht : t < 32) (x : Int32) : ((x >>> (nI t &&& 31)) &&& 1) = 0 ↔ bt x t = false := by
  rw [bk_z]
  constructor
  · intro h
    have := h 0
    rw [b_and, b_sshr t ht x (by omega), bk_b1 0 (by omega), if_pos (by omega)] at this
    simpa using this
  · intro h i
    by_cases hi : i < 32
    · rw [b_and, bk_b1 i hi]
      by_cases e : i = 0
      · subst e
        rw [b_sshr t ht x (by omega), if_pos (by omega), Nat.add_zero, h]; rfl
      · simp [e]
    · exact b_big (by omega)
/-! the stretch of a range request, as the component walks it -/
def sx_stop (rk st kd se : Nat → Int32) (t r : Nat) : Prop := r = 48 ∨ (kd t = 4 ∧ st r = 1) ∨ (kd t ≠ 4 ∧ kd t = 5 ∧ ¬ rk r < se t) ∨ (kd t ≠ 4 ∧ kd t ≠ 5)
theorem sx_split {rk st kd se : Nat → Int32} {t : Nat} : ∀ {R : List Nat}, 48 ∈ R → ∃ S e B, R = S ++ e :: B ∧ (∀ q ∈ S, ¬ sx_stop rk st kd se t q) ∧ sx_stop rk st kd se t e
  | [], h => by simp at h
  | z :: R, h => by
    by_cases hz : sx_stop rk st kd se t z
    · exact ⟨[], z, R, rfl, by simp, hz⟩
    · have h' : 48 ∈ R := by
        rcases List.mem_cons.mp h with e | h
        · exact absurd (Or.inl e.symm) hz
        · exact h
      obtain ⟨S, e, B, e1, h1, h2⟩ := sx_split h'
      refine ⟨z :: S, e, B, by rw [e1]; rfl, ?_, h2⟩
      intro y hy
      rcases List.mem_cons.mp hy with rfl | hy
      · exact hz
      · exact h1 y hy
section
variable {f_END f_NOBODY f_FAN f_FILL f_STRIDE f_DEPTH f_PAGES f_ROWS f_slots f_capacity f_entryCount f_freeRecs f_freePages f_root f_height : Int32} {f_clock : Int64} {a_recKey a_recState a_recValue a_next a_prev a_readers a_writers a_gapReaders a_owner a_baseState a_baseValue a_recFree a_pageFill a_pageSlot a_pageTop a_pageFree a_pathPage a_pathSlot a_phaseOf a_outcomeOf a_used : Nat → Int32} {a_beganAt : Nat → Int64} {a_opKind a_opFirst a_opSecond : Nat → Int32} {a_acceptedAt : Nat → Int64} {a_rowCount a_rowKeys a_rowValues a_reach : Nat → Int32}
theorem xw_ends {post : Int32 → Prop} {t r : Nat} (ht : t < 5) (hr : r < 49) (h1 : sx_stop a_recKey a_recState a_opKind a_opSecond t r → post 1) (h0 : ¬ sx_stop a_recKey a_recState a_opKind a_opSecond t r → post 0) : wpX_endsStretch post (f_END, f_NOBODY, f_FAN, f_FILL, f_STRIDE, f_DEPTH, f_PAGES, f_ROWS, f_slots, f_capacity, f_entryCount, f_freeRecs, f_freePages, f_root, f_height, f_clock, a_recKey, a_recState, a_recValue, a_next, a_prev, a_readers, a_writers, a_gapReaders, a_owner, a_baseState, a_baseValue, a_recFree, a_pageFill, a_pageSlot, a_pageTop, a_pageFree, a_pathPage, a_pathSlot, a_phaseOf, a_outcomeOf, a_used, a_beganAt, a_opKind, a_opFirst, a_opSecond, a_acceptedAt, a_rowCount, a_rowKeys, a_rowValues, a_reach) (nI t) (nI r) := by
  have vt : vp_in (nI t) 5 := vp_in_nI ht (by omega)
  have vr : vp_in (nI r) 49 := vp_in_nI hr (by omega)
  have ct : (nI t).toNatClampNeg = t := nI_clamp (by omega)
  have cr : (nI r).toNatClampNeg = r := nI_clamp (by omega)
  refine pk_eq r 48 (fun e => h1 (Or.inl e)) (fun e => ⟨vt, ?_⟩)
  rw [ct, cr]
  refine br_c (fun k4 => ⟨vr, br_c (fun s1 => h1 (Or.inr (Or.inl ⟨k4, s1⟩))) (fun s1 => h0 ?_)⟩) (fun k4 => ⟨vt, br_c (fun k5 => ⟨vr, vt, br_c (fun c => h0 ?_) (fun c => h1 (Or.inr (Or.inr (Or.inl ⟨k4, k5, c⟩))))⟩) (fun k5 => h1 (Or.inr (Or.inr (Or.inr ⟨k4, k5⟩))))⟩)
  · rintro (z | z | z | z)
    · exact e z
    · exact s1 z.2
    · exact z.1 k4
    · exact z.1 k4
  · rintro (z | z | z | z)
    · exact e z
    · exact k4 z.1
    · exact z.2.2 c
    · exact z.2 k5
theorem xw_wis_loop {post : Int32 → Prop} {t : Nat} {L : List Nat} {ky : Nat → Nat} {e : Nat} {B : List Nat} (hS : rg_S L ky a_recKey a_next a_prev a_recFree f_freeRecs f_entryCount) (ht : t < 5) (he : sx_stop a_recKey a_recState a_opKind a_opSecond t e) : ∀ (S A : List Nat) (i n rcd : Nat) (l : List Nat) (m : Int32), L ++ [48] = A ++ (S ++ e :: B) → S ++ e :: B = rcd :: l → (∀ q ∈ S, ¬ sx_stop a_recKey a_recState a_opKind a_opSecond t q) → i + S.length ≤ 48 → S.length + 1 < n → (∀ m', (∀ o, bt m' o = (bt m o || (S ++ [e]).any (fun q => bt (a_writers q) o))) → post m') → wX_writersInStretch_11 post (nI t) f_END f_NOBODY f_FAN f_FILL f_STRIDE f_DEPTH f_PAGES f_ROWS f_slots f_capacity f_entryCount f_freeRecs f_freePages f_root f_height f_clock a_recKey a_recState a_recValue a_next a_prev a_readers a_writers a_gapReaders a_owner a_baseState a_baseValue a_recFree a_pageFill a_pageSlot a_pageTop a_pageFree a_pathPage a_pathSlot a_phaseOf a_outcomeOf a_used a_beganAt a_opKind a_opFirst a_opSecond a_acceptedAt a_rowCount a_rowKeys a_rowValues a_reach n m (nI rcd) 1 (nI i)
  | [], A, i, n + 1, rcd, l, m, h1, h2, h3, h4, h5, h => by
    obtain ⟨rfl, _⟩ := List.cons.inj h2
    have hr : e < 49 := (rg_le hS (by rw [h1]; simp)).1
    have vr : vp_in (nI e) 49 := vp_in_nI hr (by omega)
    rw [List.length_nil] at h4 h5
    refine br_f (nI_nlt (a := 48) (by omega) (by omega)) (br_f (by decide) ⟨vr, ?_⟩)
    rw [nI_clamp (n := e) (by omega)]
    refine nm_e (xw_ends ht hr (fun _ => br_f (by decide) ?_) (fun z => absurd he z))
    refine ⟨vr, nm_e (nm_e ?_)⟩
    have hp : post (m ||| a_writers e) := h _ (fun o => by rw [b_or]; simp)
    obtain ⟨k, rfl⟩ : ∃ k, n = k + 1 := ⟨n - 1, by omega⟩
    exact br_c (fun _ => hp) (fun _ => br_t rfl hp)
  | q :: S, A, i, n + 1, rcd, l, m, h1, h2, h3, h4, h5, h => by
    obtain ⟨rfl, hl⟩ := List.cons.inj h2
    have hr : q < 49 := (rg_le hS (by rw [h1]; simp)).1
    have vr : vp_in (nI q) 49 := vp_in_nI hr (by omega)
    rw [List.length_cons] at h4 h5
    refine br_f (nI_nlt (a := 48) (by omega) (by omega)) (br_f (by decide) ⟨vr, ?_⟩)
    rw [nI_clamp (n := q) (by omega)]
    refine nm_e (xw_ends ht hr (fun z => absurd z (h3 q (by simp))) (fun _ => br_t rfl ?_))
    obtain ⟨q', l', e'⟩ : ∃ q' l', S ++ e :: B = q' :: l' := by
      cases S with
      | nil => exact ⟨_, _, rfl⟩
      | cons a S => exact ⟨_, _, rfl⟩
    have hnx : a_next q = nI q' := (rg_next hS (A := A) (r := q) (q := q') (B := l') (by rw [h1, List.cons_append, e'])).1
    refine ⟨vr, nm_r (e' := nI q') (by rw [nI_clamp (by omega)]; exact hnx) (nm_r (nI_1 i) ?_)⟩
    refine xw_wis_loop hS ht he S (A ++ [q]) (i + 1) n q' l' _ (by rw [h1]; simp) e' (fun x hx => h3 x (by simp [hx])) (by omega) (by omega) ?_
    intro m' hm'
    refine h m' (fun o => ?_)
    rw [hm' o, b_or]
    simp [Bool.or_assoc]
theorem xw_wis {post : Int32 → Prop} {t : Nat} {L : List Nat} {ky : Nat → Nat} {e r : Nat} {A S B l : List Nat} (hS : rg_S L ky a_recKey a_next a_prev a_recFree f_freeRecs f_entryCount) (ht : t < 5) (he : sx_stop a_recKey a_recState a_opKind a_opSecond t e) (h1 : L ++ [48] = A ++ (S ++ e :: B)) (h2 : S ++ e :: B = r :: l) (h3 : ∀ q ∈ S, ¬ sx_stop a_recKey a_recState a_opKind a_opSecond t q) (h : ∀ m, (∀ o, bt m o = (S ++ [e]).any (fun q => bt (a_writers q) o)) → post m) : wpX_writersInStretch post (f_END, f_NOBODY, f_FAN, f_FILL, f_STRIDE, f_DEPTH, f_PAGES, f_ROWS, f_slots, f_capacity, f_entryCount, f_freeRecs, f_freePages, f_root, f_height, f_clock, a_recKey, a_recState, a_recValue, a_next, a_prev, a_readers, a_writers, a_gapReaders, a_owner, a_baseState, a_baseValue, a_recFree, a_pageFill, a_pageSlot, a_pageTop, a_pageFree, a_pathPage, a_pathSlot, a_phaseOf, a_outcomeOf, a_used, a_beganAt, a_opKind, a_opFirst, a_opSecond, a_acceptedAt, a_rowCount, a_rowKeys, a_rowValues, a_reach) (nI t) (nI r) := by
  have hl := (rg_len hS).1
  have hl2 := congrArg List.length h1
  simp at hl2
  refine ⟨S.length + 2, xw_wis_loop hS ht he S A 0 _ r l 0 h1 h2 h3 (by omega) (by omega) ?_⟩
  intro m' hm'
  refine h m' (fun o => ?_)
  rw [hm' o, b_0, Bool.false_or]
theorem xw_cs_loop {post : Int32 → SX → Prop} {t : Nat} {x3 : Int32} {L : List Nat} {ky : Nat → Nat} {e : Nat} {B : List Nat} (hS : rg_S L ky a_recKey a_next a_prev a_recFree f_freeRecs f_entryCount) (ht : t < 5) (he : sx_stop a_recKey a_recState a_opKind a_opSecond t e) : ∀ (S A : List Nat) (i n rcd : Nat) (l : List Nat) (x5 : Int32) (a_gapReaders a_readers : Nat → Int32), L ++ [48] = A ++ (S ++ e :: B) → S ++ e :: B = rcd :: l → (∀ q ∈ S, ¬ sx_stop a_recKey a_recState a_opKind a_opSecond t q) → i + S.length ≤ 48 → S.length + 1 < n → (∀ gr rd, (∀ j, gr j = if j ∈ S ++ [e] then a_gapReaders j ||| x3 else a_gapReaders j) → (∀ j, rd j = if j ∈ S ++ [e] ∧ j ≠ 48 then a_readers j ||| x3 else a_readers j) → post (nI e) (f_END, f_NOBODY, f_FAN, f_FILL, f_STRIDE, f_DEPTH, f_PAGES, f_ROWS, f_slots, f_capacity, f_entryCount, f_freeRecs, f_freePages, f_root, f_height, f_clock, a_recKey, a_recState, a_recValue, a_next, a_prev, rd, a_writers, gr, a_owner, a_baseState, a_baseValue, a_recFree, a_pageFill, a_pageSlot, a_pageTop, a_pageFree, a_pathPage, a_pathSlot, a_phaseOf, a_outcomeOf, a_used, a_beganAt, a_opKind, a_opFirst, a_opSecond, a_acceptedAt, a_rowCount, a_rowKeys, a_rowValues, a_reach)) → wX_claimStretch_16 post (nI t) x3 f_END f_NOBODY f_FAN f_FILL f_STRIDE f_DEPTH f_PAGES f_ROWS f_slots f_capacity f_entryCount f_freeRecs f_freePages f_root f_height f_clock n (nI rcd) x5 1 (nI i) a_recKey a_recState a_recValue a_next a_prev a_readers a_writers a_gapReaders a_owner a_baseState a_baseValue a_recFree a_pageFill a_pageSlot a_pageTop a_pageFree a_pathPage a_pathSlot a_phaseOf a_outcomeOf a_used a_beganAt a_opKind a_opFirst a_opSecond a_acceptedAt a_rowCount a_rowKeys a_rowValues a_reach
  | [], A, i, n + 1, rcd, l, x5, a_gapReaders, a_readers, h1, h2, h3, h4, h5, h => by
    obtain ⟨rfl, _⟩ := List.cons.inj h2
    have hr : e < 49 := (rg_le hS (by rw [h1]; simp)).1
    have vr : vp_in (nI e) 49 := vp_in_nI hr (by omega)
    have cr : (nI e).toNatClampNeg = e := nI_clamp (by omega)
    rw [List.length_nil] at h4 h5
    have g1 : ∀ j, upd a_gapReaders e (a_gapReaders e ||| x3) j = if j ∈ [] ++ [e] then a_gapReaders j ||| x3 else a_gapReaders j := by
      intro j
      by_cases ej : j = e
      · subst ej; rw [pk_us]; simp
      · rw [pk_un ej]; simp [ej]
    have tail : ∀ rd, (∀ j, rd j = if j ∈ [] ++ [e] ∧ j ≠ 48 then a_readers j ||| x3 else a_readers j) → wX_claimStretch_57 post (wX_claimStretch_16 post (nI t) x3 f_END f_NOBODY f_FAN f_FILL f_STRIDE f_DEPTH f_PAGES f_ROWS f_slots f_capacity f_entryCount f_freeRecs f_freePages f_root f_height f_clock n) (nI t) x3 (nI e) (nI i) f_END f_NOBODY f_FAN f_FILL f_STRIDE f_DEPTH f_PAGES f_ROWS f_slots f_capacity f_entryCount f_freeRecs f_freePages f_root f_height f_clock a_recKey a_recState a_recValue a_next a_prev rd a_writers (upd a_gapReaders e (a_gapReaders e ||| x3)) a_owner a_baseState a_baseValue a_recFree a_pageFill a_pageSlot a_pageTop a_pageFree a_pathPage a_pathSlot a_phaseOf a_outcomeOf a_used a_beganAt a_opKind a_opFirst a_opSecond a_acceptedAt a_rowCount a_rowKeys a_rowValues a_reach := by
      intro rd hrd
      refine xw_ends ht hr (fun _ => br_f (by decide) ?_) (fun z => absurd he z)
      refine ⟨vr, nm_e (nm_e ?_)⟩
      have hp := h _ rd g1 hrd
      obtain ⟨k, rfl⟩ : ∃ k, n = k + 1 := ⟨n - 1, by omega⟩
      exact br_c (fun _ => hp) (fun _ => br_t rfl hp)
    refine br_f (nI_nlt (a := 48) (by omega) (by omega)) (br_f (by decide) ⟨vr, vr, ?_⟩)
    rw [cr]
    refine nm_e (pk_eq e 48 (fun e48 => tail _ ?_) (fun e48 => ⟨vr, vr, nm_e (tail _ ?_)⟩))
    · intro j
      rw [if_neg]
      rintro ⟨z1, z2⟩
      simp at z1
      omega
    · intro j
      by_cases ej : j = e
      · subst ej; rw [pk_us]; simp [e48]
      · rw [pk_un ej]; simp [ej]
  | q :: S, A, i, n + 1, rcd, l, x5, a_gapReaders, a_readers, h1, h2, h3, h4, h5, h => by
    obtain ⟨rfl, hl⟩ := List.cons.inj h2
    have hr : q < 49 := (rg_le hS (by rw [h1]; simp)).1
    have vr : vp_in (nI q) 49 := vp_in_nI hr (by omega)
    have cr : (nI q).toNatClampNeg = q := nI_clamp (by omega)
    rw [List.length_cons] at h4 h5
    have hns := h3 q (by simp)
    have e48 : q ≠ 48 := fun z => hns (Or.inl z)
    have hnd := rg_nd hS
    rw [h1] at hnd
    have hq : q ∉ S ++ [e] := by
      have := (List.nodup_append.mp hnd).2.1
      rw [List.cons_append, List.nodup_cons] at this
      intro hm
      apply this.1
      simp only [List.mem_append, List.mem_cons] at hm ⊢
      rcases hm with hm | hm | hm
      · exact Or.inl hm
      · exact Or.inr (Or.inl hm)
      · simp at hm
    refine br_f (nI_nlt (a := 48) (by omega) (by omega)) (br_f (by decide) ⟨vr, vr, ?_⟩)
    rw [cr]
    refine nm_e (pk_eq q 48 (fun z => absurd z e48) (fun _ => ⟨vr, vr, nm_e ?_⟩))
    refine xw_ends ht hr (fun z => absurd z hns) (fun _ => br_t rfl ?_)
    obtain ⟨q', l', e'⟩ : ∃ q' l', S ++ e :: B = q' :: l' := by
      cases S with
      | nil => exact ⟨_, _, rfl⟩
      | cons a S => exact ⟨_, _, rfl⟩
    have hnx : a_next q = nI q' := (rg_next hS (A := A) (r := q) (q := q') (B := l') (by rw [h1, List.cons_append, e'])).1
    refine ⟨vr, nm_r (e' := nI q') (by rw [cr]; exact hnx) (nm_r (nI_1 i) ?_)⟩
    refine xw_cs_loop hS ht he S (A ++ [q]) (i + 1) n q' l' _ _ _ (by rw [h1]; simp) e' (fun x hx => h3 x (by simp [hx])) (by omega) (by omega) ?_
    intro gr rd hgr hrd
    refine h gr rd (fun j => ?_) (fun j => ?_)
    · rw [hgr j]
      by_cases ej : j = q
      · subst ej; rw [if_neg hq, if_pos (by simp), pk_us]
      · rw [pk_un ej]; simp [ej]
    · rw [hrd j]
      by_cases ej : j = q
      · subst ej; rw [if_neg (fun z => hq z.1), if_pos ⟨by simp, e48⟩, pk_us]
      · rw [pk_un ej]; simp [ej]
theorem xw_cs {post : Int32 → SX → Prop} {t : Nat} {L : List Nat} {ky : Nat → Nat} {e r : Nat} {A S B l : List Nat} (hS : rg_S L ky a_recKey a_next a_prev a_recFree f_freeRecs f_entryCount) (ht : t < 5) (he : sx_stop a_recKey a_recState a_opKind a_opSecond t e) (h1 : L ++ [48] = A ++ (S ++ e :: B)) (h2 : S ++ e :: B = r :: l) (h3 : ∀ q ∈ S, ¬ sx_stop a_recKey a_recState a_opKind a_opSecond t q) (h : ∀ gr rd, (∀ j, gr j = if j ∈ S ++ [e] then a_gapReaders j ||| ((1 : Int32) <<< (nI t &&& 31)) else a_gapReaders j) → (∀ j, rd j = if j ∈ S ++ [e] ∧ j ≠ 48 then a_readers j ||| ((1 : Int32) <<< (nI t &&& 31)) else a_readers j) → post (nI e) (f_END, f_NOBODY, f_FAN, f_FILL, f_STRIDE, f_DEPTH, f_PAGES, f_ROWS, f_slots, f_capacity, f_entryCount, f_freeRecs, f_freePages, f_root, f_height, f_clock, a_recKey, a_recState, a_recValue, a_next, a_prev, rd, a_writers, gr, a_owner, a_baseState, a_baseValue, a_recFree, a_pageFill, a_pageSlot, a_pageTop, a_pageFree, a_pathPage, a_pathSlot, a_phaseOf, a_outcomeOf, a_used, a_beganAt, a_opKind, a_opFirst, a_opSecond, a_acceptedAt, a_rowCount, a_rowKeys, a_rowValues, a_reach)) : wpX_claimStretch post (f_END, f_NOBODY, f_FAN, f_FILL, f_STRIDE, f_DEPTH, f_PAGES, f_ROWS, f_slots, f_capacity, f_entryCount, f_freeRecs, f_freePages, f_root, f_height, f_clock, a_recKey, a_recState, a_recValue, a_next, a_prev, a_readers, a_writers, a_gapReaders, a_owner, a_baseState, a_baseValue, a_recFree, a_pageFill, a_pageSlot, a_pageTop, a_pageFree, a_pathPage, a_pathSlot, a_phaseOf, a_outcomeOf, a_used, a_beganAt, a_opKind, a_opFirst, a_opSecond, a_acceptedAt, a_rowCount, a_rowKeys, a_rowValues, a_reach) (nI t) (nI r) := by
  have hl := (rg_len hS).1
  have hl2 := congrArg List.length h1
  simp at hl2
  exact nm_e ⟨S.length + 2, xw_cs_loop hS ht he S A 0 _ r l _ _ _ h1 h2 h3 (by omega) (by omega) h⟩
end
end
section
/-! the request of a waiting transaction, by keys; the reference's side -/
def wf_one (st kd : Nat → Int32) (t k : Nat) : Prop := kd t = 1 ∨ ((kd t = 2 ∨ kd t = 3) ∧ st k ≠ 0)
def wf_wr (st kd : Nat → Int32) (t k : Nat) : Prop := kd t = 1 ∨ (kd t = 2 ∧ st k ≠ 0)
def wf_stop (st kd : Nat → Int32) (t y : Nat) : Prop := st y = 1 ∨ (st y = 2 ∧ kd t ≠ 4)
def wf_fr (kd se : Nat → Int32) (t k : Nat) : Nat := if kd t = 5 then (se t).toNatClampNeg else k
def wf_in (st kd se : Nat → Int32) (t k x : Nat) : Prop := (wf_one st kd t k ∧ x = k) ∨ (¬ wf_one st kd t k ∧ x < 1000 ∧ (∀ y, x ≤ y → y < k → st y = 0) ∧ (∀ y, wf_fr kd se t k ≤ y → y < x → ¬ wf_stop st kd t y))
def wf (ph st kd fi se rd wr : Nat → Int32) (t o : Nat) : Prop := ph t = 2 ∧ t ≠ o ∧ ph o ≠ 0 ∧ ∃ k x, fi t = nI k ∧ k < 1000 ∧ wf_in st kd se t k x ∧ (wr (o * 1000 + x) ≠ 0 ∨ (wf_wr st kd t k ∧ rd (o * 1000 + x) ≠ 0))
theorem wf_lo (st : Nat → Int32) : ∀ k : Nat, ∃ lo, lo ≤ k ∧ (∀ y, lo ≤ y → y < k → st y = 0) ∧ (lo = 0 ∨ st (lo - 1) ≠ 0)
  | 0 => ⟨0, Nat.le_refl _, fun y _ h => by omega, Or.inl rfl⟩
  | k + 1 => by
    by_cases h : st k = 0
    · obtain ⟨lo, h1, h2, h3⟩ := wf_lo st k
      refine ⟨lo, by omega, fun y hy hk => ?_, h3⟩
      by_cases e : y = k
      · rw [e]; exact h
      · exact h2 y hy (by omega)
    · exact ⟨k + 1, Nat.le_refl _, fun y h1 h2 => by omega, Or.inr h⟩
theorem wf_hi (P : Nat → Prop) : ∀ d x : Nat, x + d = 1000 → ∃ e, x ≤ e ∧ e ≤ 1000 ∧ (∀ y, x ≤ y → y < e → ¬ P y) ∧ (e = 1000 ∨ P e)
  | 0, x, h => ⟨x, Nat.le_refl _, by omega, fun y h1 h2 => by omega, Or.inl (by omega)⟩
  | d + 1, x, h => by
    by_cases hp : P x
    · exact ⟨x, Nat.le_refl _, by omega, fun y h1 h2 => by omega, Or.inr hp⟩
    · obtain ⟨e, h1, h2, h3, h4⟩ := wf_hi P d (x + 1) (by omega)
      refine ⟨e, by omega, h2, fun y hy he => ?_, h4⟩
      by_cases ey : y = x
      · rw [ey]; exact hp
      · exact h3 y (by omega) he
theorem yw_ix (t k : Nat) : nI t * 1000 + nI k = nI (t * 1000 + k) := by
  rw [show (1000 : Int32) = nI 1000 from rfl, pk_mul, nI_add]
section
variable {g_slots g_capacity : Int32} {g_clock : Int64} {b_states b_values b_reads b_writes b_touched b_beforeStates b_beforeValues b_phases b_outcomes b_used b_kinds b_firsts b_seconds : Nat → Int32} {b_begun b_accepted : Nat → Int64} {b_rowCounts b_rowKeys b_rowValues : Nat → Int32}
theorem yw_isSlot {post : Int32 → Prop} {s t : Nat} (hs : g_slots = nI s) (hs5 : s ≤ 5) (ht : t < s) (h : post 1) : wpY_isSlot post (g_slots, g_capacity, g_clock, b_states, b_values, b_reads, b_writes, b_touched, b_beforeStates, b_beforeValues, b_phases, b_outcomes, b_used, b_kinds, b_firsts, b_seconds, b_begun, b_accepted, b_rowCounts, b_rowKeys, b_rowValues) (nI t) := by
  subst hs
  exact br_f (nI_pos (by omega)) (br_f (nI_ge ht (by omega)) h)
theorem yw_prev_loop {post : Int32 → Prop} {lo : Nat} (h2 : lo = 0 ∨ b_states (lo - 1) ≠ 0) (h : post (nI lo - 1)) : ∀ (k n : Nat), lo ≤ k → (∀ y, lo ≤ y → y < k → b_states y = 0) → k < n → k ≤ 1000 → wY_previous_4 post g_slots g_capacity g_clock b_states b_values b_reads b_writes b_touched b_beforeStates b_beforeValues b_phases b_outcomes b_used b_kinds b_firsts b_seconds b_begun b_accepted b_rowCounts b_rowKeys b_rowValues n (nI k - 1)
  | 0, n + 1, h1, h3, h4, h5 => by
    have e : lo = 0 := by omega
    subst e
    exact br_t (by decide) h
  | k + 1, n + 1, h1, h3, h4, h5 => by
    rw [nI_pred]
    refine br_f (nI_pos (by omega)) ⟨vp_in_nI (by omega) (by omega), ?_⟩
    rw [nI_clamp (by omega)]
    by_cases e : lo = k + 1
    · have h6 : b_states k ≠ 0 := by
        rcases h2 with h2 | h2
        · omega
        · rw [e] at h2; exact h2
      refine br_f h6 ?_
      rw [e, nI_pred] at h
      exact h
    · refine br_t (h3 k (by omega) (by omega)) (nm_r (tr_m1 k) ?_)
      exact yw_prev_loop h2 h k n (by omega) (fun y hy hk => h3 y hy (by omega)) (by omega) (by omega)
theorem yw_prev {post : Int32 → Prop} {lo k : Nat} (hk : k ≤ 1000) (h1 : lo ≤ k) (h3 : ∀ y, lo ≤ y → y < k → b_states y = 0) (h2 : lo = 0 ∨ b_states (lo - 1) ≠ 0) (h : post (nI lo - 1)) : wpY_previous post (g_slots, g_capacity, g_clock, b_states, b_values, b_reads, b_writes, b_touched, b_beforeStates, b_beforeValues, b_phases, b_outcomes, b_used, b_kinds, b_firsts, b_seconds, b_begun, b_accepted, b_rowCounts, b_rowKeys, b_rowValues) (nI k) :=
  nm_e ⟨k + 1, yw_prev_loop h2 h k (k + 1) h1 h3 (by omega) hk⟩
theorem yw_one {post : Int32 → Prop} {t k : Nat} (ht : t < 5) (hk : k < 1000) (hf : b_firsts t = nI k) (h1 : wf_one b_states b_kinds t k → post 1) (h0 : ¬ wf_one b_states b_kinds t k → post 0) : wpY_asksOneKey post (g_slots, g_capacity, g_clock, b_states, b_values, b_reads, b_writes, b_touched, b_beforeStates, b_beforeValues, b_phases, b_outcomes, b_used, b_kinds, b_firsts, b_seconds, b_begun, b_accepted, b_rowCounts, b_rowKeys, b_rowValues) (nI t) := by
  have vt : vp_in (nI t) 5 := vp_in_nI ht (by omega)
  have ct : (nI t).toNatClampNeg = t := nI_clamp (by omega)
  have tail : (b_kinds t = 2 ∨ b_kinds t = 3) → ¬ b_kinds t = 1 → wY_asksOneKey_32 post (nI t) g_slots g_capacity g_clock b_states b_values b_reads b_writes b_touched b_beforeStates b_beforeValues b_phases b_outcomes b_used b_kinds b_firsts b_seconds b_begun b_accepted b_rowCounts b_rowKeys b_rowValues := by
    intro h2 h3
    unfold wY_asksOneKey_32
    rw [ct, hf, nI_clamp (by omega)]
    refine ⟨vt, vp_in_nI hk (by omega), br_c (fun z => h0 ?_) (fun z => h1 (Or.inr ⟨h2, z⟩))⟩
    rintro (e | e)
    · exact h3 e
    · exact e.2 z
  refine ⟨vt, ?_⟩
  rw [ct]
  refine br_c (fun e1 => h1 (Or.inl e1)) (fun e1 => ⟨vt, br_c (fun e2 => tail (Or.inl e2) e1) (fun e2 => ⟨vt, br_c (fun e3 => tail (Or.inr e3) e1) (fun e3 => h0 ?_)⟩)⟩)
  rintro (e | ⟨e | e, _⟩)
  · exact e1 e
  · exact e2 e
  · exact e3 e
theorem yw_asksWrite {post : Int32 → Prop} {t k : Nat} (ht : t < 5) (hk : k < 1000) (hf : b_firsts t = nI k) (h1 : wf_wr b_states b_kinds t k → post 1) (h0 : ¬ wf_wr b_states b_kinds t k → post 0) : wpY_asksWrite post (g_slots, g_capacity, g_clock, b_states, b_values, b_reads, b_writes, b_touched, b_beforeStates, b_beforeValues, b_phases, b_outcomes, b_used, b_kinds, b_firsts, b_seconds, b_begun, b_accepted, b_rowCounts, b_rowKeys, b_rowValues) (nI t) := by
  have vt : vp_in (nI t) 5 := vp_in_nI ht (by omega)
  have ct : (nI t).toNatClampNeg = t := nI_clamp (by omega)
  refine ⟨vt, ?_⟩
  rw [ct, hf, nI_clamp (n := k) (by omega)]
  refine br_c (fun e1 => h1 (Or.inl e1)) (fun e1 => ⟨vt, br_c (fun e2 => ⟨vt, vp_in_nI hk (by omega), br_c (fun z => h0 ?_) (fun z => h1 (Or.inr ⟨e2, z⟩))⟩) (fun e2 => h0 ?_)⟩)
  · rintro (e | e)
    · exact e1 e
    · exact e.2 z
  · rintro (e | e)
    · exact e1 e
    · exact e2 e.1
theorem yw_hi_loop {post : Int32 → Prop} {t e : Nat} (ht : t < 5) (he : e ≤ 1000) (hs : e = 1000 ∨ wf_stop b_states b_kinds t e) (h : post (nI (min e 999))) : ∀ (d x n : Nat), x + d = e → (∀ y, x ≤ y → y < e → ¬ wf_stop b_states b_kinds t y) → d < n → wY_requestHigh_43 post (nI t) g_slots g_capacity g_clock b_states b_values b_reads b_writes b_touched b_beforeStates b_beforeValues b_phases b_outcomes b_used b_kinds b_firsts b_seconds b_begun b_accepted b_rowCounts b_rowKeys b_rowValues n (nI x)
  | 0, x, n + 1, h1, h2, h3 => by
    have ex : x = e := by omega
    subst ex
    by_cases e1 : x = 1000
    · subst e1
      exact br_t (by decide) h
    · refine br_f (nI_ge (b := 1000) (by omega) (by omega)) ⟨vp_in_nI (by omega) (by omega), ?_⟩
      rw [nI_clamp (by omega), nI_clamp (by omega)]
      rw [show min x 999 = x by omega] at h
      rcases hs with hs | hs | hs
      · exact absurd hs e1
      · exact br_t hs h
      · exact br_c (fun _ => h) (fun _ => ⟨vp_in_nI (by omega) (by omega), br_t hs.1 ⟨vp_in_nI ht (by omega), br_f hs.2 h⟩⟩)
  | d + 1, x, n + 1, h1, h2, h3 => by
    have hx := h2 x (Nat.le_refl _) (by omega)
    have ih := yw_hi_loop ht he hs h d (x + 1) n (by omega) (fun y hy => h2 y (by omega)) (by omega)
    refine br_f (nI_ge (b := 1000) (by omega) (by omega)) ⟨vp_in_nI (by omega) (by omega), ?_⟩
    rw [nI_clamp (by omega), nI_clamp (by omega)]
    refine br_f (fun z => hx (Or.inl z)) ⟨vp_in_nI (by omega) (by omega), br_c (fun z => ⟨vp_in_nI ht (by omega), ?_⟩) (fun z => nm_r (nI_1 x) ih)⟩
    refine br_c (fun _ => nm_r (nI_1 x) ih) (fun z4 => absurd (Or.inr ⟨z, z4⟩) hx)
/-- the request's borders, as the reference finds them -/
theorem yw_req {t k : Nat} (ht : t < 5) (hk : k < 1000) (hf : b_firsts t = nI k) (h5 : b_kinds t = 5 → ∃ h, b_seconds t = nI h ∧ k ≤ h ∧ h < 1000) : ∃ lo hi, lo ≤ 1000 ∧ hi < 1000 ∧ (∀ x, wf_in b_states b_kinds b_seconds t k x ↔ lo ≤ x ∧ x ≤ hi) ∧ (∀ post : Int32 → Prop, post (nI lo) → wpY_requestLow post (g_slots, g_capacity, g_clock, b_states, b_values, b_reads, b_writes, b_touched, b_beforeStates, b_beforeValues, b_phases, b_outcomes, b_used, b_kinds, b_firsts, b_seconds, b_begun, b_accepted, b_rowCounts, b_rowKeys, b_rowValues) (nI t)) ∧ (∀ post : Int32 → Prop, post (nI hi) → wpY_requestHigh post (g_slots, g_capacity, g_clock, b_states, b_values, b_reads, b_writes, b_touched, b_beforeStates, b_beforeValues, b_phases, b_outcomes, b_used, b_kinds, b_firsts, b_seconds, b_begun, b_accepted, b_rowCounts, b_rowKeys, b_rowValues) (nI t)) := by
  have vt : vp_in (nI t) 5 := vp_in_nI ht (by omega)
  have ct : (nI t).toNatClampNeg = t := nI_clamp (by omega)
  by_cases h1 : wf_one b_states b_kinds t k
  · refine ⟨k, k, by omega, hk, fun x => ?_, fun post hp => ?_, fun post hp => ?_⟩
    · constructor
      · rintro (z | z)
        · omega
        · exact absurd h1 z.1
      · intro z; exact Or.inl ⟨h1, by omega⟩
    · unfold wpY_requestLow
      refine yw_one ht hk hf (fun _ => br_f (by decide) ⟨vt, ?_⟩) (fun z => absurd h1 z)
      rw [ct, hf]; exact hp
    · unfold wpY_requestHigh
      refine yw_one ht hk hf (fun _ => br_f (by decide) ⟨vt, ?_⟩) (fun z => absurd h1 z)
      rw [ct, hf]; exact hp
  · obtain ⟨lo, l1, l2, l3⟩ := wf_lo b_states k
    have hfr : wf_fr b_kinds b_seconds t k < 1000 := by
      unfold wf_fr
      by_cases e : b_kinds t = 5
      · obtain ⟨hh, g1, g2, g3⟩ := h5 e
        rw [if_pos e, g1, nI_clamp (by omega)]; exact g3
      · rw [if_neg e]; exact hk
    obtain ⟨e, e1, e2, e3, e4⟩ := wf_hi (wf_stop b_states b_kinds t) (1000 - wf_fr b_kinds b_seconds t k) (wf_fr b_kinds b_seconds t k) (by omega)
    refine ⟨lo, min e 999, by omega, by omega, fun x => ?_, fun post hp => ?_, fun post hp => ?_⟩
    · constructor
      · rintro (z | ⟨_, z1, z2, z3⟩)
        · exact absurd z.1 h1
        · constructor
          · apply Nat.le_of_not_lt
            intro hx
            rcases l3 with l3 | l3
            · omega
            · exact l3 (z2 (lo - 1) (by omega) (by omega))
          · apply Nat.le_of_not_lt
            intro hx
            rcases e4 with e4 | e4
            · omega
            · exact z3 e e1 (by omega) e4
      · intro ⟨z1, z2⟩
        exact Or.inr ⟨h1, by omega, fun y hy hk' => l2 y (by omega) hk', fun y hy hx => e3 y hy (by omega)⟩
    · unfold wpY_requestLow
      refine yw_one ht hk hf (fun z => absurd z h1) (fun _ => br_t rfl ⟨vt, ?_⟩)
      rw [ct, hf]
      refine yw_prev (by omega) l1 l2 l3 ?_
      rw [Int32.sub_add_cancel]
      exact hp
    · unfold wpY_requestHigh
      refine yw_one ht hk hf (fun z => absurd z h1) (fun _ => br_t rfl ⟨vt, ?_⟩)
      have hl := fun (x : Nat) (hx : wf_fr b_kinds b_seconds t k = x) => yw_hi_loop (post := post) (g_slots := g_slots) (g_capacity := g_capacity) (g_clock := g_clock) (b_values := b_values) (b_reads := b_reads) (b_writes := b_writes) (b_touched := b_touched) (b_beforeStates := b_beforeStates) (b_beforeValues := b_beforeValues) (b_phases := b_phases) (b_outcomes := b_outcomes) (b_used := b_used) (b_firsts := b_firsts) (b_seconds := b_seconds) (b_begun := b_begun) (b_accepted := b_accepted) (b_rowCounts := b_rowCounts) (b_rowKeys := b_rowKeys) (b_rowValues := b_rowValues) ht e2 e4 hp (e - x) x (e - x + 1) (by omega) (by rw [← hx]; exact e3) (by omega)
      rw [ct]
      refine br_c (fun k5 => ⟨vt, ?_⟩) (fun k5 => ⟨vt, nm_r hf ⟨_, hl k ?_⟩⟩)
      · obtain ⟨hh, g1, g2, g3⟩ := h5 k5
        refine nm_r g1 ⟨_, hl hh ?_⟩
        unfold wf_fr
        rw [if_pos k5, g1, nI_clamp (by omega)]
      · unfold wf_fr
        rw [if_neg k5]
theorem yw_wf_loop {post : Int32 → Prop} {o hi : Nat} {x5 : Int32} (ho : o < 5) (hh : hi < 1000) : ∀ (d x n : Nat), x + d = hi + 1 → d < n → ((∃ y, x ≤ y ∧ y ≤ hi ∧ (b_writes (o * 1000 + y) ≠ 0 ∨ (x5 ≠ 0 ∧ b_reads (o * 1000 + y) ≠ 0))) → post 1) → ((¬ ∃ y, x ≤ y ∧ y ≤ hi ∧ (b_writes (o * 1000 + y) ≠ 0 ∨ (x5 ≠ 0 ∧ b_reads (o * 1000 + y) ≠ 0))) → post 0) → wY_waitsFor_67 post (nI o) (nI hi) x5 g_slots g_capacity g_clock b_states b_values b_reads b_writes b_touched b_beforeStates b_beforeValues b_phases b_outcomes b_used b_kinds b_firsts b_seconds b_begun b_accepted b_rowCounts b_rowKeys b_rowValues n (nI x)
  | 0, x, n + 1, h1, h2, hy, hn => br_t (nI_lt (by omega) (by omega)) (hn (fun ⟨y, a, b, _⟩ => by omega))
  | d + 1, x, n + 1, h1, h2, hy, hn => by
    have ih : b_writes (o * 1000 + x) = 0 → (x5 = 0 ∨ b_reads (o * 1000 + x) = 0) → wY_waitsFor_67 post (nI o) (nI hi) x5 g_slots g_capacity g_clock b_states b_values b_reads b_writes b_touched b_beforeStates b_beforeValues b_phases b_outcomes b_used b_kinds b_firsts b_seconds b_begun b_accepted b_rowCounts b_rowKeys b_rowValues n (nI (x + 1)) := by
      intro z1 z2
      refine yw_wf_loop ho hh d (x + 1) n (by omega) (by omega) (fun ⟨y, a, b, c⟩ => hy ⟨y, by omega, b, c⟩) (fun z => hn ?_)
      rintro ⟨y, a, b, c⟩
      by_cases e : y = x
      · subst e
        rcases c with c | c
        · exact c z1
        · rcases z2 with z2 | z2
          · exact c.1 z2
          · exact c.2 z2
      · exact z ⟨y, by omega, b, c⟩
    have v : vp_in (nI (o * 1000 + x)) 5000 := vp_in_nI (by omega) (by omega)
    refine br_f (nI_nlt (by omega) (by omega)) ?_
    rw [yw_ix, nI_clamp (by omega)]
    refine ⟨v, br_c (fun w => br_c (fun z => nm_r (nI_1 x) (ih w (Or.inl z))) (fun z => ⟨v, br_c (fun z2 => nm_r (nI_1 x) (ih w (Or.inr z2))) (fun z2 => hy ⟨x, Nat.le_refl _, by omega, Or.inr ⟨z, z2⟩⟩)⟩)) (fun w => hy ⟨x, Nat.le_refl _, by omega, Or.inl w⟩)⟩
theorem yw_waitsFor {post : Int32 → Prop} {s t o : Nat} (hs : g_slots = nI s) (hs5 : s ≤ 5) (hT : dd_T s b_phases b_kinds b_firsts b_seconds b_used b_rowCounts) (ht : t < s) (ho : o < s) (h1 : wf b_phases b_states b_kinds b_firsts b_seconds b_reads b_writes t o → post 1) (h0 : ¬ wf b_phases b_states b_kinds b_firsts b_seconds b_reads b_writes t o → post 0) : wpY_waitsFor post (g_slots, g_capacity, g_clock, b_states, b_values, b_reads, b_writes, b_touched, b_beforeStates, b_beforeValues, b_phases, b_outcomes, b_used, b_kinds, b_firsts, b_seconds, b_begun, b_accepted, b_rowCounts, b_rowKeys, b_rowValues) (nI t) (nI o) := by
  have vt : vp_in (nI t) 5 := vp_in_nI (by omega) (by omega)
  have vo : vp_in (nI o) 5 := vp_in_nI (by omega) (by omega)
  have ct : (nI t).toNatClampNeg = t := nI_clamp (by omega)
  have co : (nI o).toNatClampNeg = o := nI_clamp (by omega)
  unfold wpY_waitsFor
  refine yw_isSlot hs hs5 ht (br_f (by decide) (yw_isSlot hs hs5 ho (br_f (by decide) ?_)))
  refine pk_eq t o (fun e => h0 (fun z => z.2.1 e)) (fun e => ⟨vt, ?_⟩)
  rw [ct, co]
  refine br_c (fun p2 => ⟨vo, br_c (fun q0 => h0 (fun z => z.2.2.1 q0)) (fun q0 => ?_)⟩) (fun p2 => h0 (fun z => p2 z.1))
  obtain ⟨_, k, hk, hf, hkd⟩ := (hT t).2.2.1 p2
  have h5 : b_kinds t = 5 → ∃ h, b_seconds t = nI h ∧ k ≤ h ∧ h < 1000 := by
    intro e5
    rcases hkd with z | z | z | z | z
    · rw [z] at e5; exact absurd e5 (by decide)
    · rw [z] at e5; exact absurd e5 (by decide)
    · rw [z] at e5; exact absurd e5 (by decide)
    · rw [z] at e5; exact absurd e5 (by decide)
    · exact z.2
  obtain ⟨lo, hi, hl, hh, hin, hlow, hhigh⟩ := yw_req (g_slots := g_slots) (g_capacity := g_capacity) (g_clock := g_clock) (b_states := b_states) (b_values := b_values) (b_reads := b_reads) (b_writes := b_writes) (b_touched := b_touched) (b_beforeStates := b_beforeStates) (b_beforeValues := b_beforeValues) (b_phases := b_phases) (b_outcomes := b_outcomes) (b_used := b_used) (b_begun := b_begun) (b_accepted := b_accepted) (b_rowCounts := b_rowCounts) (b_rowKeys := b_rowKeys) (b_rowValues := b_rowValues) (by omega : t < 5) hk hf h5
  refine hlow _ (hhigh _ ?_)
  have hwf : ∀ w : Int32, (w ≠ 0 ↔ wf_wr b_states b_kinds t k) → ((∃ y, lo ≤ y ∧ y ≤ hi ∧ (b_writes (o * 1000 + y) ≠ 0 ∨ (w ≠ 0 ∧ b_reads (o * 1000 + y) ≠ 0))) ↔ wf b_phases b_states b_kinds b_firsts b_seconds b_reads b_writes t o) := by
    intro w hw
    constructor
    · rintro ⟨y, a, b, c⟩
      refine ⟨p2, e, q0, k, y, hf, hk, (hin y).mpr ⟨a, b⟩, ?_⟩
      rcases c with c | c
      · exact Or.inl c
      · exact Or.inr ⟨hw.mp c.1, c.2⟩
    · rintro ⟨_, _, _, k', y, hf', hk', hi', hc⟩
      have ek : k' = k := (nI_eq (by omega) (by omega)).mp (hf'.symm.trans hf)
      subst ek
      have := (hin y).mp hi'
      refine ⟨y, this.1, this.2, ?_⟩
      rcases hc with hc | hc
      · exact Or.inl hc
      · exact Or.inr ⟨hw.mpr hc.1, hc.2⟩
  have fin : ∀ w : Int32, (w ≠ 0 ↔ wf_wr b_states b_kinds t k) → ∃ n67 : Nat, wY_waitsFor_67 post (nI o) (nI hi) w g_slots g_capacity g_clock b_states b_values b_reads b_writes b_touched b_beforeStates b_beforeValues b_phases b_outcomes b_used b_kinds b_firsts b_seconds b_begun b_accepted b_rowCounts b_rowKeys b_rowValues n67 (nI lo) := by
    intro w hw
    by_cases hlh : lo ≤ hi + 1
    · exact ⟨hi + 1 - lo + 1, yw_wf_loop (by omega) hh (hi + 1 - lo) lo _ (by omega) (by omega) (fun z => h1 ((hwf w hw).mp z)) (fun z => h0 (fun z2 => z ((hwf w hw).mpr z2)))⟩
    · refine ⟨1, br_t (nI_lt (by omega) (by omega)) (h0 (fun z => ?_))⟩
      obtain ⟨y, a, b, _⟩ := (hwf w hw).mpr z
      omega
  exact yw_asksWrite (by omega) hk hf (fun z => fin 1 ⟨fun _ => z, fun _ => by decide⟩) (fun z => fin 0 ⟨fun a => absurd rfl a, fun a => absurd a z⟩)
end
end
section
theorem dd_b1 {b : Bool} : dd_b b ≠ 0 ↔ b = true := by
  cases b
  · exact ⟨fun h => absurd rfl h, fun h => absurd h (by decide)⟩
  · exact ⟨fun _ => rfl, fun _ => by decide⟩
theorem dd_b0 {b : Bool} : dd_b b = 0 ↔ b = false := by
  cases b
  · exact ⟨fun _ => rfl, fun _ => rfl⟩
  · exact ⟨fun h => absurd h (by decide), fun h => absurd h (by decide)⟩
theorem wf_1 {ph st kd fi se rd wr : Nat → Int32} {t o k : Nat} (h1 : wf_one st kd t k) (hf : fi t = nI k) (hk : k < 1000) : wf ph st kd fi se rd wr t o ↔ ph t = 2 ∧ t ≠ o ∧ ph o ≠ 0 ∧ (wr (o * 1000 + k) ≠ 0 ∨ (wf_wr st kd t k ∧ rd (o * 1000 + k) ≠ 0)) := by
  constructor
  · rintro ⟨a, b, c, k', x, hf', hk', hi, hc⟩
    have ek : k' = k := (nI_eq (by omega) (by omega)).mp (hf'.symm.trans hf)
    subst ek
    rcases hi with ⟨_, hi⟩ | hi
    · subst hi; exact ⟨a, b, c, hc⟩
    · exact absurd h1 hi.1
  · rintro ⟨a, b, c, hc⟩
    exact ⟨a, b, c, k, k, hf, hk, Or.inl ⟨h1, rfl⟩, hc⟩
theorem wf_2 {ph st kd fi se rd wr : Nat → Int32} {t o k : Nat} (hw : ¬ wf_wr st kd t k) (hf : fi t = nI k) (hk : k < 1000) : wf ph st kd fi se rd wr t o ↔ ph t = 2 ∧ t ≠ o ∧ ph o ≠ 0 ∧ ∃ x, wf_in st kd se t k x ∧ wr (o * 1000 + x) ≠ 0 := by
  constructor
  · rintro ⟨a, b, c, k', x, hf', hk', hi, hc⟩
    have ek : k' = k := (nI_eq (by omega) (by omega)).mp (hf'.symm.trans hf)
    subst ek
    rcases hc with hc | hc
    · exact ⟨a, b, c, x, hi, hc⟩
    · exact absurd hc.1 hw
  · rintro ⟨a, b, c, x, hi, hc⟩
    exact ⟨a, b, c, k, x, hf, hk, hi, Or.inl hc⟩
section
variable {L : List Nat} {ky : Nat → Nat} {rk nx pv rf : Nat → Int32} {fr ec : Int32} {ph st va rd wr gr ow bs bv Yst Yva Yrd Ywr Yto Ybs Ybv kd se : Nat → Int32}
theorem dd_st (hS : rg_S L ky rk nx pv rf fr ec) (hD : dd_D L ky ph st va rd wr gr ow bs bv Yst Yva Yrd Ywr Yto Ybs Ybv) {y : Nat} (hy : y < 1000) (h : Yst y ≠ 0) : ∃ p ∈ L, ky p = y := by
  apply Classical.byContradiction
  intro hn
  exact h (hD.2.1 y hy (fun r hr e => hn ⟨r, hr, e⟩)).1
theorem dd_stE (hD : dd_D L ky ph st va rd wr gr ow bs bv Yst Yva Yrd Ywr Yto Ybs Ybv) {p : Nat} (hp : p ∈ L) : Yst (ky p) = st p ∧ (st p = 1 ∨ st p = 2) ∧ Yst (ky p) ≠ 0 := by
  have h := hD.1 p hp
  refine ⟨h.2.1, ?_, ?_⟩
  · rcases h.1 with z | z
    · exact Or.inl z
    · exact Or.inr z.1
  · rw [h.2.1]
    rcases h.1 with z | z
    · rw [z]; decide
    · rw [z.1]; decide
theorem wf_WI (hS : rg_S L ky rk nx pv rf fr ec) (hD : dd_D L ky ph st va rd wr gr ow bs bv Yst Yva Yrd Ywr Yto Ybs Ybv) {t k e : Nat} {A S B : List Nat} (hk : k < 1000) (h1 : ¬ wf_one Yst kd t k) (h5 : kd t = 5 → ∃ h, se t = nI h ∧ k ≤ h ∧ h < 1000) (e1 : L ++ [48] = A ++ (S ++ e :: B)) (hA : ∀ a ∈ A, ky a < k) (hB : ∀ q ∈ S ++ [e], k ≤ ky q) (hn : ∀ q ∈ S, ¬ sx_stop rk st kd se t q) (he : sx_stop rk st kd se t e) {x q : Nat} (hx : x < 1000) (hF : rg_F L ky x q) : wf_in Yst kd se t k x ↔ q ∈ S ++ [e] := by
  have ho := rg_ord hS (A := A ++ S) (r := e) (B := B) (by rw [e1]; simp)
  have hfr : k ≤ wf_fr kd se t k := by
    unfold wf_fr
    by_cases k5 : kd t = 5
    · obtain ⟨h, g1, g2, g3⟩ := h5 k5
      rw [if_pos k5, g1, nI_clamp (by omega)]; exact g2
    · rw [if_neg k5]; exact Nat.le_refl _
  constructor
  · rintro (z | ⟨_, _, c1, c2⟩)
    · exact absurd z.1 h1
    · have hq := hF.1
      rw [e1] at hq
      simp only [List.mem_append, List.mem_cons] at hq
      rcases hq with hq | hq | hq | hq
      · exfalso
        have hqk := hA q hq
        have hqL : q ∈ L := rg_L hS hF.1 (by omega)
        exact (dd_stE hD hqL).2.2 (c1 (ky q) hF.2.1 hqk)
      · simp [hq]
      · simp [hq]
      · exfalso
        have heq := ho.2.1 q hq
        have hq1 := (rg_le hS hF.1).2
        have heR : e ∈ L ++ [48] := by rw [e1]; simp
        have heL : e ∈ L := rg_L hS heR (by omega)
        have hex : ky e < x := by
          rcases hF.2.2 e heR with z | z
          · exact z
          · omega
        have hE := dd_stE hD heL
        have hke := hB e (by simp)
        have e48 : e ≠ 48 := by have := rg_lt hS heL; omega
        refine c2 (ky e) ?_ hex ?_
        · unfold wf_fr
          by_cases k5 : kd t = 5
          · obtain ⟨h, g1, g2, g3⟩ := h5 k5
            rw [if_pos k5, g1, nI_clamp (by omega)]
            rcases he with z | z | z | z
            · exact absurd z e48
            · rw [z.1] at k5; exact absurd k5 (by decide)
            · have z3 := z.2.2
              rw [rg_k hS heR, g1, nI_ltI (by omega) (by omega)] at z3
              omega
            · exact absurd k5 z.2
          · rw [if_neg k5]; exact hke
        · unfold wf_stop
          rw [hE.1]
          rcases he with z | z | z | z
          · exact absurd z e48
          · exact Or.inl z.2
          · rcases hE.2.1 with g | g
            · exact Or.inl g
            · exact Or.inr ⟨g, z.1⟩
          · rcases hE.2.1 with g | g
            · exact Or.inl g
            · exact Or.inr ⟨g, z.1⟩
  · intro hq
    have hqk := hB q hq
    have hqe : ky q ≤ ky e := by
      rcases List.mem_append.mp hq with z | z
      · exact Nat.le_of_lt (ho.1 q (by simp [z]))
      · rw [List.mem_singleton] at z; rw [z]; exact Nat.le_refl _
    have hq2 := hF.2.1
    refine Or.inr ⟨h1, hx, fun y hy hyk => ?_, fun y hy hyx hs => ?_⟩
    · apply Classical.byContradiction
      intro hne
      obtain ⟨p, hp, ep⟩ := dd_st hS hD (by omega) hne
      rcases hF.2.2 p (by simp [hp]) with z | z
      · omega
      · omega
    · have hne : Yst y ≠ 0 := by
        rcases hs with z | z
        · rw [z]; decide
        · rw [z.1]; decide
      obtain ⟨p, hp, ep⟩ := dd_st hS hD (by omega) hne
      have hpR : p ∈ L ++ [48] := by simp [hp]
      have hpE := dd_stE hD hp
      rw [ep] at hpE
      have hpR2 := hpR
      rw [e1] at hpR2
      simp only [List.mem_append, List.mem_cons] at hpR2
      rcases hpR2 with z | z | z | z
      · have := hA p z; omega
      · have hns := hn p z
        by_cases k4 : kd t = 4
        · have hs1 : st p ≠ 1 := fun g => hns (Or.inr (Or.inl ⟨k4, g⟩))
          unfold wf_stop at hs
          rw [hpE.1] at hs
          rcases hs with g | g
          · exact hs1 g
          · exact g.2 k4
        · by_cases k5 : kd t = 5
          · have h3 : rk p < se t := by
              apply Classical.byContradiction
              intro g
              exact hns (Or.inr (Or.inr (Or.inl ⟨k4, k5, g⟩)))
            obtain ⟨h, g1, g2, g3⟩ := h5 k5
            have hp1 := (rg_le hS hpR).2
            rw [rg_k hS hpR, g1, nI_ltI (by omega) (by omega)] at h3
            unfold wf_fr at hy
            rw [if_pos k5, g1, nI_clamp (by omega)] at hy
            omega
          · exact hns (Or.inr (Or.inr (Or.inr ⟨k4, k5⟩)))
      · rw [z] at ep; omega
      · have := ho.2.1 p z; omega
end
section
variable {f_END f_NOBODY f_FAN f_FILL f_STRIDE f_DEPTH f_PAGES f_ROWS f_slots f_capacity f_entryCount f_freeRecs f_freePages f_root f_height : Int32} {f_clock : Int64} {a_recKey a_recState a_recValue a_next a_prev a_readers a_writers a_gapReaders a_owner a_baseState a_baseValue a_recFree a_pageFill a_pageSlot a_pageTop a_pageFree a_pathPage a_pathSlot a_phaseOf a_outcomeOf a_used : Nat → Int32} {a_beganAt : Nat → Int64} {a_opKind a_opFirst a_opSecond : Nat → Int32} {a_acceptedAt : Nat → Int64} {a_rowCount a_rowKeys a_rowValues a_reach : Nat → Int32} {b_states b_values b_reads b_writes b_touched b_beforeStates b_beforeValues : Nat → Int32}
theorem xw_blk {post : Int32 → SX → Prop} {s t : Nat} {L : List Nat} {ky : Nat → Nat} (hs5 : s ≤ 5) (hT : dd_T s a_phaseOf a_opKind a_opFirst a_opSecond a_used a_rowCount) (hS : rg_S L ky a_recKey a_next a_prev a_recFree f_freeRecs f_entryCount) (hR : rg_T a_pageFill a_pageSlot a_pageTop a_pageFree f_freePages f_root f_height L ky) (hD : dd_D L ky a_phaseOf a_recState a_recValue a_readers a_writers a_gapReaders a_owner a_baseState a_baseValue b_states b_values b_reads b_writes b_touched b_beforeStates b_beforeValues) (ht : t < s) (p2 : a_phaseOf t = 2) (h : ∀ m pp sl, (∀ o, bt m o = true ↔ wf a_phaseOf b_states a_opKind a_opFirst a_opSecond b_reads b_writes t o) → post m (f_END, f_NOBODY, f_FAN, f_FILL, f_STRIDE, f_DEPTH, f_PAGES, f_ROWS, f_slots, f_capacity, f_entryCount, f_freeRecs, f_freePages, f_root, f_height, f_clock, a_recKey, a_recState, a_recValue, a_next, a_prev, a_readers, a_writers, a_gapReaders, a_owner, a_baseState, a_baseValue, a_recFree, a_pageFill, a_pageSlot, a_pageTop, a_pageFree, pp, sl, a_phaseOf, a_outcomeOf, a_used, a_beganAt, a_opKind, a_opFirst, a_opSecond, a_acceptedAt, a_rowCount, a_rowKeys, a_rowValues, a_reach)) : wpX_blockers post (f_END, f_NOBODY, f_FAN, f_FILL, f_STRIDE, f_DEPTH, f_PAGES, f_ROWS, f_slots, f_capacity, f_entryCount, f_freeRecs, f_freePages, f_root, f_height, f_clock, a_recKey, a_recState, a_recValue, a_next, a_prev, a_readers, a_writers, a_gapReaders, a_owner, a_baseState, a_baseValue, a_recFree, a_pageFill, a_pageSlot, a_pageTop, a_pageFree, a_pathPage, a_pathSlot, a_phaseOf, a_outcomeOf, a_used, a_beganAt, a_opKind, a_opFirst, a_opSecond, a_acceptedAt, a_rowCount, a_rowKeys, a_rowValues, a_reach) (nI t) := by
  obtain ⟨_, k, hk, hf, hkd⟩ := (hT t).2.2.1 p2
  obtain ⟨A, r, B, e1, hA, hr⟩ := rg_find hS (k := k) (by omega)
  have vt : vp_in (nI t) 5 := vp_in_nI (by omega) (by omega)
  have ct : (nI t).toNatClampNeg = t := nI_clamp (by omega)
  have hrR : r ∈ L ++ [48] := by rw [e1]; simp
  have hr49 := rg_le hS hrR
  have vr : vp_in (nI r) 49 := vp_in_nI hr49.1 (by omega)
  have cr : (nI r).toNatClampNeg = r := nI_clamp (by omega)
  have hph : ∀ o, a_phaseOf o ≠ 0 → o < 5 := fun o ho => by
    rcases (hT o).1 with z | z
    · exact absurd z ho
    · omega
  have hrk := rg_k hS hrR
  have hFk := rg_toF hS e1 hA hr
  have fin : ∀ held pp sl, (∀ o, o ≠ t → (bt held o = true ↔ wf a_phaseOf b_states a_opKind a_opFirst a_opSecond b_reads b_writes t o)) → wX_blockers_127 post (nI t) held f_END f_NOBODY f_FAN f_FILL f_STRIDE f_DEPTH f_PAGES f_ROWS f_slots f_capacity f_entryCount f_freeRecs f_freePages f_root f_height f_clock a_recKey a_recState a_recValue a_next a_prev a_readers a_writers a_gapReaders a_owner a_baseState a_baseValue a_recFree a_pageFill a_pageSlot a_pageTop a_pageFree pp sl a_phaseOf a_outcomeOf a_used a_beganAt a_opKind a_opFirst a_opSecond a_acceptedAt a_rowCount a_rowKeys a_rowValues a_reach := by
    intro held pp sl hh
    refine h _ pp sl (fun o => ?_)
    rw [bk_keep (by omega)]
    by_cases e : o = t
    · subst e
      simp
      exact fun z => z.2.1 rfl
    · rw [← hh o e]; simp [e]
  have f76 : ∀ pp sl, ky r = k → wf_one b_states a_opKind t k → wf_wr b_states a_opKind t k → wX_blockers_76 post (nI t) (nI r) f_END f_NOBODY f_FAN f_FILL f_STRIDE f_DEPTH f_PAGES f_ROWS f_slots f_capacity f_entryCount f_freeRecs f_freePages f_root f_height f_clock a_recKey a_recState a_recValue a_next a_prev a_readers a_writers a_gapReaders a_owner a_baseState a_baseValue a_recFree a_pageFill a_pageSlot a_pageTop a_pageFree pp sl a_phaseOf a_outcomeOf a_used a_beganAt a_opKind a_opFirst a_opSecond a_acceptedAt a_rowCount a_rowKeys a_rowValues a_reach := by
    intro pp sl ek h1 hw
    have hrL : r ∈ L := rg_L hS hrR (by omega)
    have hE := hD.1 r hrL
    refine ⟨vr, vr, ?_⟩
    rw [cr]
    refine nm_e (fin _ pp sl (fun o ho => ?_))
    rw [wf_1 h1 hf hk, b_or, Bool.or_eq_true]
    rw [ek] at hE
    constructor
    · intro z
      have hpo := hD.2.2.2.1 r hrL o z
      have ho5 := hph o hpo
      refine ⟨p2, fun e => ho e.symm, hpo, ?_⟩
      have hE4 := hE.2.2.2.1 o ho5
      rcases z with z | z
      · exact Or.inr ⟨hw, by rw [hE4.1, z]; decide⟩
      · exact Or.inl (by rw [hE4.2.1, z]; decide)
    · rintro ⟨_, _, hpo, z⟩
      have ho5 := hph o hpo
      have hE4 := hE.2.2.2.1 o ho5
      rcases z with z | z
      · rw [hE4.2.1, dd_b1] at z; exact Or.inr z
      · have := z.2; rw [hE4.1, dd_b1] at this; exact Or.inl this
  have f118 : ∀ pp sl, ¬ wf_one b_states a_opKind t k → ¬ wf_wr b_states a_opKind t k → (a_opKind t = 5 → ∃ h, a_opSecond t = nI h ∧ k ≤ h ∧ h < 1000) → wX_blockers_118 post (nI t) (nI r) f_END f_NOBODY f_FAN f_FILL f_STRIDE f_DEPTH f_PAGES f_ROWS f_slots f_capacity f_entryCount f_freeRecs f_freePages f_root f_height f_clock a_recKey a_recState a_recValue a_next a_prev a_readers a_writers a_gapReaders a_owner a_baseState a_baseValue a_recFree a_pageFill a_pageSlot a_pageTop a_pageFree pp sl a_phaseOf a_outcomeOf a_used a_beganAt a_opKind a_opFirst a_opSecond a_acceptedAt a_rowCount a_rowKeys a_rowValues a_reach := by
    intro pp sl h1 hw h5
    have h48 : 48 ∈ r :: B := by
      have : 48 ∈ L ++ [48] := by simp
      rw [e1] at this
      rcases List.mem_append.mp this with z | z
      · have := hA 48 z; have := hS.2.1; omega
      · exact z
    obtain ⟨S, e, B', e2, hn, he⟩ := sx_split (rk := a_recKey) (st := a_recState) (kd := a_opKind) (se := a_opSecond) (t := t) h48
    have e3 : L ++ [48] = A ++ (S ++ e :: B') := by rw [e1, e2]
    have ho := rg_ord hS e1
    have hB : ∀ q ∈ S ++ [e], k ≤ ky q := by
      intro q hq
      have : q ∈ r :: B := by
        rw [e2]
        simp only [List.mem_append, List.mem_cons] at hq ⊢
        rcases hq with z | z | z
        · exact Or.inl z
        · exact Or.inr (Or.inl z)
        · simp at z
      rcases List.mem_cons.mp this with z | z
      · rw [z]; exact hr
      · have := ho.2.1 q z; omega
    refine xw_wis hS (by omega) he e3 e2.symm hn (fun m hm => fin m pp sl (fun o hot => ?_))
    rw [hm o, wf_2 hw hf hk, List.any_eq_true]
    constructor
    · rintro ⟨q, hq, hb⟩
      have hqR : q ∈ L ++ [48] := by
        rw [e3]
        simp only [List.mem_append, List.mem_cons] at hq ⊢
        rcases hq with z | z | z
        · exact Or.inr (Or.inl z)
        · exact Or.inr (Or.inr (Or.inl z))
        · simp at z
      have hqL : q ∈ L := by
        rcases List.mem_append.mp hqR with z | z
        · exact z
        · rw [List.mem_singleton] at z
          rw [z, hD.2.2.2.2.2, b_0] at hb
          exact absurd hb (by decide)
      have hpo := hD.2.2.2.1 q hqL o (Or.inr hb)
      have ho5 := hph o hpo
      have hqk := (rg_lt hS hqL).2
      refine ⟨p2, fun e => hot e.symm, hpo, ky q, (wf_WI hS hD hk h1 h5 e3 hA hB hn he hqk ⟨hqR, Nat.le_refl _, fun p _ => by omega⟩).mpr hq, ?_⟩
      rw [((hD.1 q hqL).2.2.2.1 o ho5).2.1, hb]
      decide
    · rintro ⟨_, _, hpo, x, hi, hw⟩
      have ho5 := hph o hpo
      have hx : x < 1000 := by
        rcases hi with z | z
        · exact absurd z.1 h1
        · exact z.2.1
      have : ∃ q ∈ L, ky q = x := by
        apply Classical.byContradiction
        intro hne
        exact hw ((hD.2.1 x hx (fun r hr e => hne ⟨r, hr, e⟩)).2.2 o ho5).1
      obtain ⟨q, hqL, ex⟩ := this
      subst ex
      refine ⟨q, (wf_WI hS hD hk h1 h5 e3 hA hB hn he hx ⟨by simp [hqL], Nat.le_refl _, fun p _ => by omega⟩).mp hi, ?_⟩
      rw [((hD.1 q hqL).2.2.2.1 o ho5).2.1, dd_b1] at hw
      exact hw
  have hst : ky r = k → b_states k ≠ 0 := fun ek => by
    have := (dd_stE hD (rg_L hS hrR (by omega))).2.2
    rw [ek] at this
    exact this
  have hst0 : ky r ≠ k → dd_N b_states b_values b_writes b_touched k := fun ek => by
    refine hD.2.1 k hk (fun p hp e => ek ?_)
    rcases hFk.2.2 p (by simp [hp]) with z | z
    · omega
    · omega
  have d12 : ¬ (2 : Int32) = 1 := by decide
  have d13 : ¬ (3 : Int32) = 1 := by decide
  have d14 : ¬ (4 : Int32) = 1 := by decide
  have d15 : ¬ (5 : Int32) = 1 := by decide
  have d23 : ¬ (3 : Int32) = 2 := by decide
  have d24 : ¬ (4 : Int32) = 2 := by decide
  have d25 : ¬ (5 : Int32) = 2 := by decide
  have d32 : ¬ (2 : Int32) = 3 := by decide
  have d34 : ¬ (4 : Int32) = 3 := by decide
  have d35 : ¬ (5 : Int32) = 3 := by decide
  have d45 : ¬ (4 : Int32) = 5 := by decide
  have n10 : ¬ (1 : Int32) = 0 := by decide
  refine ⟨vt, ?_⟩
  rw [ct]
  rcases hkd with e | e | e | e | ⟨e, h5⟩
  · refine nm_r e ⟨vt, nm_r hf ?_⟩
    refine xw_locate hS hR (by omega) e1 hA hr fun pp sl => ⟨vr, ?_⟩
    rw [cr, hrk]
    have h1 : wf_one b_states a_opKind t k := Or.inl e
    refine pk_eq (ky r) k (fun ek => br_t rfl (br_f n10 (br_t rfl (f76 pp sl ek h1 (Or.inl e))))) (fun ek => br_t rfl (br_t rfl ⟨vr, ?_⟩))
    rw [cr]
    refine nm_e (fin _ pp sl (fun o ho => ?_))
    rw [wf_1 h1 hf hk]
    constructor
    · intro z
      have hpo := hD.2.2.2.2.1 r hrR o z
      refine ⟨p2, fun e => ho e.symm, hpo, Or.inr ⟨Or.inl e, ?_⟩⟩
      rw [hD.2.2.1 r k hFk (fun e => ek e.symm) o (hph o hpo), z]
      decide
    · rintro ⟨_, _, hpo, z⟩
      rcases z with z | z
      · exact absurd ((hst0 ek).2.2 o (hph o hpo)).1 z
      · have := z.2
        rw [hD.2.2.1 r k hFk (fun e => ek e.symm) o (hph o hpo), dd_b1] at this
        exact this
  · refine nm_r e ⟨vt, nm_r hf ?_⟩
    refine xw_locate hS hR (by omega) e1 hA hr fun pp sl => ⟨vr, ?_⟩
    rw [cr, hrk]
    refine pk_eq (ky r) k (fun ek => br_f d12 (br_f d12 (br_t rfl (br_f n10 (f76 pp sl ek (Or.inr ⟨Or.inl e, hst ek⟩) (Or.inr ⟨e, hst ek⟩)))))) (fun ek => br_f d12 (br_f d12 (br_t rfl (br_t rfl (br_f d32 (f118 pp sl ?_ ?_ ?_))))))
    · rintro (z | z)
      · rw [e] at z; exact d12 z
      · exact z.2 (hst0 ek).1
    · rintro (z | z)
      · rw [e] at z; exact d12 z
      · exact z.2 (hst0 ek).1
    · intro z; rw [e] at z; exact absurd z (by decide)
  · refine nm_r e ⟨vt, nm_r hf ?_⟩
    refine xw_locate hS hR (by omega) e1 hA hr fun pp sl => ⟨vr, ?_⟩
    rw [cr, hrk]
    refine pk_eq (ky r) k (fun ek => br_f d13 (br_f d13 (br_f d23 (br_t rfl (br_f n10 ⟨vr, ?_⟩))))) (fun ek => br_f d13 (br_f d13 (br_f d23 (br_t rfl (br_t rfl (f118 pp sl ?_ ?_ ?_))))))
    · rw [cr]
      refine nm_e (fin _ pp sl (fun o ho => ?_))
      have h1 : wf_one b_states a_opKind t k := Or.inr ⟨Or.inr e, hst ek⟩
      have hrL : r ∈ L := rg_L hS hrR (by omega)
      have hE := hD.1 r hrL
      rw [ek] at hE
      rw [wf_1 h1 hf hk]
      constructor
      · intro z
        have hpo := hD.2.2.2.1 r hrL o (Or.inr z)
        refine ⟨p2, fun e => ho e.symm, hpo, Or.inl ?_⟩
        rw [(hE.2.2.2.1 o (hph o hpo)).2.1, z]; decide
      · rintro ⟨_, _, hpo, z⟩
        rcases z with z | z
        · rw [(hE.2.2.2.1 o (hph o hpo)).2.1, dd_b1] at z; exact z
        · rcases z.1 with g | g
          · rw [e] at g; exact absurd g d13
          · have := g.1; rw [e] at this; exact absurd this d23
    · rintro (z | z)
      · rw [e] at z; exact d13 z
      · exact z.2 (hst0 ek).1
    · rintro (z | z)
      · rw [e] at z; exact d13 z
      · have := z.1; rw [e] at this; exact d23 this
    · intro z; rw [e] at z; exact absurd z (by decide)
  · have w1 : ¬ wf_one b_states a_opKind t k := by
      rintro (z | ⟨z | z, _⟩)
      · rw [e] at z; exact d14 z
      · rw [e] at z; exact d24 z
      · rw [e] at z; exact d34 z
    have w2 : ¬ wf_wr b_states a_opKind t k := by
      rintro (z | ⟨z, _⟩)
      · rw [e] at z; exact d14 z
      · rw [e] at z; exact d24 z
    have w3 : a_opKind t = 5 → ∃ h, a_opSecond t = nI h ∧ k ≤ h ∧ h < 1000 := fun z => by rw [e] at z; exact absurd z d45
    refine nm_r e ⟨vt, nm_r hf ?_⟩
    refine xw_locate hS hR (by omega) e1 hA hr fun pp sl => ⟨vr, ?_⟩
    rw [cr, hrk]
    exact pk_eq (ky r) k (fun _ => br_f d14 (br_f d14 (br_f d24 (br_f d34 (f118 pp sl w1 w2 w3))))) (fun _ => br_f d14 (br_f d14 (br_f d24 (br_f d34 (f118 pp sl w1 w2 w3)))))
  · have w1 : ¬ wf_one b_states a_opKind t k := by
      rintro (z | ⟨z | z, _⟩)
      · rw [e] at z; exact d15 z
      · rw [e] at z; exact d25 z
      · rw [e] at z; exact d35 z
    have w2 : ¬ wf_wr b_states a_opKind t k := by
      rintro (z | ⟨z, _⟩)
      · rw [e] at z; exact d15 z
      · rw [e] at z; exact d25 z
    refine nm_r e ⟨vt, nm_r hf ?_⟩
    refine xw_locate hS hR (by omega) e1 hA hr fun pp sl => ⟨vr, ?_⟩
    rw [cr, hrk]
    exact pk_eq (ky r) k (fun _ => br_f d15 (br_f d15 (br_f d25 (br_f d35 (f118 pp sl w1 w2 (fun _ => h5)))))) (fun _ => br_f d15 (br_f d15 (br_f d25 (br_f d35 (f118 pp sl w1 w2 (fun _ => h5))))))
end
end
section
/-! cycles: the closure by stages, and by sweeps -/
def cy_W (w : Nat → Nat → Prop) : Nat → Nat → Nat → Prop
  | 0, a, b => w a b
  | v + 1, a, b => cy_W w v a b ∨ (cy_W w v a v ∧ cy_W w v v b)
theorem cy_tr {w : Nat → Nat → Prop} : ∀ (v a b c : Nat), b < v → cy_W w v a b → cy_W w v b c → cy_W w v a c
  | 0, a, b, c, h, _, _ => by omega
  | v + 1, a, b, c, h, h1, h2 => by
    by_cases e : b = v
    · subst e
      have g1 : cy_W w b a b := by
        rcases h1 with z | z
        · exact z
        · exact z.1
      have g2 : cy_W w b b c := by
        rcases h2 with z | z
        · exact z
        · exact z.2
      exact Or.inr ⟨g1, g2⟩
    · have hb : b < v := by omega
      rcases h1 with h1 | h1
      · rcases h2 with h2 | h2
        · exact Or.inl (cy_tr v a b c hb h1 h2)
        · exact Or.inr ⟨cy_tr v a b v hb h1 h2.1, h2.2⟩
      · rcases h2 with h2 | h2
        · exact Or.inr ⟨h1.1, cy_tr v v b c hb h1.2 h2⟩
        · exact Or.inr ⟨h1.1, h2.2⟩
theorem cy_mono {w : Nat → Nat → Prop} {a b : Nat} (h : w a b) : ∀ v, cy_W w v a b
  | 0 => h
  | v + 1 => Or.inl (cy_mono h v)
theorem cy_trans {w : Nat → Nat → Prop} {a b c : Nat} (h1 : Relation.TransGen w a b) (h2 : Relation.TransGen w b c) : Relation.TransGen w a c := by
  induction h2 with
  | single h => exact Relation.TransGen.tail h1 h
  | tail _ h ih => exact Relation.TransGen.tail ih h
theorem cy_sound {w : Nat → Nat → Prop} : ∀ (v a b : Nat), cy_W w v a b → Relation.TransGen w a b
  | 0, a, b, h => Relation.TransGen.single h
  | v + 1, a, b, h => by
    rcases h with h | h
    · exact cy_sound v a b h
    · exact cy_trans (cy_sound v a v h.1) (cy_sound v v b h.2)
theorem cy_comp {w : Nat → Nat → Prop} {s a b : Nat} (hs : ∀ a b, w a b → a < s ∧ b < s) (h : Relation.TransGen w a b) : cy_W w s a b := by
  induction h with
  | single h => exact cy_mono h s
  | tail h1 h ih => exact cy_tr s _ _ _ (hs _ _ h).1 ih (cy_mono h s)
theorem cy_iff {w : Nat → Nat → Prop} {s a b : Nat} (hs : ∀ a b, w a b → a < s ∧ b < s) : cy_W w s a b ↔ Relation.TransGen w a b := ⟨cy_sound s a b, cy_comp hs⟩
theorem cy_cnt {p q : Nat → Bool} : ∀ {l : List Nat}, (∀ a ∈ l, p a = true → q a = true) → l.countP p ≤ l.countP q
  | [], _ => Nat.le_refl _
  | x :: l, h => by
    have ih := cy_cnt (p := p) (q := q) (l := l) (fun a ha => h a (by simp [ha]))
    have hx := h x (by simp)
    rw [List.countP_cons, List.countP_cons]
    cases hp : p x <;> cases hq : q x <;> simp_all <;> omega
theorem cy_cnt' {p q : Nat → Bool} : ∀ {l : List Nat}, (∀ a ∈ l, p a = true → q a = true) → (∃ a ∈ l, q a = true ∧ p a = false) → l.countP p < l.countP q
  | [], _, h => by obtain ⟨a, ha, _⟩ := h; simp at ha
  | x :: l, h, hx => by
    have ih0 := cy_cnt (p := p) (q := q) (l := l) (fun a ha => h a (by simp [ha]))
    rw [List.countP_cons, List.countP_cons]
    obtain ⟨a, ha, h1, h2⟩ := hx
    rcases List.mem_cons.mp ha with e | ha
    · subst e
      rw [h1, h2]
      simp
      omega
    · have ih := cy_cnt' (p := p) (q := q) (l := l) (fun a ha => h a (by simp [ha])) ⟨a, ha, h1, h2⟩
      have hx := h x (by simp)
      cases hp : p x <;> cases hq : q x <;> simp_all <;> omega
theorem cy_cnt_all {p : Nat → Bool} : ∀ {l : List Nat}, l.length ≤ l.countP p → ∀ a ∈ l, p a = true
  | [], _, a, ha => by simp at ha
  | x :: l, h, a, ha => by
    rw [List.countP_cons, List.length_cons] at h
    have hl : l.countP p ≤ l.length := List.countP_le_length
    cases hp : p x
    · rw [hp] at h; simp at h; omega
    · rw [hp] at h; simp at h
      rcases List.mem_cons.mp ha with e | ha
      · rw [e]; exact hp
      · exact cy_cnt_all h a ha
def cy_cl (w : Nat → Nat → Prop) (m : Int32) : Prop := ∀ a o, bt m a = true → w a o → bt m o = true
def cy_n (s : Nat) (m : Int32) : Nat := (List.range s).countP (fun a => bt m a)
def cy_I (w : Nat → Nat → Prop) (s t k : Nat) (m : Int32) : Prop := (∀ o, w t o → bt m o = true) ∧ (∀ o, bt m o = true → Relation.TransGen w t o) ∧ (cy_cl w m ∨ k ≤ cy_n s m)
theorem cy_fin {w : Nat → Nat → Prop} {s t : Nat} {m : Int32} (hs : ∀ a b, w a b → a < s ∧ b < s) (h : cy_I w s t s m) : bt m t = true ↔ Relation.TransGen w t t := by
  refine ⟨h.2.1 t, fun hg => ?_⟩
  have hc : cy_cl w m := by
    rcases h.2.2 with z | z
    · exact z
    · intro a o ha hw
      have := cy_cnt_all (p := fun a => bt m a) (l := List.range s) (by rw [List.length_range]; exact z) o (List.mem_range.mpr (hs a o hw).2)
      exact this
  have : ∀ o, Relation.TransGen w t o → bt m o = true := by
    intro o ho
    induction ho with
    | single hw => exact h.1 _ hw
    | tail _ hw ih => exact hc _ _ ih hw
  exact this t hg
theorem cy_step {w : Nat → Nat → Prop} {s t k : Nat} {m m' : Int32} (hs : ∀ a b, w a b → a < s ∧ b < s) (h : cy_I w s t k m) (h1 : ∀ o, bt m o = true → bt m' o = true) (h2 : ∀ a o, bt m a = true → w a o → bt m' o = true) (h3 : ∀ o, bt m' o = true → Relation.TransGen w t o) (h4 : cy_cl w m → ∀ o, bt m' o = bt m o) : cy_I w s t (k + 1) m' := by
  refine ⟨fun o ho => h1 o (h.1 o ho), h3, ?_⟩
  by_cases hc : cy_cl w m
  · refine Or.inl (fun a o ha hw => ?_)
    rw [h4 hc] at ha ⊢
    exact hc a o ha hw
  · refine Or.inr ?_
    have hk : k ≤ cy_n s m := by
      rcases h.2.2 with z | z
      · exact absurd z hc
      · exact z
    have hne : ∃ a o, bt m a = true ∧ w a o ∧ bt m o = false := by
      apply Classical.byContradiction
      intro hn
      apply hc
      intro a o ha hw
      cases hb : bt m o
      · exact absurd ⟨a, o, ha, hw, hb⟩ hn
      · rfl
    obtain ⟨a, o, ha, hw, hb⟩ := hne
    have := cy_cnt' (p := fun a => bt m a) (q := fun a => bt m' a) (l := List.range s) (fun x _ hx => h1 x hx) ⟨o, List.mem_range.mpr (hs a o hw).2, h2 a o ha hw, hb⟩
    unfold cy_n at hk ⊢
    omega
section
variable {g_slots g_capacity : Int32} {g_clock : Int64} {b_states b_values b_reads b_writes b_touched b_beforeStates b_beforeValues b_phases b_outcomes b_used b_kinds b_firsts b_seconds : Nat → Int32} {b_begun b_accepted : Nat → Int64} {b_rowCounts b_rowKeys b_rowValues : Nat → Int32}
theorem wf_s {ph st kd fi se rd wr us rc : Nat → Int32} {s : Nat} (hT : dd_T s ph kd fi se us rc) : ∀ a b, wf ph st kd fi se rd wr a b → a < s ∧ b < s := by
  intro a b h
  refine ⟨?_, ?_⟩
  · rcases (hT a).1 with z | z
    · rw [h.1] at z; exact absurd z (by decide)
    · exact z.1
  · rcases (hT b).1 with z | z
    · exact absurd z h.2.2.1
    · exact z.1
theorem yw_blocked {post : Int32 → Prop} {s t : Nat} (hs : g_slots = nI s) (hs5 : s ≤ 5) (hT : dd_T s b_phases b_kinds b_firsts b_seconds b_used b_rowCounts) (ht : t < s) (h1 : (∃ o, wf b_phases b_states b_kinds b_firsts b_seconds b_reads b_writes t o) → post 1) (h0 : (¬ ∃ o, wf b_phases b_states b_kinds b_firsts b_seconds b_reads b_writes t o) → post 0) : wpY_blocked post (g_slots, g_capacity, g_clock, b_states, b_values, b_reads, b_writes, b_touched, b_beforeStates, b_beforeValues, b_phases, b_outcomes, b_used, b_kinds, b_firsts, b_seconds, b_begun, b_accepted, b_rowCounts, b_rowKeys, b_rowValues) (nI t) := by
  have lp : ∀ (d i n : Nat), i + d = s → d < n → (∀ o, o < i → ¬ wf b_phases b_states b_kinds b_firsts b_seconds b_reads b_writes t o) → wY_blocked_2 post (nI t) g_slots g_capacity g_clock b_states b_values b_reads b_writes b_touched b_beforeStates b_beforeValues b_phases b_outcomes b_used b_kinds b_firsts b_seconds b_begun b_accepted b_rowCounts b_rowKeys b_rowValues n (nI i) := by
    intro d
    induction d with
    | zero =>
      intro i n hi hn hno
      obtain ⟨m, rfl⟩ : ∃ m, n = m + 1 := ⟨n - 1, by omega⟩
      refine br_t (by rw [hs]; exact nI_le (by omega) (by omega)) (h0 ?_)
      rintro ⟨o, ho⟩
      exact hno o (by have := (wf_s hT t o ho).2; omega) ho
    | succ d ih =>
      intro i n hi hn hno
      obtain ⟨m, rfl⟩ : ∃ m, n = m + 1 := ⟨n - 1, by omega⟩
      refine br_f (by rw [hs]; exact nI_ge (by omega) (by omega)) ?_
      refine yw_waitsFor hs hs5 hT ht (by omega) (fun z => br_f (by decide) (h1 ⟨i, z⟩)) (fun z => br_t rfl (nm_r (nI_1 i) (ih (i + 1) m (by omega) (by omega) ?_)))
      intro o ho
      by_cases e : o = i
      · rw [e]; exact z
      · exact hno o (by omega)
  exact ⟨s + 1, lp s 0 (s + 1) (by omega) (by omega) (fun o ho => by omega)⟩
theorem yw_succ {post : Int32 → Prop} {s t : Nat} (hs : g_slots = nI s) (hs5 : s ≤ 5) (hT : dd_T s b_phases b_kinds b_firsts b_seconds b_used b_rowCounts) (ht : t < s) (h : ∀ m, (∀ o, bt m o = true ↔ wf b_phases b_states b_kinds b_firsts b_seconds b_reads b_writes t o) → post m) : wpY_successors post (g_slots, g_capacity, g_clock, b_states, b_values, b_reads, b_writes, b_touched, b_beforeStates, b_beforeValues, b_phases, b_outcomes, b_used, b_kinds, b_firsts, b_seconds, b_begun, b_accepted, b_rowCounts, b_rowKeys, b_rowValues) (nI t) := by
  have lp : ∀ (d i n : Nat) (m : Int32), i + d = s → d < n → (∀ o, bt m o = true ↔ o < i ∧ wf b_phases b_states b_kinds b_firsts b_seconds b_reads b_writes t o) → wY_successors_4 post (nI t) g_slots g_capacity g_clock b_states b_values b_reads b_writes b_touched b_beforeStates b_beforeValues b_phases b_outcomes b_used b_kinds b_firsts b_seconds b_begun b_accepted b_rowCounts b_rowKeys b_rowValues n m (nI i) := by
    intro d
    induction d with
    | zero =>
      intro i n m hi hn hm
      obtain ⟨n, rfl⟩ : ∃ m, n = m + 1 := ⟨n - 1, by omega⟩
      refine br_t (by rw [hs]; exact nI_le (by omega) (by omega)) (h m (fun o => ?_))
      rw [hm o]
      refine ⟨fun z => z.2, fun z => ⟨?_, z⟩⟩
      have := (wf_s hT t o z).2
      omega
    | succ d ih =>
      intro i n m hi hn hm
      obtain ⟨n, rfl⟩ : ∃ m, n = m + 1 := ⟨n - 1, by omega⟩
      refine br_f (by rw [hs]; exact nI_ge (by omega) (by omega)) ?_
      refine yw_waitsFor hs hs5 hT ht (by omega) (fun z => br_f (by decide) (nm_e (nm_r (nI_1 i) (ih (i + 1) n _ (by omega) (by omega) (fun o => ?_))))) (fun z => br_t rfl (nm_r (nI_1 i) (ih (i + 1) n m (by omega) (by omega) (fun o => ?_))))
      · rw [bk_or (by omega), Bool.or_eq_true, hm o, decide_eq_true_iff]
        constructor
        · rintro (g | g)
          · exact ⟨by omega, g.2⟩
          · rw [g]; exact ⟨by omega, z⟩
        · intro g
          by_cases e : o = i
          · exact Or.inr e
          · exact Or.inl ⟨by omega, g.2⟩
      · rw [hm o]
        constructor
        · intro g; exact ⟨by omega, g.2⟩
        · intro g
          refine ⟨?_, g.2⟩
          by_cases e : o = i
          · rw [e] at g; exact absurd g.2 z
          · omega
  exact ⟨s + 1, lp s 0 (s + 1) 0 (by omega) (by omega) (fun o => by rw [b_0]; simp)⟩
theorem yw_sweep {post : Int32 → Prop} {J : Int32 → Int32 → Prop} {x1 : Int32} {s t k : Nat} (hs : g_slots = nI s) (hs5 : s ≤ 5) (hT : dd_T s b_phases b_kinds b_firsts b_seconds b_used b_rowCounts) : ∀ (d i n : Nat) (m : Int32), i + d = s → d < n → (∀ o, bt m o = true → Relation.TransGen (wf b_phases b_states b_kinds b_firsts b_seconds b_reads b_writes) t o) → (∀ m', (∀ o, bt m o = true → bt m' o = true) → (∀ a o, i ≤ a → bt m a = true → wf b_phases b_states b_kinds b_firsts b_seconds b_reads b_writes a o → bt m' o = true) → (∀ o, bt m' o = true → Relation.TransGen (wf b_phases b_states b_kinds b_firsts b_seconds b_reads b_writes) t o) → (cy_cl (wf b_phases b_states b_kinds b_firsts b_seconds b_reads b_writes) m → ∀ o, bt m' o = bt m o) → J m' (nI (k + 1))) → wY_onCycle_19 post J x1 (nI k) g_slots g_capacity g_clock b_states b_values b_reads b_writes b_touched b_beforeStates b_beforeValues b_phases b_outcomes b_used b_kinds b_firsts b_seconds b_begun b_accepted b_rowCounts b_rowKeys b_rowValues n m (nI i)
  | 0, i, n + 1, m, hi, hn, hg, h => by
    refine br_t (by rw [hs]; exact nI_le (by omega) (by omega)) (nm_r (nI_1 k) (h m (fun _ z => z) (fun a o ha _ hw => ?_) hg (fun _ _ => rfl)))
    have := (wf_s hT a o hw).1
    omega
  | d + 1, i, n + 1, m, hi, hn, hg, h => by
    refine br_f (by rw [hs]; exact nI_ge (by omega) (by omega)) ?_
    refine br_c (fun z => nm_r (nI_1 i) ?_) (fun z => ?_)
    · rw [bk_shr0 (by omega)] at z
      refine yw_sweep hs hs5 hT d (i + 1) n m (by omega) (by omega) hg (fun m' h1 h2 h3 h4 => h m' h1 (fun a o ha hb hw => ?_) h3 h4)
      by_cases e : a = i
      · rw [e, z] at hb; exact absurd hb (by decide)
      · exact h2 a o (by omega) hb hw
    · rw [bk_shr0 (by omega)] at z
      have z' : bt m i = true := by cases hb : bt m i; exact absurd hb z; rfl
      refine yw_succ hs hs5 hT (by omega) (fun q hq => nm_e (nm_r (nI_1 i) ?_))
      refine yw_sweep hs hs5 hT d (i + 1) n (m ||| q) (by omega) (by omega) ?_ (fun m' h1 h2 h3 h4 => h m' (fun o ho => h1 o (by rw [b_or, ho]; rfl)) (fun a o ha hb hw => ?_) h3 (fun hc o => ?_))
      · intro o ho
        rw [b_or, Bool.or_eq_true] at ho
        rcases ho with ho | ho
        · exact hg o ho
        · exact Relation.TransGen.tail (hg i z') ((hq o).mp ho)
      · by_cases e : a = i
        · rw [e] at hw
          exact h1 o (by rw [b_or, (hq o).mpr hw]; simp)
        · exact h2 a o (by omega) (by rw [b_or, hb]; rfl) hw
      · have e : ∀ o, bt (m ||| q) o = bt m o := by
          intro o
          rw [b_or]
          cases hb : bt q o
          · simp
          · rw [hc i o z' ((hq o).mp hb)]; rfl
        rw [h4 ?_ o, e o]
        intro a o' ha hw
        rw [e] at ha ⊢
        exact hc a o' ha hw
theorem yw_onCycle {post : Int32 → Prop} {s t : Nat} (hs : g_slots = nI s) (hs5 : s ≤ 5) (hT : dd_T s b_phases b_kinds b_firsts b_seconds b_used b_rowCounts) (ht : t < s) (h1 : Relation.TransGen (wf b_phases b_states b_kinds b_firsts b_seconds b_reads b_writes) t t → post 1) (h0 : ¬ Relation.TransGen (wf b_phases b_states b_kinds b_firsts b_seconds b_reads b_writes) t t → post 0) : wpY_onCycle post (g_slots, g_capacity, g_clock, b_states, b_values, b_reads, b_writes, b_touched, b_beforeStates, b_beforeValues, b_phases, b_outcomes, b_used, b_kinds, b_firsts, b_seconds, b_begun, b_accepted, b_rowCounts, b_rowKeys, b_rowValues) (nI t) := by
  refine yw_succ hs hs5 hT ht (fun m0 hm0 => ⟨s + 1, ?_⟩)
  have lp : ∀ (d k n : Nat) (m : Int32), k + d = s → d < n → cy_I (wf b_phases b_states b_kinds b_firsts b_seconds b_reads b_writes) s t k m → wY_onCycle_8 post (nI t) g_slots g_capacity g_clock b_states b_values b_reads b_writes b_touched b_beforeStates b_beforeValues b_phases b_outcomes b_used b_kinds b_firsts b_seconds b_begun b_accepted b_rowCounts b_rowKeys b_rowValues n m (nI k) := by
    intro d
    induction d with
    | zero =>
      intro k n m hk hn hI
      obtain ⟨n, rfl⟩ : ∃ m, n = m + 1 := ⟨n - 1, by omega⟩
      have ek : k = s := by omega
      subst ek
      have hf := cy_fin (wf_s hT) hI
      refine br_t (by rw [hs]; exact nI_le (by omega) (by omega)) (br_c (fun z => h0 ?_) (fun z => h1 ?_))
      · rw [bk_shr0 (by omega)] at z
        intro g
        rw [hf.mpr g] at z
        exact absurd z (by decide)
      · rw [bk_shr0 (by omega)] at z
        refine hf.mp ?_
        cases hb : bt m t
        · exact absurd hb z
        · rfl
    | succ d ih =>
      intro k n m hk hn hI
      obtain ⟨n, rfl⟩ : ∃ m, n = m + 1 := ⟨n - 1, by omega⟩
      refine br_f (by rw [hs]; exact nI_ge (by omega) (by omega)) ⟨s + 1, ?_⟩
      refine yw_sweep (t := t) hs hs5 hT s 0 (s + 1) m (by omega) (by omega) hI.2.1 (fun m' g1 g2 g3 g4 => ih (k + 1) n m' (by omega) (by omega) (cy_step (wf_s hT) hI g1 (fun a o => g2 a o (by omega)) g3 g4))
  exact lp s 0 (s + 1) m0 (by omega) (by omega) ⟨fun o ho => (hm0 o).mpr ho, fun o ho => Relation.TransGen.single ((hm0 o).mp ho), Or.inr (Nat.zero_le _)⟩
end
end
section
/-! choosing: in lockstep -/
def zz_oldP (f_END f_NOBODY f_FAN f_FILL f_STRIDE f_DEPTH f_PAGES f_ROWS f_slots f_capacity f_entryCount f_freeRecs f_freePages f_root f_height : Int32) (f_clock : Int64) (a_recKey a_recState a_recValue a_next a_prev a_readers a_writers a_gapReaders a_owner a_baseState a_baseValue a_recFree a_pageFill a_pageSlot a_pageTop a_pageFree a_pathPage a_pathSlot a_phaseOf a_outcomeOf a_used : Nat → Int32) (a_beganAt : Nat → Int64) (a_opKind a_opFirst a_opSecond : Nat → Int32) (a_acceptedAt : Nat → Int64) (a_rowCount a_rowKeys a_rowValues a_reach : Nat → Int32) (b_states b_values b_reads b_writes b_touched b_beforeStates b_beforeValues : Nat → Int32) (s d i : Nat) (x : Int32) : Prop := ∃ r, (r = -1 ∨ ∃ b, b < s ∧ r = nI b ∧ a_phaseOf b = 2 ∧ ∀ o, ¬ wf a_phaseOf b_states a_opKind a_opFirst a_opSecond b_reads b_writes b o) ∧
    (∀ (post : Int32 → SX → Prop) (n : Nat) (a_pathPage a_pathSlot : Nat → Int32), d < n → (∀ pp sl, post r (f_END, f_NOBODY, f_FAN, f_FILL, f_STRIDE, f_DEPTH, f_PAGES, f_ROWS, f_slots, f_capacity, f_entryCount, f_freeRecs, f_freePages, f_root, f_height, f_clock, a_recKey, a_recState, a_recValue, a_next, a_prev, a_readers, a_writers, a_gapReaders, a_owner, a_baseState, a_baseValue, a_recFree, a_pageFill, a_pageSlot, a_pageTop, a_pageFree, pp, sl, a_phaseOf, a_outcomeOf, a_used, a_beganAt, a_opKind, a_opFirst, a_opSecond, a_acceptedAt, a_rowCount, a_rowKeys, a_rowValues, a_reach)) → wX_oldestReady_4 post n x (nI i) f_END f_NOBODY f_FAN f_FILL f_STRIDE f_DEPTH f_PAGES f_ROWS f_slots f_capacity f_entryCount f_freeRecs f_freePages f_root f_height f_clock a_recKey a_recState a_recValue a_next a_prev a_readers a_writers a_gapReaders a_owner a_baseState a_baseValue a_recFree a_pageFill a_pageSlot a_pageTop a_pageFree a_pathPage a_pathSlot a_phaseOf a_outcomeOf a_used a_beganAt a_opKind a_opFirst a_opSecond a_acceptedAt a_rowCount a_rowKeys a_rowValues a_reach) ∧
    (∀ (post : SY → Prop) J (x1 : Int32) (n : Nat), d < n → (∀ n', wY_settle_12 post J x1 f_slots f_capacity f_clock b_states b_values b_reads b_writes b_touched b_beforeStates b_beforeValues a_phaseOf a_outcomeOf a_used a_opKind a_opFirst a_opSecond a_beganAt a_acceptedAt a_rowCount a_rowKeys a_rowValues (n' + 1) r (nI s)) → wY_settle_12 post J x1 f_slots f_capacity f_clock b_states b_values b_reads b_writes b_touched b_beforeStates b_beforeValues a_phaseOf a_outcomeOf a_used a_opKind a_opFirst a_opSecond a_beganAt a_acceptedAt a_rowCount a_rowKeys a_rowValues n x (nI i))
def zz_yngP (f_END f_NOBODY f_FAN f_FILL f_STRIDE f_DEPTH f_PAGES f_ROWS f_slots f_capacity f_entryCount f_freeRecs f_freePages f_root f_height : Int32) (f_clock : Int64) (a_recKey a_recState a_recValue a_next a_prev a_readers a_writers a_gapReaders a_owner a_baseState a_baseValue a_recFree a_pageFill a_pageSlot a_pageTop a_pageFree a_pathPage a_pathSlot a_phaseOf a_outcomeOf a_used : Nat → Int32) (a_beganAt : Nat → Int64) (a_opKind a_opFirst a_opSecond : Nat → Int32) (a_acceptedAt : Nat → Int64) (a_rowCount a_rowKeys a_rowValues a_reach : Nat → Int32) (b_states b_values b_reads b_writes b_touched b_beforeStates b_beforeValues : Nat → Int32) (s d i : Nat) (x : Int32) : Prop := ∃ r, (r = -1 ∨ ∃ b, b < s ∧ r = nI b ∧ Relation.TransGen (wf a_phaseOf b_states a_opKind a_opFirst a_opSecond b_reads b_writes) b b) ∧
    (∀ (post : Int32 → SX → Prop) (n : Nat), d < n → post r (f_END, f_NOBODY, f_FAN, f_FILL, f_STRIDE, f_DEPTH, f_PAGES, f_ROWS, f_slots, f_capacity, f_entryCount, f_freeRecs, f_freePages, f_root, f_height, f_clock, a_recKey, a_recState, a_recValue, a_next, a_prev, a_readers, a_writers, a_gapReaders, a_owner, a_baseState, a_baseValue, a_recFree, a_pageFill, a_pageSlot, a_pageTop, a_pageFree, a_pathPage, a_pathSlot, a_phaseOf, a_outcomeOf, a_used, a_beganAt, a_opKind, a_opFirst, a_opSecond, a_acceptedAt, a_rowCount, a_rowKeys, a_rowValues, a_reach) → wX_youngestOnCycle_108 post f_END f_NOBODY f_FAN f_FILL f_STRIDE f_DEPTH f_PAGES f_ROWS f_slots f_capacity f_entryCount f_freeRecs f_freePages f_root f_height f_clock a_recKey a_recState a_recValue a_next a_prev a_readers a_writers a_gapReaders a_owner a_baseState a_baseValue a_recFree a_pageFill a_pageSlot a_pageTop a_pageFree a_pathPage a_pathSlot a_phaseOf a_outcomeOf a_used a_beganAt a_opKind a_opFirst a_opSecond a_acceptedAt a_rowCount a_rowKeys a_rowValues a_reach n x (nI i)) ∧
    (∀ (post : SY → Prop) J (x1 : Int32) (n : Nat), d < n → (∀ n', wY_settle_83 post J x1 f_slots f_capacity f_clock b_states b_values b_reads b_writes b_touched b_beforeStates b_beforeValues a_phaseOf a_outcomeOf a_used a_opKind a_opFirst a_opSecond a_beganAt a_acceptedAt a_rowCount a_rowKeys a_rowValues (n' + 1) r (nI s)) → wY_settle_83 post J x1 f_slots f_capacity f_clock b_states b_values b_reads b_writes b_touched b_beforeStates b_beforeValues a_phaseOf a_outcomeOf a_used a_opKind a_opFirst a_opSecond a_beganAt a_acceptedAt a_rowCount a_rowKeys a_rowValues n x (nI i))
section
variable {f_END f_NOBODY f_FAN f_FILL f_STRIDE f_DEPTH f_PAGES f_ROWS f_slots f_capacity f_entryCount f_freeRecs f_freePages f_root f_height : Int32} {f_clock : Int64} {a_recKey a_recState a_recValue a_next a_prev a_readers a_writers a_gapReaders a_owner a_baseState a_baseValue a_recFree a_pageFill a_pageSlot a_pageTop a_pageFree a_pathPage a_pathSlot a_phaseOf a_outcomeOf a_used : Nat → Int32} {a_beganAt : Nat → Int64} {a_opKind a_opFirst a_opSecond : Nat → Int32} {a_acceptedAt : Nat → Int64} {a_rowCount a_rowKeys a_rowValues a_reach : Nat → Int32} {b_states b_values b_reads b_writes b_touched b_beforeStates b_beforeValues : Nat → Int32}
/-- the oldest that is ready -/
theorem zz_old {s : Nat} {L : List Nat} {ky : Nat → Nat} (hs : f_slots = nI s) (hs5 : s ≤ 5) (hT : dd_T s a_phaseOf a_opKind a_opFirst a_opSecond a_used a_rowCount) (hS : rg_S L ky a_recKey a_next a_prev a_recFree f_freeRecs f_entryCount) (hR : rg_T a_pageFill a_pageSlot a_pageTop a_pageFree f_freePages f_root f_height L ky) (hD : dd_D L ky a_phaseOf a_recState a_recValue a_readers a_writers a_gapReaders a_owner a_baseState a_baseValue b_states b_values b_reads b_writes b_touched b_beforeStates b_beforeValues) : ∀ (d i : Nat) (x : Int32), i + d = s → (x = -1 ∨ ∃ b, b < s ∧ x = nI b ∧ a_phaseOf b = 2 ∧ ∀ o, ¬ wf a_phaseOf b_states a_opKind a_opFirst a_opSecond b_reads b_writes b o) → zz_oldP f_END f_NOBODY f_FAN f_FILL f_STRIDE f_DEPTH f_PAGES f_ROWS f_slots f_capacity f_entryCount f_freeRecs f_freePages f_root f_height f_clock a_recKey a_recState a_recValue a_next a_prev a_readers a_writers a_gapReaders a_owner a_baseState a_baseValue a_recFree a_pageFill a_pageSlot a_pageTop a_pageFree a_pathPage a_pathSlot a_phaseOf a_outcomeOf a_used a_beganAt a_opKind a_opFirst a_opSecond a_acceptedAt a_rowCount a_rowKeys a_rowValues a_reach b_states b_values b_reads b_writes b_touched b_beforeStates b_beforeValues s d i x
  | 0, i, x, hi, hx => by
    have e : i = s := by omega
    subst e
    refine ⟨x, hx, fun post n pp sl hn h => ?_, fun post J x1 n hn h => ?_⟩
    · obtain ⟨n, rfl⟩ : ∃ m, n = m + 1 := ⟨n - 1, by omega⟩
      exact br_t (by rw [hs]; exact nI_le (Nat.le_refl _) (by omega)) (h pp sl)
    · obtain ⟨n, rfl⟩ : ∃ m, n = m + 1 := ⟨n - 1, by omega⟩
      exact h n
  | d + 1, i, x, hi, hx => by
    have vi : vp_in (nI i) 5 := vp_in_nI (by omega) (by omega)
    have ci : (nI i).toNatClampNeg = i := nI_clamp (by omega)
    have hns : ¬ f_slots ≤ nI i := by rw [hs]; exact nI_ge (by omega) (by omega)
    -- what the next best is
    have skip : (∀ (post : SY → Prop) J (x1 : Int32) (n : Nat), wY_settle_12 post J x1 f_slots f_capacity f_clock b_states b_values b_reads b_writes b_touched b_beforeStates b_beforeValues a_phaseOf a_outcomeOf a_used a_opKind a_opFirst a_opSecond a_beganAt a_acceptedAt a_rowCount a_rowKeys a_rowValues n x (nI (i + 1)) → wY_settle_12 post J x1 f_slots f_capacity f_clock b_states b_values b_reads b_writes b_touched b_beforeStates b_beforeValues a_phaseOf a_outcomeOf a_used a_opKind a_opFirst a_opSecond a_beganAt a_acceptedAt a_rowCount a_rowKeys a_rowValues (n + 1) x (nI i)) → (∀ (post : Int32 → SX → Prop) (n : Nat) (a_pathPage a_pathSlot : Nat → Int32), (∀ pp sl, wX_oldestReady_4 post n x (nI (i + 1)) f_END f_NOBODY f_FAN f_FILL f_STRIDE f_DEPTH f_PAGES f_ROWS f_slots f_capacity f_entryCount f_freeRecs f_freePages f_root f_height f_clock a_recKey a_recState a_recValue a_next a_prev a_readers a_writers a_gapReaders a_owner a_baseState a_baseValue a_recFree a_pageFill a_pageSlot a_pageTop a_pageFree pp sl a_phaseOf a_outcomeOf a_used a_beganAt a_opKind a_opFirst a_opSecond a_acceptedAt a_rowCount a_rowKeys a_rowValues a_reach) → wX_oldestReady_4 post (n + 1) x (nI i) f_END f_NOBODY f_FAN f_FILL f_STRIDE f_DEPTH f_PAGES f_ROWS f_slots f_capacity f_entryCount f_freeRecs f_freePages f_root f_height f_clock a_recKey a_recState a_recValue a_next a_prev a_readers a_writers a_gapReaders a_owner a_baseState a_baseValue a_recFree a_pageFill a_pageSlot a_pageTop a_pageFree a_pathPage a_pathSlot a_phaseOf a_outcomeOf a_used a_beganAt a_opKind a_opFirst a_opSecond a_acceptedAt a_rowCount a_rowKeys a_rowValues a_reach) → zz_oldP f_END f_NOBODY f_FAN f_FILL f_STRIDE f_DEPTH f_PAGES f_ROWS f_slots f_capacity f_entryCount f_freeRecs f_freePages f_root f_height f_clock a_recKey a_recState a_recValue a_next a_prev a_readers a_writers a_gapReaders a_owner a_baseState a_baseValue a_recFree a_pageFill a_pageSlot a_pageTop a_pageFree a_pathPage a_pathSlot a_phaseOf a_outcomeOf a_used a_beganAt a_opKind a_opFirst a_opSecond a_acceptedAt a_rowCount a_rowKeys a_rowValues a_reach b_states b_values b_reads b_writes b_touched b_beforeStates b_beforeValues s (d + 1) i x := by
      intro hY hX
      obtain ⟨r, g1, g2, g3⟩ := zz_old hs hs5 hT hS hR hD d (i + 1) x (by omega) hx
      refine ⟨r, g1, fun post n a_pathPage a_pathSlot hn h => ?_, fun post J x1 n hn h => ?_⟩
      · obtain ⟨n, rfl⟩ : ∃ m, n = m + 1 := ⟨n - 1, by omega⟩
        exact hX post n a_pathPage a_pathSlot (fun pp sl => g2 post n pp sl (by omega) h)
      · obtain ⟨n, rfl⟩ : ∃ m, n = m + 1 := ⟨n - 1, by omega⟩
        exact hY post J x1 n (g3 post J x1 n (by omega) h)
    by_cases p2 : a_phaseOf i = 2
    · by_cases hw : ∃ o, wf a_phaseOf b_states a_opKind a_opFirst a_opSecond b_reads b_writes i o
      · -- blocked
        have hY : ∀ (post : SY → Prop) J (x1 : Int32) (n : Nat), wY_settle_12 post J x1 f_slots f_capacity f_clock b_states b_values b_reads b_writes b_touched b_beforeStates b_beforeValues a_phaseOf a_outcomeOf a_used a_opKind a_opFirst a_opSecond a_beganAt a_acceptedAt a_rowCount a_rowKeys a_rowValues n x (nI (i + 1)) → wY_settle_12 post J x1 f_slots f_capacity f_clock b_states b_values b_reads b_writes b_touched b_beforeStates b_beforeValues a_phaseOf a_outcomeOf a_used a_opKind a_opFirst a_opSecond a_beganAt a_acceptedAt a_rowCount a_rowKeys a_rowValues (n + 1) x (nI i) := by
          intro post J x1 n h
          refine br_f hns ⟨vi, ?_⟩
          rw [ci]
          refine br_t p2 (yw_blocked hs hs5 hT (by omega) (fun _ => br_f (by decide) (nm_r (nI_1 i) h)) (fun z => absurd hw z))
        have h42 : ∀ (post : Int32 → SX → Prop) (n : Nat) (a_pathPage a_pathSlot : Nat → Int32), (∀ pp sl, wX_oldestReady_4 post n x (nI (i + 1)) f_END f_NOBODY f_FAN f_FILL f_STRIDE f_DEPTH f_PAGES f_ROWS f_slots f_capacity f_entryCount f_freeRecs f_freePages f_root f_height f_clock a_recKey a_recState a_recValue a_next a_prev a_readers a_writers a_gapReaders a_owner a_baseState a_baseValue a_recFree a_pageFill a_pageSlot a_pageTop a_pageFree pp sl a_phaseOf a_outcomeOf a_used a_beganAt a_opKind a_opFirst a_opSecond a_acceptedAt a_rowCount a_rowKeys a_rowValues a_reach) → wX_oldestReady_42 post (wX_oldestReady_4 post n) x (nI i) f_END f_NOBODY f_FAN f_FILL f_STRIDE f_DEPTH f_PAGES f_ROWS f_slots f_capacity f_entryCount f_freeRecs f_freePages f_root f_height f_clock a_recKey a_recState a_recValue a_next a_prev a_readers a_writers a_gapReaders a_owner a_baseState a_baseValue a_recFree a_pageFill a_pageSlot a_pageTop a_pageFree a_pathPage a_pathSlot a_phaseOf a_outcomeOf a_used a_beganAt a_opKind a_opFirst a_opSecond a_acceptedAt a_rowCount a_rowKeys a_rowValues a_reach := by
          intro post n a_pathPage a_pathSlot h
          refine xw_blk hs5 hT hS hR hD (by omega) p2 (fun m pp sl hm => br_f ?_ (nm_r (nI_1 i) (h pp sl)))
          intro e
          obtain ⟨o, ho⟩ := hw
          have := (hm o).mpr ho
          rw [e, b_0] at this
          exact absurd this (by decide)
        refine skip hY (fun post n a_pathPage a_pathSlot h => ?_)
        refine br_f hns ⟨vi, ?_⟩
        rw [ci]
        refine br_t p2 (br_c (fun _ => h42 post n _ _ h) (fun z => ?_))
        rcases hx with e | ⟨b, hb, e, _⟩
        · rw [e] at z; exact absurd (by decide) z
        · subst e
          refine ⟨vi, vp_in_nI (by omega) (by omega), br_c (fun _ => nm_r (nI_1 i) (h _ _)) (fun _ => h42 post n _ _ h)⟩
      · -- ready
        have h42 : ∀ (post : Int32 → SX → Prop) (n : Nat) (a_pathPage a_pathSlot : Nat → Int32), (∀ pp sl, wX_oldestReady_4 post n (nI i) (nI (i + 1)) f_END f_NOBODY f_FAN f_FILL f_STRIDE f_DEPTH f_PAGES f_ROWS f_slots f_capacity f_entryCount f_freeRecs f_freePages f_root f_height f_clock a_recKey a_recState a_recValue a_next a_prev a_readers a_writers a_gapReaders a_owner a_baseState a_baseValue a_recFree a_pageFill a_pageSlot a_pageTop a_pageFree pp sl a_phaseOf a_outcomeOf a_used a_beganAt a_opKind a_opFirst a_opSecond a_acceptedAt a_rowCount a_rowKeys a_rowValues a_reach) → wX_oldestReady_42 post (wX_oldestReady_4 post n) x (nI i) f_END f_NOBODY f_FAN f_FILL f_STRIDE f_DEPTH f_PAGES f_ROWS f_slots f_capacity f_entryCount f_freeRecs f_freePages f_root f_height f_clock a_recKey a_recState a_recValue a_next a_prev a_readers a_writers a_gapReaders a_owner a_baseState a_baseValue a_recFree a_pageFill a_pageSlot a_pageTop a_pageFree a_pathPage a_pathSlot a_phaseOf a_outcomeOf a_used a_beganAt a_opKind a_opFirst a_opSecond a_acceptedAt a_rowCount a_rowKeys a_rowValues a_reach := by
          intro post n a_pathPage a_pathSlot h
          refine xw_blk hs5 hT hS hR hD (by omega) p2 (fun m pp sl hm => br_t ?_ (nm_r (nI_1 i) (h pp sl)))
          rw [bk_z]
          intro o
          cases hb : bt m o
          · rfl
          · exact absurd ⟨o, (hm o).mp hb⟩ hw
        have hYb : ∀ (post : SY → Prop) J (x1 : Int32) (n : Nat), (((x < 0 → wY_settle_12 post J x1 f_slots f_capacity f_clock b_states b_values b_reads b_writes b_touched b_beforeStates b_beforeValues a_phaseOf a_outcomeOf a_used a_opKind a_opFirst a_opSecond a_beganAt a_acceptedAt a_rowCount a_rowKeys a_rowValues n (nI i) (nI (i + 1))) ∧ (¬ x < 0 → vp_in (nI i) 5 ∧ (vp_in x 5 ∧ ((a_acceptedAt x.toNatClampNeg ≤ a_acceptedAt i → wY_settle_12 post J x1 f_slots f_capacity f_clock b_states b_values b_reads b_writes b_touched b_beforeStates b_beforeValues a_phaseOf a_outcomeOf a_used a_opKind a_opFirst a_opSecond a_beganAt a_acceptedAt a_rowCount a_rowKeys a_rowValues n x (nI (i + 1))) ∧ (¬ a_acceptedAt x.toNatClampNeg ≤ a_acceptedAt i → wY_settle_12 post J x1 f_slots f_capacity f_clock b_states b_values b_reads b_writes b_touched b_beforeStates b_beforeValues a_phaseOf a_outcomeOf a_used a_opKind a_opFirst a_opSecond a_beganAt a_acceptedAt a_rowCount a_rowKeys a_rowValues n (nI i) (nI (i + 1))))))) : Prop) → wY_settle_12 post J x1 f_slots f_capacity f_clock b_states b_values b_reads b_writes b_touched b_beforeStates b_beforeValues a_phaseOf a_outcomeOf a_used a_opKind a_opFirst a_opSecond a_beganAt a_acceptedAt a_rowCount a_rowKeys a_rowValues (n + 1) x (nI i) := by
          intro post J x1 n h
          refine br_f hns ⟨vi, ?_⟩
          rw [ci]
          refine br_t p2 (yw_blocked hs hs5 hT (by omega) (fun z => absurd z hw) (fun _ => br_t rfl (br_c (fun z => nm_r (nI_1 i) (h.1 z)) (fun z => ?_))))
          have h2 := h.2 z
          exact ⟨h2.1, h2.2.1, br_c (fun z1 => nm_r (nI_1 i) (h2.2.2.1 z1)) (fun z1 => nm_r (nI_1 i) (h2.2.2.2 z1))⟩
        have hnew : (nI i = -1 ∨ ∃ b, b < s ∧ nI i = nI b ∧ a_phaseOf b = 2 ∧ ∀ o, ¬ wf a_phaseOf b_states a_opKind a_opFirst a_opSecond b_reads b_writes b o) := Or.inr ⟨i, by omega, rfl, p2, fun o ho => hw ⟨o, ho⟩⟩
        have take : (∀ (post : SY → Prop) J (x1 : Int32) (n : Nat), wY_settle_12 post J x1 f_slots f_capacity f_clock b_states b_values b_reads b_writes b_touched b_beforeStates b_beforeValues a_phaseOf a_outcomeOf a_used a_opKind a_opFirst a_opSecond a_beganAt a_acceptedAt a_rowCount a_rowKeys a_rowValues n (nI i) (nI (i + 1)) → wY_settle_12 post J x1 f_slots f_capacity f_clock b_states b_values b_reads b_writes b_touched b_beforeStates b_beforeValues a_phaseOf a_outcomeOf a_used a_opKind a_opFirst a_opSecond a_beganAt a_acceptedAt a_rowCount a_rowKeys a_rowValues (n + 1) x (nI i)) → (∀ (post : Int32 → SX → Prop) (n : Nat) (a_pathPage a_pathSlot : Nat → Int32), (∀ pp sl, wX_oldestReady_4 post n (nI i) (nI (i + 1)) f_END f_NOBODY f_FAN f_FILL f_STRIDE f_DEPTH f_PAGES f_ROWS f_slots f_capacity f_entryCount f_freeRecs f_freePages f_root f_height f_clock a_recKey a_recState a_recValue a_next a_prev a_readers a_writers a_gapReaders a_owner a_baseState a_baseValue a_recFree a_pageFill a_pageSlot a_pageTop a_pageFree pp sl a_phaseOf a_outcomeOf a_used a_beganAt a_opKind a_opFirst a_opSecond a_acceptedAt a_rowCount a_rowKeys a_rowValues a_reach) → wX_oldestReady_4 post (n + 1) x (nI i) f_END f_NOBODY f_FAN f_FILL f_STRIDE f_DEPTH f_PAGES f_ROWS f_slots f_capacity f_entryCount f_freeRecs f_freePages f_root f_height f_clock a_recKey a_recState a_recValue a_next a_prev a_readers a_writers a_gapReaders a_owner a_baseState a_baseValue a_recFree a_pageFill a_pageSlot a_pageTop a_pageFree a_pathPage a_pathSlot a_phaseOf a_outcomeOf a_used a_beganAt a_opKind a_opFirst a_opSecond a_acceptedAt a_rowCount a_rowKeys a_rowValues a_reach) → zz_oldP f_END f_NOBODY f_FAN f_FILL f_STRIDE f_DEPTH f_PAGES f_ROWS f_slots f_capacity f_entryCount f_freeRecs f_freePages f_root f_height f_clock a_recKey a_recState a_recValue a_next a_prev a_readers a_writers a_gapReaders a_owner a_baseState a_baseValue a_recFree a_pageFill a_pageSlot a_pageTop a_pageFree a_pathPage a_pathSlot a_phaseOf a_outcomeOf a_used a_beganAt a_opKind a_opFirst a_opSecond a_acceptedAt a_rowCount a_rowKeys a_rowValues a_reach b_states b_values b_reads b_writes b_touched b_beforeStates b_beforeValues s (d + 1) i x := by
          intro hY hX
          obtain ⟨r, g1, g2, g3⟩ := zz_old hs hs5 hT hS hR hD d (i + 1) (nI i) (by omega) hnew
          refine ⟨r, g1, fun post n a_pathPage a_pathSlot hn h => ?_, fun post J x1 n hn h => ?_⟩
          · obtain ⟨n, rfl⟩ : ∃ m, n = m + 1 := ⟨n - 1, by omega⟩
            exact hX post n a_pathPage a_pathSlot (fun pp sl => g2 post n pp sl (by omega) h)
          · obtain ⟨n, rfl⟩ : ∃ m, n = m + 1 := ⟨n - 1, by omega⟩
            exact hY post J x1 n (g3 post J x1 n (by omega) h)
        rcases hx with e | ⟨b, hb, e, hbr⟩
        · subst e
          have hneg : (-1 : Int32) < 0 := by decide
          refine take (fun post J x1 n h => hYb post J x1 n ⟨fun _ => h, fun z => absurd hneg z⟩) (fun post n a_pathPage a_pathSlot h => ?_)
          refine br_f hns ⟨vi, ?_⟩
          rw [ci]
          exact br_t p2 (br_t hneg (h42 post n _ _ h))
        · have hneg : ¬ x < 0 := by rw [e]; exact nI_pos (by omega)
          have vx : vp_in x 5 := by rw [e]; exact vp_in_nI (by omega) (by omega)
          by_cases ha : a_acceptedAt x.toNatClampNeg ≤ a_acceptedAt i
          · refine skip (fun post J x1 n h => hYb post J x1 n ⟨fun z => absurd z hneg, fun _ => ⟨vi, vx, fun _ => h, fun z => absurd ha z⟩⟩) (fun post n a_pathPage a_pathSlot h => ?_)
            refine br_f hns ⟨vi, ?_⟩
            rw [ci]
            exact br_t p2 (br_f hneg ⟨vi, vx, br_t ha (nm_r (nI_1 i) (h _ _))⟩)
          · refine take (fun post J x1 n h => hYb post J x1 n ⟨fun z => absurd z hneg, fun _ => ⟨vi, vx, fun z => absurd z ha, fun _ => h⟩⟩) (fun post n a_pathPage a_pathSlot h => ?_)
            refine br_f hns ⟨vi, ?_⟩
            rw [ci]
            exact br_t p2 (br_f hneg ⟨vi, vx, br_f ha (h42 post n _ _ h)⟩)
    · refine skip (fun post J x1 n h => ?_) (fun post n a_pathPage a_pathSlot h => ?_)
      · refine br_f hns ⟨vi, ?_⟩
        rw [ci]
        exact br_f p2 (nm_r (nI_1 i) h)
      · refine br_f hns ⟨vi, ?_⟩
        rw [ci]
        exact br_f p2 (nm_r (nI_1 i) (h _ _))
/-- the youngest on a cycle: the last scan -/
theorem zz_young {s : Nat} (hs : f_slots = nI s) (hs5 : s ≤ 5) (hT : dd_T s a_phaseOf a_opKind a_opFirst a_opSecond a_used a_rowCount) (hr : ∀ a, a < s → (bt (a_reach a) a = true ↔ Relation.TransGen (wf a_phaseOf b_states a_opKind a_opFirst a_opSecond b_reads b_writes) a a)) : ∀ (d i : Nat) (x : Int32), i + d = s → (x = -1 ∨ ∃ b, b < s ∧ x = nI b ∧ Relation.TransGen (wf a_phaseOf b_states a_opKind a_opFirst a_opSecond b_reads b_writes) b b) → zz_yngP f_END f_NOBODY f_FAN f_FILL f_STRIDE f_DEPTH f_PAGES f_ROWS f_slots f_capacity f_entryCount f_freeRecs f_freePages f_root f_height f_clock a_recKey a_recState a_recValue a_next a_prev a_readers a_writers a_gapReaders a_owner a_baseState a_baseValue a_recFree a_pageFill a_pageSlot a_pageTop a_pageFree a_pathPage a_pathSlot a_phaseOf a_outcomeOf a_used a_beganAt a_opKind a_opFirst a_opSecond a_acceptedAt a_rowCount a_rowKeys a_rowValues a_reach b_states b_values b_reads b_writes b_touched b_beforeStates b_beforeValues s d i x
  | 0, i, x, hi, hx => by
    have e : i = s := by omega
    subst e
    refine ⟨x, hx, fun post n hn h => ?_, fun post J x1 n hn h => ?_⟩
    · obtain ⟨n, rfl⟩ : ∃ m, n = m + 1 := ⟨n - 1, by omega⟩
      exact br_t (by rw [hs]; exact nI_le (Nat.le_refl _) (by omega)) h
    · obtain ⟨n, rfl⟩ : ∃ m, n = m + 1 := ⟨n - 1, by omega⟩
      exact h n
  | d + 1, i, x, hi, hx => by
    have vi : vp_in (nI i) 5 := vp_in_nI (by omega) (by omega)
    have ci : (nI i).toNatClampNeg = i := nI_clamp (by omega)
    have hns : ¬ f_slots ≤ nI i := by rw [hs]; exact nI_ge (by omega) (by omega)
    have go : ∀ x', (x' = -1 ∨ ∃ b, b < s ∧ x' = nI b ∧ Relation.TransGen (wf a_phaseOf b_states a_opKind a_opFirst a_opSecond b_reads b_writes) b b) → (∀ (post : SY → Prop) J (x1 : Int32) (n : Nat), wY_settle_83 post J x1 f_slots f_capacity f_clock b_states b_values b_reads b_writes b_touched b_beforeStates b_beforeValues a_phaseOf a_outcomeOf a_used a_opKind a_opFirst a_opSecond a_beganAt a_acceptedAt a_rowCount a_rowKeys a_rowValues n x' (nI (i + 1)) → wY_settle_83 post J x1 f_slots f_capacity f_clock b_states b_values b_reads b_writes b_touched b_beforeStates b_beforeValues a_phaseOf a_outcomeOf a_used a_opKind a_opFirst a_opSecond a_beganAt a_acceptedAt a_rowCount a_rowKeys a_rowValues (n + 1) x (nI i)) → (∀ (post : Int32 → SX → Prop) (n : Nat), wX_youngestOnCycle_108 post f_END f_NOBODY f_FAN f_FILL f_STRIDE f_DEPTH f_PAGES f_ROWS f_slots f_capacity f_entryCount f_freeRecs f_freePages f_root f_height f_clock a_recKey a_recState a_recValue a_next a_prev a_readers a_writers a_gapReaders a_owner a_baseState a_baseValue a_recFree a_pageFill a_pageSlot a_pageTop a_pageFree a_pathPage a_pathSlot a_phaseOf a_outcomeOf a_used a_beganAt a_opKind a_opFirst a_opSecond a_acceptedAt a_rowCount a_rowKeys a_rowValues a_reach n x' (nI (i + 1)) → wX_youngestOnCycle_108 post f_END f_NOBODY f_FAN f_FILL f_STRIDE f_DEPTH f_PAGES f_ROWS f_slots f_capacity f_entryCount f_freeRecs f_freePages f_root f_height f_clock a_recKey a_recState a_recValue a_next a_prev a_readers a_writers a_gapReaders a_owner a_baseState a_baseValue a_recFree a_pageFill a_pageSlot a_pageTop a_pageFree a_pathPage a_pathSlot a_phaseOf a_outcomeOf a_used a_beganAt a_opKind a_opFirst a_opSecond a_acceptedAt a_rowCount a_rowKeys a_rowValues a_reach (n + 1) x (nI i)) → zz_yngP f_END f_NOBODY f_FAN f_FILL f_STRIDE f_DEPTH f_PAGES f_ROWS f_slots f_capacity f_entryCount f_freeRecs f_freePages f_root f_height f_clock a_recKey a_recState a_recValue a_next a_prev a_readers a_writers a_gapReaders a_owner a_baseState a_baseValue a_recFree a_pageFill a_pageSlot a_pageTop a_pageFree a_pathPage a_pathSlot a_phaseOf a_outcomeOf a_used a_beganAt a_opKind a_opFirst a_opSecond a_acceptedAt a_rowCount a_rowKeys a_rowValues a_reach b_states b_values b_reads b_writes b_touched b_beforeStates b_beforeValues s (d + 1) i x := by
      intro x' hx' hY hX
      obtain ⟨r, g1, g2, g3⟩ := zz_young hs hs5 hT hr d (i + 1) x' (by omega) hx'
      refine ⟨r, g1, fun post n hn h => ?_, fun post J x1 n hn h => ?_⟩
      · obtain ⟨n, rfl⟩ : ∃ m, n = m + 1 := ⟨n - 1, by omega⟩
        exact hX post n (g2 post n (by omega) h)
      · obtain ⟨n, rfl⟩ : ∃ m, n = m + 1 := ⟨n - 1, by omega⟩
        exact hY post J x1 n (g3 post J x1 n (by omega) h)
    have hb := bk_and0 (t := i) (by omega) (a_reach i)
    by_cases hc : Relation.TransGen (wf a_phaseOf b_states a_opKind a_opFirst a_opSecond b_reads b_writes) i i
    · have hbt : ¬ (a_reach i &&& ((1 : Int32) <<< (nI i &&& 31))) = 0 := by
        rw [hb, (hr i (by omega)).mpr hc]; decide
      have hnew : (nI i = -1 ∨ ∃ b, b < s ∧ nI i = nI b ∧ Relation.TransGen (wf a_phaseOf b_states a_opKind a_opFirst a_opSecond b_reads b_writes) b b) := Or.inr ⟨i, by omega, rfl, hc⟩
      rcases hx with e | ⟨b, hb', e, hbr⟩
      · subst e
        have hneg : (-1 : Int32) < 0 := by decide
        refine go (nI i) hnew (fun post J x1 n h => br_f hns (yw_onCycle hs hs5 hT (by omega) (fun _ => br_f (by decide) (br_t hneg (nm_r (nI_1 i) h))) (fun z => absurd hc z))) (fun post n h => br_f hns ⟨vi, ?_⟩)
        rw [ci]
        exact br_f hbt (br_f (by decide) (br_t hneg (nm_r (nI_1 i) h)))
      · have hneg : ¬ x < 0 := by rw [e]; exact nI_pos (by omega)
        have vx : vp_in x 5 := by rw [e]; exact vp_in_nI (by omega) (by omega)
        by_cases ha : a_beganAt i ≤ a_beganAt x.toNatClampNeg
        · refine go x (Or.inr ⟨b, hb', e, hbr⟩) (fun post J x1 n h => br_f hns (yw_onCycle hs hs5 hT (by omega) (fun _ => br_f (by decide) (br_f hneg ⟨vi, vx, ?_⟩)) (fun z => absurd hc z))) (fun post n h => br_f hns ⟨vi, ?_⟩)
          · rw [ci]; exact br_t ha (nm_r (nI_1 i) h)
          · rw [ci]
            refine br_f hbt (br_f (by decide) (br_f hneg ⟨vi, vx, ?_⟩))
            rw [ci]
            exact br_t ha (nm_r (nI_1 i) h)
        · refine go (nI i) hnew (fun post J x1 n h => br_f hns (yw_onCycle hs hs5 hT (by omega) (fun _ => br_f (by decide) (br_f hneg ⟨vi, vx, ?_⟩)) (fun z => absurd hc z))) (fun post n h => br_f hns ⟨vi, ?_⟩)
          · rw [ci]; exact br_f ha (nm_r (nI_1 i) h)
          · rw [ci]
            refine br_f hbt (br_f (by decide) (br_f hneg ⟨vi, vx, ?_⟩))
            rw [ci]
            exact br_f ha (nm_r (nI_1 i) h)
    · have hbt : (a_reach i &&& ((1 : Int32) <<< (nI i &&& 31))) = 0 := by
        rw [hb]
        cases hb2 : bt (a_reach i) i
        · rfl
        · exact absurd ((hr i (by omega)).mp hb2) hc
      refine go x hx (fun post J x1 n h => br_f hns (yw_onCycle hs hs5 hT (by omega) (fun z => absurd z hc) (fun _ => br_t rfl (nm_r (nI_1 i) h)))) (fun post n h => br_f hns ⟨vi, ?_⟩)
      rw [ci]
      exact br_t hbt (br_t rfl (nm_r (nI_1 i) h))
/-- the closure by stages -/
theorem xw_y56 {w : Nat → Nat → Prop} {post : Int32 → SX → Prop} {J : Int32 → (Nat → Int32) → (Nat → Int32) → (Nat → Int32) → (Nat → Int32) → (Nat → Int32) → (Nat → Int32) → (Nat → Int32) → (Nat → Int32) → (Nat → Int32) → (Nat → Int32) → (Nat → Int32) → (Nat → Int32) → (Nat → Int32) → (Nat → Int32) → (Nat → Int32) → (Nat → Int32) → (Nat → Int32) → (Nat → Int32) → (Nat → Int32) → (Nat → Int32) → (Nat → Int32) → (Nat → Int64) → (Nat → Int32) → (Nat → Int32) → (Nat → Int32) → (Nat → Int64) → (Nat → Int32) → (Nat → Int32) → (Nat → Int32) → (Nat → Int32) → Prop} {s v : Nat} (hs : f_slots = nI s) (hs5 : s ≤ 5) (hv : v < s) : ∀ (d i n : Nat) (a_reach : Nat → Int32), i + d = s → d < n → (∀ a, a < s → ∀ o, bt (a_reach a) o = true ↔ (if a < i then cy_W w (v + 1) a o else cy_W w v a o)) → (∀ rc, (∀ a, a < s → ∀ o, bt (rc a) o = true ↔ cy_W w (v + 1) a o) → J (nI (v + 1)) a_recKey a_recState a_recValue a_next a_prev a_readers a_writers a_gapReaders a_owner a_baseState a_baseValue a_recFree a_pageFill a_pageSlot a_pageTop a_pageFree a_pathPage a_pathSlot a_phaseOf a_outcomeOf a_used a_beganAt a_opKind a_opFirst a_opSecond a_acceptedAt a_rowCount a_rowKeys a_rowValues rc) → wX_youngestOnCycle_56 post J (nI v) f_END f_NOBODY f_FAN f_FILL f_STRIDE f_DEPTH f_PAGES f_ROWS f_slots f_capacity f_entryCount f_freeRecs f_freePages f_root f_height f_clock n (nI i) a_recKey a_recState a_recValue a_next a_prev a_readers a_writers a_gapReaders a_owner a_baseState a_baseValue a_recFree a_pageFill a_pageSlot a_pageTop a_pageFree a_pathPage a_pathSlot a_phaseOf a_outcomeOf a_used a_beganAt a_opKind a_opFirst a_opSecond a_acceptedAt a_rowCount a_rowKeys a_rowValues a_reach
  | 0, i, n + 1, a_reach, hi, hn, hQ, h => by
    refine br_t (by rw [hs]; exact nI_le (by omega) (by omega)) (nm_r (nI_1 v) (h a_reach (fun a ha o => ?_)))
    rw [hQ a ha o, if_pos (by omega)]
  | d + 1, i, n + 1, a_reach, hi, hn, hQ, h => by
    have vi : vp_in (nI i) 5 := vp_in_nI (by omega) (by omega)
    have vv : vp_in (nI v) 5 := vp_in_nI (by omega) (by omega)
    have ci : (nI i).toNatClampNeg = i := nI_clamp (by omega)
    have cv : (nI v).toNatClampNeg = v := nI_clamp (by omega)
    have hiv := hQ i (by omega) v
    rw [if_neg (by omega)] at hiv
    have hvo : ∀ o, bt (a_reach v) o = true ↔ cy_W w v v o := fun o => by
      rw [hQ v hv o]
      by_cases e : v < i
      · rw [if_pos e]
        constructor
        · rintro (z | z)
          · exact z
          · exact z.2
        · exact Or.inl
      · rw [if_neg e]
    refine br_f (by rw [hs]; exact nI_ge (by omega) (by omega)) ⟨vi, ?_⟩
    rw [ci, cv]
    refine br_c (fun z => nm_r (nI_1 i) ?_) (fun z => ⟨vi, vv, vi, nm_e (nm_r (nI_1 i) ?_)⟩)
    · rw [bk_and0 (by omega)] at z
      refine xw_y56 hs hs5 hv d (i + 1) n a_reach (by omega) (by omega) (fun a ha o => ?_) h
      rw [hQ a ha o]
      by_cases e : a = i
      · subst e
        rw [if_neg (by omega), if_pos (by omega)]
        refine ⟨Or.inl, ?_⟩
        rintro (g | g)
        · exact g
        · have := hiv.mpr g.1
          rw [z] at this
          exact absurd this (by decide)
      · by_cases e2 : a < i
        · rw [if_pos e2, if_pos (by omega)]
        · rw [if_neg e2, if_neg (by omega)]
    · rw [bk_and0 (by omega)] at z
      have z' : cy_W w v i v := hiv.mp (by cases hb : bt (a_reach i) v; exact absurd hb z; rfl)
      refine xw_y56 hs hs5 hv d (i + 1) n _ (by omega) (by omega) (fun a ha o => ?_) h
      by_cases e : a = i
      · subst e
        rw [pk_us, b_or, Bool.or_eq_true, hvo o, hQ a ha o, if_neg (by omega), if_pos (by omega)]
        constructor
        · rintro (g | g)
          · exact Or.inl g
          · exact Or.inr ⟨z', g⟩
        · rintro (g | g)
          · exact Or.inl g
          · exact Or.inr g.2
      · rw [pk_un e, hQ a ha o]
        by_cases e2 : a < i
        · rw [if_pos e2, if_pos (by omega)]
        · rw [if_neg e2, if_neg (by omega)]
theorem xw_y46 {w : Nat → Nat → Prop} {post : Int32 → SX → Prop} {s : Nat} (hs : f_slots = nI s) (hs5 : s ≤ 5) : ∀ (d v n : Nat) (a_reach : Nat → Int32), v + d = s → d < n → (∀ a, a < s → ∀ o, bt (a_reach a) o = true ↔ cy_W w v a o) → (∀ rc, (∀ a, a < s → ∀ o, bt (rc a) o = true ↔ cy_W w s a o) → ∃ n108 : Nat, wX_youngestOnCycle_108 post f_END f_NOBODY f_FAN f_FILL f_STRIDE f_DEPTH f_PAGES f_ROWS f_slots f_capacity f_entryCount f_freeRecs f_freePages f_root f_height f_clock a_recKey a_recState a_recValue a_next a_prev a_readers a_writers a_gapReaders a_owner a_baseState a_baseValue a_recFree a_pageFill a_pageSlot a_pageTop a_pageFree a_pathPage a_pathSlot a_phaseOf a_outcomeOf a_used a_beganAt a_opKind a_opFirst a_opSecond a_acceptedAt a_rowCount a_rowKeys a_rowValues rc n108 (-1) 0) → wX_youngestOnCycle_46 post f_END f_NOBODY f_FAN f_FILL f_STRIDE f_DEPTH f_PAGES f_ROWS f_slots f_capacity f_entryCount f_freeRecs f_freePages f_root f_height f_clock n (nI v) a_recKey a_recState a_recValue a_next a_prev a_readers a_writers a_gapReaders a_owner a_baseState a_baseValue a_recFree a_pageFill a_pageSlot a_pageTop a_pageFree a_pathPage a_pathSlot a_phaseOf a_outcomeOf a_used a_beganAt a_opKind a_opFirst a_opSecond a_acceptedAt a_rowCount a_rowKeys a_rowValues a_reach
  | 0, v, n + 1, a_reach, hi, hn, hQ, h => by
    have e : v = s := by omega
    subst e
    exact br_t (by rw [hs]; exact nI_le (by omega) (by omega)) (h a_reach hQ)
  | d + 1, v, n + 1, a_reach, hi, hn, hQ, h => by
    refine br_f (by rw [hs]; exact nI_ge (by omega) (by omega)) ⟨s + 1, ?_⟩
    refine xw_y56 (w := w) hs hs5 (by omega) s 0 (s + 1) a_reach (by omega) (by omega) (fun a ha o => by rw [hQ a ha o, if_neg (by omega)]) ?_
    intro rc hrc
    exact xw_y46 hs hs5 d (v + 1) n rc (by omega) (by omega) hrc h
theorem xw_y2 {post : Int32 → SX → Prop} {s : Nat} {L : List Nat} {ky : Nat → Nat} (hs : f_slots = nI s) (hs5 : s ≤ 5) (hT : dd_T s a_phaseOf a_opKind a_opFirst a_opSecond a_used a_rowCount) (hS : rg_S L ky a_recKey a_next a_prev a_recFree f_freeRecs f_entryCount) (hR : rg_T a_pageFill a_pageSlot a_pageTop a_pageFree f_freePages f_root f_height L ky) (hD : dd_D L ky a_phaseOf a_recState a_recValue a_readers a_writers a_gapReaders a_owner a_baseState a_baseValue b_states b_values b_reads b_writes b_touched b_beforeStates b_beforeValues) : ∀ (d i n : Nat) (a_reach a_pathPage a_pathSlot : Nat → Int32), i + d = s → d < n → (∀ a, a < i → ∀ o, bt (a_reach a) o = true ↔ wf a_phaseOf b_states a_opKind a_opFirst a_opSecond b_reads b_writes a o) → (∀ rc pp sl, (∀ a, a < s → ∀ o, bt (rc a) o = true ↔ wf a_phaseOf b_states a_opKind a_opFirst a_opSecond b_reads b_writes a o) → ∃ n46 : Nat, wX_youngestOnCycle_46 post f_END f_NOBODY f_FAN f_FILL f_STRIDE f_DEPTH f_PAGES f_ROWS f_slots f_capacity f_entryCount f_freeRecs f_freePages f_root f_height f_clock n46 0 a_recKey a_recState a_recValue a_next a_prev a_readers a_writers a_gapReaders a_owner a_baseState a_baseValue a_recFree a_pageFill a_pageSlot a_pageTop a_pageFree pp sl a_phaseOf a_outcomeOf a_used a_beganAt a_opKind a_opFirst a_opSecond a_acceptedAt a_rowCount a_rowKeys a_rowValues rc) → wX_youngestOnCycle_2 post n (nI i) f_END f_NOBODY f_FAN f_FILL f_STRIDE f_DEPTH f_PAGES f_ROWS f_slots f_capacity f_entryCount f_freeRecs f_freePages f_root f_height f_clock a_recKey a_recState a_recValue a_next a_prev a_readers a_writers a_gapReaders a_owner a_baseState a_baseValue a_recFree a_pageFill a_pageSlot a_pageTop a_pageFree a_pathPage a_pathSlot a_phaseOf a_outcomeOf a_used a_beganAt a_opKind a_opFirst a_opSecond a_acceptedAt a_rowCount a_rowKeys a_rowValues a_reach
  | 0, i, n + 1, a_reach, a_pathPage, a_pathSlot, hi, hn, hQ, h => by
    have e : i = s := by omega
    subst e
    exact br_t (by rw [hs]; exact nI_le (by omega) (by omega)) (h a_reach _ _ hQ)
  | d + 1, i, n + 1, a_reach, a_pathPage, a_pathSlot, hi, hn, hQ, h => by
    have vi : vp_in (nI i) 5 := vp_in_nI (by omega) (by omega)
    have ci : (nI i).toNatClampNeg = i := nI_clamp (by omega)
    refine br_f (by rw [hs]; exact nI_ge (by omega) (by omega)) ⟨vi, ?_⟩
    rw [ci]
    refine nm_e ⟨vi, br_c (fun p2 => ?_) (fun p2 => nm_r (nI_1 i) ?_)⟩
    · refine xw_blk hs5 hT hS hR hD (by omega) p2 (fun m pp sl hm => ⟨vi, ?_⟩)
      refine nm_e (nm_r (nI_1 i) (xw_y2 hs hs5 hT hS hR hD d (i + 1) n _ pp sl (by omega) (by omega) (fun a ha o => ?_) h))
      by_cases e : a = i
      · subst e; rw [pk_us]; exact hm o
      · rw [pk_un e, pk_un e]; exact hQ a (by omega) o
    · refine xw_y2 hs hs5 hT hS hR hD d (i + 1) n _ _ _ (by omega) (by omega) (fun a ha o => ?_) h
      by_cases e : a = i
      · subst e; rw [pk_us, b_0]
        refine ⟨fun z => absurd z (by decide), fun z => absurd z.1 p2⟩
      · rw [pk_un e]; exact hQ a (by omega) o
end
end
section
/-! the data relation under the stores -/
def dd_clr (t : Nat) (f : Nat → Int32) : Nat → Int32 := fun j => if t * 1000 ≤ j ∧ j < t * 1000 + 1000 then 0 else f j
def dd_fill (t lo hi : Nat) (f : Nat → Int32) : Nat → Int32 := fun j => if t * 1000 + lo ≤ j ∧ j ≤ t * 1000 + hi then 1 else f j
def dd_rs (t : Nat) (Yto Ybs Yst : Nat → Int32) : Nat → Int32 := fun k => if k < 1000 ∧ Yto (t * 1000 + k) ≠ 0 then (if Ybs (t * 1000 + k) = 1 then 1 else 2) else Yst k
def dd_rv (t : Nat) (Yto Ybs Ybv Yva : Nat → Int32) : Nat → Int32 := fun k => if k < 1000 ∧ Yto (t * 1000 + k) ≠ 0 then (if Ybs (t * 1000 + k) = 1 then Ybv (t * 1000 + k) else 0) else Yva k
theorem dd_clr_t {t k : Nat} {f : Nat → Int32} (hk : k < 1000) : dd_clr t f (t * 1000 + k) = 0 := if_pos (by omega)
theorem dd_clr_n {t u k : Nat} {f : Nat → Int32} (hk : k < 1000) (h : u ≠ t) : dd_clr t f (u * 1000 + k) = f (u * 1000 + k) := if_neg (by omega)
theorem dd_m1 {t : Nat} (ht : t < 5) : ¬ (-1 : Int32) = nI t := by
  intro e
  have h1 : ¬ nI t < 0 := nI_pos (by omega)
  rw [← e] at h1
  exact h1 (by decide)
theorem dd_nIeq {t u : Nat} (ht : t < 5) (hu : u < 5) (h : nI t = nI u) : t = u := (nI_eq (by omega) (by omega)).mp h
section
variable {L : List Nat} {ky : Nat → Nat} {rk nx pv rf : Nat → Int32} {fr ec : Int32} {ph st va rd wr gr ow bs bv Yst Yva Yrd Ywr Yto Ybs Ybv kd se : Nat → Int32}
theorem dd_ph {ph' : Nat → Int32} (h : ∀ t, ph t ≠ 0 → ph' t ≠ 0) (hD : dd_D L ky ph st va rd wr gr ow bs bv Yst Yva Yrd Ywr Yto Ybs Ybv) : dd_D L ky ph' st va rd wr gr ow bs bv Yst Yva Yrd Ywr Yto Ybs Ybv :=
  ⟨hD.1, hD.2.1, hD.2.2.1, fun r hr t z => h t (hD.2.2.2.1 r hr t z), fun r hr t z => h t (hD.2.2.2.2.1 r hr t z), hD.2.2.2.2.2⟩
theorem rg_Fself (hS : rg_S L ky rk nx pv rf fr ec) {r : Nat} (hr : r ∈ L ++ [48]) : rg_F L ky (ky r) r := ⟨hr, Nat.le_refl _, fun p _ => by omega⟩
theorem dd_end {t : Nat} {ph' rd' wr' gr' ow' : Nat → Int32} (hS : rg_S L ky rk nx pv rf fr ec) (hD : dd_D L ky ph st va rd wr gr ow bs bv Yst Yva Yrd Ywr Yto Ybs Ybv) (ht : t < 5) (hrd : ∀ r ∈ L, rd' r = rd r &&& (((1 : Int32) <<< (nI t &&& 31)) ^^^ (-1))) (hwr : ∀ r ∈ L, wr' r = wr r &&& (((1 : Int32) <<< (nI t &&& 31)) ^^^ (-1))) (hw : wr' 48 = wr 48) (hgr : ∀ r ∈ L ++ [48], gr' r = gr r &&& (((1 : Int32) <<< (nI t &&& 31)) ^^^ (-1))) (how : ∀ r ∈ L, ow' r = if ow r = nI t then -1 else ow r) (hph : ∀ u, u ≠ t → ph' u = ph u) : dd_D L ky ph' st va rd' wr' gr' ow' bs bv Yst Yva (dd_clr t Yrd) (dd_clr t Ywr) (dd_clr t Yto) Ybs Ybv := by
  have hkb : ∀ (x : Int32) (u : Nat), bt (x &&& (((1 : Int32) <<< (nI t &&& 31)) ^^^ (-1))) u = (bt x u && !decide (u = t)) := fun x u => bk_keep (by omega) x u
  refine ⟨fun r hr => ?_, fun k hk hn => ?_, fun r k hF hne u hu => ?_, fun r hr u hz => ?_, fun r hr u hz => ?_, hw.trans hD.2.2.2.2.2⟩
  · obtain ⟨h1, h2, h3, h4, h5, h6⟩ := hD.1 r hr
    have hk := (rg_lt hS hr).2
    refine ⟨h1, h2, h3, fun u hu => ?_, ?_, fun a b ha hb => ?_⟩
    · obtain ⟨g1, g2, g3, g4⟩ := h4 u hu
      rw [hrd r hr, hwr r hr, hkb, hkb, how r hr]
      by_cases e : u = t
      · subst e
        rw [dd_clr_t hk, dd_clr_t hk, dd_clr_t hk]
        have hno : ¬ (if ow r = nI u then -1 else ow r) = nI u := by
          by_cases e : ow r = nI u
          · rw [if_pos e]; exact dd_m1 hu
          · rw [if_neg e]; exact e
        refine ⟨by simp [dd_b], by simp [dd_b], by rw [decide_eq_false hno]; rfl, fun z => absurd z hno⟩
      · rw [dd_clr_n hk e, dd_clr_n hk e, dd_clr_n hk e]
        have hio : (if ow r = nI t then -1 else ow r) = nI u ↔ ow r = nI u := by
          by_cases e2 : ow r = nI t
          · rw [if_pos e2, e2]
            exact ⟨fun z => absurd z (dd_m1 hu), fun z => absurd (dd_nIeq ht hu z).symm e⟩
          · rw [if_neg e2]
        refine ⟨by rw [g1]; simp [e], by rw [g2]; simp [e], ?_, fun z => ?_⟩
        · rw [g3]
          exact congrArg dd_b (decide_eq_decide.mpr hio.symm)
        · have := g4 (hio.mp z)
          exact ⟨by rw [this.1]; simp [e], this.2⟩
    · rw [how r hr]
      by_cases e : ow r = nI t
      · rw [if_pos e]; exact Or.inl rfl
      · rw [if_neg e]; exact h5
    · rw [hwr r hr, hkb] at ha hb
      simp at ha hb
      exact h6 a b ha.1 hb.1
  · obtain ⟨h1, h2, h3⟩ := hD.2.1 k hk hn
    refine ⟨h1, h2, fun u hu => ?_⟩
    by_cases e : u = t
    · subst e; exact ⟨dd_clr_t hk, dd_clr_t hk⟩
    · rw [dd_clr_n hk e, dd_clr_n hk e]; exact h3 u hu
  · have hk : k < 1000 := by
      have := (rg_le hS hF.1).2
      have := hF.2.1
      omega
    rw [hgr r hF.1, hkb]
    by_cases e : u = t
    · subst e; rw [dd_clr_t hk]; simp [dd_b]
    · rw [dd_clr_n hk e, hD.2.2.1 r k hF hne u hu]; simp [e]
  · rw [hrd r hr, hwr r hr, hkb, hkb] at hz
    have hz2 : u ≠ t ∧ (bt (rd r) u = true ∨ bt (wr r) u = true) := by
      rcases hz with z | z
      · simp at z; exact ⟨z.2, Or.inl z.1⟩
      · simp at z; exact ⟨z.2, Or.inr z.1⟩
    rw [hph u hz2.1]
    exact hD.2.2.2.1 r hr u hz2.2
  · rw [hgr r hr, hkb] at hz
    simp at hz
    rw [hph u hz.2]
    exact hD.2.2.2.2.1 r hr u hz.1
theorem dd_rb {t : Nat} {st' va' : Nat → Int32} (hS : rg_S L ky rk nx pv rf fr ec) (hD : dd_D L ky ph st va rd wr gr ow bs bv Yst Yva Yrd Ywr Yto Ybs Ybv) (ht : t < 5) (hst : ∀ r ∈ L, st' r = if ow r = nI t then bs r else st r) (hva : ∀ r ∈ L, va' r = if ow r = nI t then bv r else va r) : dd_D L ky ph st' va' rd wr gr ow bs bv (dd_rs t Yto Ybs Yst) (dd_rv t Yto Ybs Ybv Yva) Yrd Ywr Yto Ybs Ybv := by
  refine ⟨fun r hr => ?_, fun k hk hn => ?_, hD.2.2.1, hD.2.2.2.1, hD.2.2.2.2⟩
  · obtain ⟨h1, h2, h3, h4, h5, h6⟩ := hD.1 r hr
    have hk := (rg_lt hS hr).2
    obtain ⟨g1, g2, g3, g4⟩ := h4 t ht
    unfold dd_E dd_rs dd_rv
    rw [hst r hr, hva r hr]
    by_cases e : ow r = nI t
    · have hto : Yto (t * 1000 + ky r) ≠ 0 := by rw [g3, dd_b1]; exact decide_eq_true e
      have hc : ky r < 1000 ∧ Yto (t * 1000 + ky r) ≠ 0 := ⟨hk, hto⟩
      rw [if_pos e, if_pos e, if_pos hc, if_pos hc]
      rcases (g4 e).2 with z | z
      · rw [if_pos z.1, if_pos z.1]
        exact ⟨Or.inl z.2.1, z.2.1.symm, z.2.2.symm, h4, h5, h6⟩
      · rw [if_neg z.1, if_neg z.1]
        exact ⟨Or.inr ⟨z.2.1, z.2.2⟩, z.2.1.symm, z.2.2.symm, h4, h5, h6⟩
    · have hto : ¬ (ky r < 1000 ∧ Yto (t * 1000 + ky r) ≠ 0) := by
        rintro ⟨_, z⟩
        rw [g3, dd_b1] at z
        exact e (of_decide_eq_true z)
      rw [if_neg e, if_neg e, if_neg hto, if_neg hto]
      exact ⟨h1, h2, h3, h4, h5, h6⟩
  · obtain ⟨h1, h2, h3⟩ := hD.2.1 k hk hn
    have hto : ¬ (k < 1000 ∧ Yto (t * 1000 + k) ≠ 0) := fun z => z.2 (h3 t ht).2
    unfold dd_N dd_rs dd_rv
    rw [if_neg hto, if_neg hto]
    exact ⟨h1, h2, h3⟩
theorem dd_write {t r : Nat} (hS : rg_S L ky rk nx pv rf fr ec) (hD : dd_D L ky ph st va rd wr gr ow bs bv Yst Yva Yrd Ywr Yto Ybs Ybv) (ht : t < 5) (hr : r ∈ L) (hp : ph t ≠ 0) (hx : ∀ o, bt (wr r) o = true → o = t) : dd_D L ky ph st va rd (upd wr r (wr r ||| ((1 : Int32) <<< (nI t &&& 31)))) gr ow bs bv Yst Yva Yrd (upd Ywr (t * 1000 + ky r) 1) Yto Ybs Ybv := by
  have hrl := rg_lt hS hr
  refine ⟨fun q hq => ?_, fun k hk hn => ?_, hD.2.2.1, fun q hq u hz => ?_, hD.2.2.2.2.1, ?_⟩
  · obtain ⟨h1, h2, h3, h4, h5, h6⟩ := hD.1 q hq
    have hql := rg_lt hS hq
    by_cases e : q = r
    · subst e
      refine ⟨h1, h2, h3, fun u hu => ?_, h5, fun a b ha hb => ?_⟩
      · obtain ⟨g1, g2, g3, g4⟩ := h4 u hu
        rw [pk_us, bk_or (by omega)]
        by_cases e : u = t
        · subst e; rw [pk_us]
          exact ⟨g1, by simp [dd_b], g3, fun z => ⟨by simp, (g4 z).2⟩⟩
        · rw [pk_un (by omega)]
          exact ⟨g1, by rw [g2]; simp [e], g3, fun z => ⟨by rw [(g4 z).1]; rfl, (g4 z).2⟩⟩
      · rw [pk_us, bk_or (by omega), Bool.or_eq_true, decide_eq_true_iff] at ha hb
        have h8 : a = t := by rcases ha with z | z; exact hx a z; exact z
        have h9 : b = t := by rcases hb with z | z; exact hx b z; exact z
        rw [h8, h9]
    · have hne : ky q ≠ ky r := fun z => e (rg_inj hS (by simp [hq]) (by simp [hr]) z)
      refine ⟨h1, h2, h3, fun u hu => ?_, h5, fun a b ha hb => ?_⟩
      · rw [pk_un e, pk_un (by omega)]; exact h4 u hu
      · rw [pk_un e] at ha hb; exact h6 a b ha hb
  · obtain ⟨h1, h2, h3⟩ := hD.2.1 k hk hn
    have hne := hn r hr
    refine ⟨h1, h2, fun u hu => ?_⟩
    rw [pk_un (by omega)]
    exact h3 u hu
  · by_cases e : q = r
    · subst e
      rw [pk_us, bk_or (by omega), Bool.or_eq_true, decide_eq_true_iff] at hz
      rcases hz with z | z | z
      · exact hD.2.2.2.1 q hq u (Or.inl z)
      · exact hD.2.2.2.1 q hq u (Or.inr z)
      · rw [z]; exact hp
    · rw [pk_un e] at hz
      exact hD.2.2.2.1 q hq u hz
  · rw [pk_un (by omega)]; exact hD.2.2.2.2.2
theorem dd_fetch {t r : Nat} (hS : rg_S L ky rk nx pv rf fr ec) (hD : dd_D L ky ph st va rd wr gr ow bs bv Yst Yva Yrd Ywr Yto Ybs Ybv) (ht : t < 5) (hr : r ∈ L) (hp : ph t ≠ 0) : dd_D L ky ph st va (upd rd r (rd r ||| ((1 : Int32) <<< (nI t &&& 31)))) wr gr ow bs bv Yst Yva (upd Yrd (t * 1000 + ky r) 1) Ywr Yto Ybs Ybv := by
  have hrl := rg_lt hS hr
  refine ⟨fun q hq => ?_, hD.2.1, fun q k hF hne u hu => ?_, fun q hq u hz => ?_, hD.2.2.2.2⟩
  · obtain ⟨h1, h2, h3, h4, h5, h6⟩ := hD.1 q hq
    have hql := rg_lt hS hq
    by_cases e : q = r
    · subst e
      refine ⟨h1, h2, h3, fun u hu => ?_, h5, h6⟩
      obtain ⟨g1, g2, g3, g4⟩ := h4 u hu
      rw [pk_us, bk_or (by omega)]
      by_cases e : u = t
      · subst e; rw [pk_us]
        exact ⟨by simp [dd_b], g2, g3, g4⟩
      · rw [pk_un (by omega)]
        exact ⟨by rw [g1]; simp [e], g2, g3, g4⟩
    · have hne : ky q ≠ ky r := fun z => e (rg_inj hS (by simp [hq]) (by simp [hr]) z)
      refine ⟨h1, h2, h3, fun u hu => ?_, h5, h6⟩
      rw [pk_un e, pk_un (by omega)]; exact h4 u hu
  · have hk : k < 1000 := by
      have := (rg_le hS hF.1).2
      have := hF.2.1
      omega
    have hkr : k ≠ ky r := fun e => by
      subst e
      exact hne (congrArg ky (rg_Fu hS (rg_Fself hS (by simp [hr])) hF))
    rw [pk_un (by omega)]
    exact hD.2.2.1 q k hF hne u hu
  · by_cases e : q = r
    · subst e
      rw [pk_us, bk_or (by omega), Bool.or_eq_true, decide_eq_true_iff] at hz
      rcases hz with (z | z) | z
      · exact hD.2.2.2.1 q hq u (Or.inl z)
      · rw [z]; exact hp
      · exact hD.2.2.2.1 q hq u (Or.inr z)
    · rw [pk_un e] at hz
      exact hD.2.2.2.1 q hq u hz
theorem dd_cs {t lo hi : Nat} {Sg : List Nat} {gr' rd' : Nat → Int32} (hS : rg_S L ky rk nx pv rf fr ec) (hD : dd_D L ky ph st va rd wr gr ow bs bv Yst Yva Yrd Ywr Yto Ybs Ybv) (ht : t < 5) (hp : ph t ≠ 0) (hhi : hi < 1000) (hin : ∀ x q, x < 1000 → rg_F L ky x q → (lo ≤ x ∧ x ≤ hi ↔ q ∈ Sg)) (hgr : ∀ j, gr' j = if j ∈ Sg then gr j ||| ((1 : Int32) <<< (nI t &&& 31)) else gr j) (hrd : ∀ j, rd' j = if j ∈ Sg ∧ j ≠ 48 then rd j ||| ((1 : Int32) <<< (nI t &&& 31)) else rd j) : dd_D L ky ph st va rd' wr gr' ow bs bv Yst Yva (dd_fill t lo hi Yrd) Ywr Yto Ybs Ybv := by
  have hfill : ∀ x u, x < 1000 → dd_fill t lo hi Yrd (u * 1000 + x) = if u = t ∧ lo ≤ x ∧ x ≤ hi then 1 else Yrd (u * 1000 + x) := by
    intro x u hx
    unfold dd_fill
    by_cases e : u = t ∧ lo ≤ x ∧ x ≤ hi
    · rw [if_pos e, if_pos (by omega)]
    · rw [if_neg e, if_neg (by omega)]
  have hor : ∀ (c : Prop) [Decidable c] (m : Int32) (u : Nat), bt (if c then m ||| ((1 : Int32) <<< (nI t &&& 31)) else m) u = (bt m u || (decide c && decide (u = t))) := by
    intro c _ m u
    by_cases hc : c
    · rw [if_pos hc, bk_or (by omega)]; simp [hc]
    · rw [if_neg hc]; simp [hc]
  refine ⟨fun q hq => ?_, hD.2.1, fun q k hF hne u hu => ?_, fun q hq u hz => ?_, fun q hq u hz => ?_, hD.2.2.2.2.2⟩
  · obtain ⟨h1, h2, h3, h4, h5, h6⟩ := hD.1 q hq
    have hql := rg_lt hS hq
    refine ⟨h1, h2, h3, fun u hu => ?_, h5, h6⟩
    obtain ⟨g1, g2, g3, g4⟩ := h4 u hu
    refine ⟨?_, g2, g3, g4⟩
    have hi2 := hin (ky q) q hql.2 (rg_Fself hS (by simp [hq]))
    have h48 : q ≠ 48 := by omega
    rw [hfill _ _ hql.2, hrd, hor]
    by_cases e : u = t
    · subst e
      by_cases e2 : q ∈ Sg
      · rw [if_pos ⟨rfl, hi2.mpr e2⟩]; simp [e2, h48, dd_b]
      · rw [if_neg (fun z => e2 (hi2.mp z.2)), g1]; simp [e2]
    · rw [if_neg (fun z => e z.1), g1]; simp [e]
  · have hk : k < 1000 := by
      have := (rg_le hS hF.1).2
      have := hF.2.1
      omega
    have hi2 := hin k q hk hF
    rw [hfill _ _ hk, hgr, hor]
    by_cases e : u = t
    · subst e
      by_cases e2 : q ∈ Sg
      · rw [if_pos ⟨rfl, hi2.mpr e2⟩]; simp [e2, dd_b]
      · rw [if_neg (fun z => e2 (hi2.mp z.2)), hD.2.2.1 q k hF hne u hu]; simp [e2]
    · rw [if_neg (fun z => e z.1), hD.2.2.1 q k hF hne u hu]; simp [e]
  · rw [hrd, hor] at hz
    rcases hz with z | z
    · simp at z
      rcases z with z | z
      · exact hD.2.2.2.1 q hq u (Or.inl z)
      · rw [z.2]; exact hp
    · exact hD.2.2.2.1 q hq u (Or.inr z)
  · rw [hgr, hor] at hz
    simp at hz
    rcases hz with z | z
    · exact hD.2.2.2.2.1 q hq u z
    · rw [z.2]; exact hp
theorem dd_own {t r : Nat} {z y : Int32} (hS : rg_S L ky rk nx pv rf fr ec) (hD : dd_D L ky ph st va rd wr gr ow bs bv Yst Yva Yrd Ywr Yto Ybs Ybv) (ht : t < 5) (hr : r ∈ L) (ho : ow r = -1) (hw : bt (wr r) t = true) (hz : (st r = 1 ∧ z = 1 ∧ y = va r) ∨ (st r = 2 ∧ z ≠ 1)) : dd_D L ky ph st va rd wr gr (upd ow r (nI t)) (upd bs r (st r)) (upd bv r (va r)) Yst Yva Yrd Ywr (upd Yto (t * 1000 + ky r) 1) (upd Ybs (t * 1000 + ky r) z) (upd Ybv (t * 1000 + ky r) y) := by
  have hrl := rg_lt hS hr
  refine ⟨fun q hq => ?_, fun k hk hn => ?_, hD.2.2.1, hD.2.2.2.1, hD.2.2.2.2⟩
  · obtain ⟨h1, h2, h3, h4, h5, h6⟩ := hD.1 q hq
    have hql := rg_lt hS hq
    by_cases e : q = r
    · subst e
      refine ⟨h1, h2, h3, fun u hu => ?_, Or.inr ⟨t, ht, pk_us⟩, h6⟩
      obtain ⟨g1, g2, g3, g4⟩ := h4 u hu
      rw [pk_us, pk_us, pk_us]
      by_cases e : u = t
      · subst e
        rw [pk_us, pk_us, pk_us]
        refine ⟨g1, g2, by simp [dd_b], fun _ => ⟨hw, ?_⟩⟩
        rcases hz with c | c
        · exact Or.inl ⟨c.2.1, c.1, c.2.2.symm⟩
        · refine Or.inr ⟨c.2, c.1, ?_⟩
          rcases h1 with d | d
          · rw [c.1] at d; exact absurd d (by decide)
          · exact d.2
      · rw [pk_un (by omega), g3, ho]
        have hne : ¬ nI t = nI u := fun c => e (dd_nIeq ht hu c).symm
        refine ⟨g1, g2, ?_, fun c => absurd c hne⟩
        rw [decide_eq_false hne, decide_eq_false (dd_m1 hu)]
    · have hne : ky q ≠ ky r := fun z => e (rg_inj hS (by simp [hq]) (by simp [hr]) z)
      refine ⟨h1, h2, h3, fun u hu => ?_, ?_, h6⟩
      · rw [pk_un e, pk_un e, pk_un e, pk_un (by omega), pk_un (by omega), pk_un (by omega)]; exact h4 u hu
      · rw [pk_un e]; exact h5
  · obtain ⟨h1, h2, h3⟩ := hD.2.1 k hk hn
    have hne := hn r hr
    refine ⟨h1, h2, fun u hu => ?_⟩
    rw [pk_un (by omega)]
    exact h3 u hu
theorem dd_set {r : Nat} {ns nv : Int32} (hS : rg_S L ky rk nx pv rf fr ec) (hD : dd_D L ky ph st va rd wr gr ow bs bv Yst Yva Yrd Ywr Yto Ybs Ybv) (hr : r ∈ L) (hz : ns = 1 ∨ (ns = 2 ∧ nv = 0)) : dd_D L ky ph (upd st r ns) (upd va r nv) rd wr gr ow bs bv (upd Yst (ky r) ns) (upd Yva (ky r) nv) Yrd Ywr Yto Ybs Ybv := by
  refine ⟨fun q hq => ?_, fun k hk hn => ?_, hD.2.2.1, hD.2.2.2.1, hD.2.2.2.2⟩
  · obtain ⟨h1, h2, h3, h4, h5, h6⟩ := hD.1 q hq
    unfold dd_E
    by_cases e : q = r
    · subst e
      rw [pk_us, pk_us, pk_us, pk_us]
      exact ⟨hz, rfl, rfl, h4, h5, h6⟩
    · have hne : ky q ≠ ky r := fun z => e (rg_inj hS (by simp [hq]) (by simp [hr]) z)
      rw [pk_un e, pk_un e, pk_un hne, pk_un hne]
      exact ⟨h1, h2, h3, h4, h5, h6⟩
  · obtain ⟨h1, h2, h3⟩ := hD.2.1 k hk hn
    have hne : k ≠ ky r := fun e => hn r hr e.symm
    unfold dd_N
    rw [pk_un hne, pk_un hne]
    exact ⟨h1, h2, h3⟩
end
end
section
/-! an entry more, an entry less -/
def rg_u (ky : Nat → Nat) (n k : Nat) : Nat → Nat := fun j => if j = n then k else ky j
theorem tr_nm {l : List Nat} {x y : Nat} (h : y ∉ l) (hx : x ∈ l) : x ≠ y := fun e => h (e ▸ hx)
theorem rg_us {ky : Nat → Nat} {n k : Nat} : rg_u ky n k n = k := if_pos rfl
theorem rg_un {ky : Nat → Nat} {n k j : Nat} (h : j ≠ n) : rg_u ky n k j = ky j := if_neg h
theorem rg_tail {L A B : List Nat} {a : Nat} (e : L ++ [48] = A ++ a :: B) : ∃ Bd, a :: B = Bd ++ [48] ∧ L = A ++ Bd := by
  rcases tr_lc (a :: B) with h | ⟨Bd, z, h⟩
  · simp at h
  · rw [h, ← List.append_assoc] at e
    have h2 := List.append_inj' e rfl
    have h3 := h2.2
    simp at h3
    subst h3
    exact ⟨Bd, h, h2.1⟩
section
variable {L : List Nat} {ky : Nat → Nat} {rk nx pv rf : Nat → Int32} {fr ec : Int32} {ph st va rd wr gr ow bs bv Yst Yva Yrd Ywr Yto Ybs Ybv kd se : Nat → Int32}
theorem rg_48 (hS : rg_S L ky rk nx pv rf fr ec) : 48 ∉ L := fun h => by have := (rg_lt hS h).1; omega
theorem rg_add (hS : rg_S L ky rk nx pv rf fr ec) {A B : List Nat} {a k : Nat} (e : L ++ [48] = A ++ a :: B) (hA : ∀ y ∈ A, ky y < k) (hk : k < ky a) (hk1 : k < 1000) (hl : L.length < 48) : ∃ n f b L', fr = nI (f + 1) ∧ f < 48 ∧ rf f = nI n ∧ n < 48 ∧ n ∉ L ∧ pv a = nI b ∧ b < 49 ∧ L' ++ [48] = A ++ n :: a :: B ∧ (∀ q, q ∈ L' ↔ q = n ∨ q ∈ L) ∧ rg_S L' (rg_u ky n k) (upd rk n (nI k)) (upd (upd nx b (nI n)) n (nI a)) (upd (upd pv n (nI b)) a (nI n)) rf (nI f) (nI (L.length + 1)) := by
  obtain ⟨Bd, eB, eL⟩ := rg_tail e
  obtain ⟨Fr, hF1, hF2, hF3⟩ := hS.2.2.2.2.2.1
  have hFl := hF3.length_eq
  rw [List.length_append, List.length_range] at hFl
  have hnd := rg_nd hS
  have h48 := rg_48 hS
  match Fr, hF1, hF2, hF3, hFl with
  | [], _, _, _, hFl => simp at hFl; omega
  | n :: Fr, hF1, hF2, hF3, hFl =>
    rw [List.length_cons] at hFl
    have hn48 : n < 48 := List.mem_range.mp (hF3.mem_iff.mp (by simp))
    have hnL : n ∉ L := by
      intro h
      have h1 := tr_cp h
      have h2 : (L ++ n :: Fr).count n ≤ 1 := by
        rw [hF3.count_eq n]
        exact List.nodup_iff_count.mp List.nodup_range n
      rw [List.count_append, List.count_cons_self] at h2
      omega
    have hnR : n ∉ L ++ [48] := by
      intro h
      rcases List.mem_append.mp h with h | h
      · exact hnL h
      · rw [List.mem_singleton] at h; omega
    have hnA : n ∉ A := fun h => hnR (by rw [e]; simp [h])
    have hna : n ≠ a := fun h => hnR (by rw [e, h]; simp)
    have hnB : n ∉ B := fun h => hnR (by rw [e]; simp [h])
    rw [e] at hnd
    obtain ⟨hndA, hndB, hndX⟩ := List.nodup_append.mp hnd
    have haB : a ∉ B := (List.nodup_cons.mp hndB).1
    have haA : a ∉ A := fun h => hndX a h a (by simp) rfl
    obtain ⟨A0, b, eA⟩ : ∃ A0 b, 48 :: A = A0 ++ [b] := by
      rcases tr_lc (48 :: A) with h | ⟨A0, b, h⟩
      · simp at h
      · exact ⟨A0, b, h⟩
    have hb : b = 48 ∨ b ∈ A := by
      have : b ∈ 48 :: A := by rw [eA]; simp
      simpa using this
    have hbnd : b ∉ A0 := by
      have h1 : (48 :: A).Nodup := by
        refine List.nodup_cons.mpr ⟨fun h => h48 (by rw [eL]; simp [h]), hndA⟩
      rw [eA] at h1
      intro h
      exact (List.nodup_append.mp h1).2.2 b h b (by simp) rfl
    have hA0 : ∀ x ∈ A0, x = 48 ∨ x ∈ A := fun x hx => by
      have : x ∈ 48 :: A := by rw [eA]; simp [hx]
      simpa using this
    have hbB : b ∉ Bd := by
      intro h
      rcases hb with z | z
      · exact h48 (by rw [eL, ← z]; simp [h])
      · have : b ∈ a :: B := by rw [eB]; simp [h]
        exact hndX b z b this rfl
    have hBdn : n ∉ Bd := fun h => hnL (by rw [eL]; simp [h])
    have hLk := hS.2.2.2.2.1
    rw [e, show (48 :: (A ++ a :: B)) = A0 ++ b :: a :: B by rw [← List.cons_append, eA]; simp] at hLk
    obtain ⟨hLk1, hLk2⟩ := rg_Lk_app.mp hLk
    have hpa : nx b = nI a ∧ pv a = nI b := hLk2.1 a B rfl
    have hbn : b ≠ n := fun h => by rcases hb with z | z; omega; exact hnA (h ▸ z)
    have hL' : (A ++ n :: Bd) ++ [48] = A ++ n :: a :: B := by rw [eB]; simp
    refine ⟨n, Fr.length, b, A ++ n :: Bd, hF2, by omega, hF1.1, hn48, hnL, hpa.2, ?_, hL', ?_, ?_, ?_, ?_, ?_, ?_, ⟨Fr, hF1.2, rfl, ?_⟩, ?_⟩
    · rcases hb with z | z
      · omega
      · have := (rg_lt hS (by rw [eL]; simp [z] : b ∈ L)).1; omega
    · intro q
      rw [eL]
      simp only [List.mem_append, List.mem_cons]
      constructor
      · rintro (z | z | z)
        · exact Or.inr (Or.inl z)
        · exact Or.inl z
        · exact Or.inr (Or.inr z)
      · rintro (z | z | z)
        · exact Or.inr (Or.inl z)
        · exact Or.inl z
        · exact Or.inr (Or.inr z)
    · intro r hr
      by_cases en : r = n
      · rw [en, rg_us]; exact ⟨hn48, hk1⟩
      · rw [rg_un en]
        refine rg_lt hS ?_
        rw [eL]
        simp only [List.mem_append, List.mem_cons] at hr ⊢
        rcases hr with z | z | z
        · exact Or.inl z
        · exact absurd z en
        · exact Or.inr z
    · rw [rg_un (by omega)]; exact hS.2.1
    · intro r hr
      by_cases en : r = n
      · rw [en, rg_us, pk_us]
      · rw [rg_un en, pk_un en]
        refine rg_k hS ?_
        rw [hL'] at hr
        rw [e]
        simp only [List.mem_append, List.mem_cons] at hr ⊢
        rcases hr with z | z | z
        · exact Or.inl z
        · exact absurd z en
        · exact Or.inr z
    · rw [hL']
      have hP := hS.2.2.2.1
      rw [e] at hP
      obtain ⟨hP1, hP2, hP3⟩ := List.pairwise_append.mp hP
      refine List.pairwise_append.mpr ⟨?_, List.pairwise_cons.mpr ⟨?_, ?_⟩, ?_⟩
      · refine List.Pairwise.imp_of_mem ?_ hP1
        intro x y hx hy h
        rw [rg_un (tr_nm hnA hx), rg_un (tr_nm hnA hy)]
        exact h
      · intro x hx
        have hxn : x ≠ n := fun z => by
          rcases List.mem_cons.mp hx with c | c
          · exact hna (z ▸ c)
          · exact hnB (z ▸ c)
        rw [rg_us, rg_un hxn]
        rcases List.mem_cons.mp hx with c | c
        · rw [c]; exact hk
        · have := (List.pairwise_cons.mp hP2).1 x c; omega
      · refine List.Pairwise.imp_of_mem ?_ hP2
        intro x y hx hy h
        have hxn : ∀ x ∈ a :: B, x ≠ n := fun x hx z => by
          rcases List.mem_cons.mp hx with c | c
          · exact hna (z ▸ c)
          · exact hnB (z ▸ c)
        rw [rg_un (hxn x hx), rg_un (hxn y hy)]
        exact h
      · intro x hx y hy
        rw [rg_un (tr_nm hnA hx)]
        rcases List.mem_cons.mp hy with c | c
        · rw [c, rg_us]; exact hA x hx
        · have hyn : y ≠ n := fun z => by
            rcases List.mem_cons.mp c with d | d
            · exact hna (z ▸ d)
            · exact hnB (z ▸ d)
          rw [rg_un hyn]
          exact hP3 x hx y c
    · rw [hL', show (48 :: (A ++ n :: a :: B)) = A0 ++ b :: n :: a :: B by rw [← List.cons_append, eA]; simp]
      refine rg_Lk_app.mpr ⟨rg_Lk_congr ?_ ?_ hLk1, ⟨fun q l' eq => ?_, ⟨fun q l' eq => ?_, rg_Lk_congr ?_ ?_ hLk2.2⟩⟩⟩
      · intro r hr
        rw [List.dropLast_concat] at hr
        have h1 : r ≠ b := fun z => hbnd (z ▸ hr)
        have h2 : r ≠ n := fun z => by rcases hA0 r hr with c | c; omega; exact hnA (z ▸ c)
        rw [pk_un h2, pk_un h1]
      · intro q hq
        rw [← eA, List.tail_cons] at hq
        rw [pk_un (tr_nm haA hq), pk_un (tr_nm hnA hq)]
      · cases eq
        rw [pk_un hbn, pk_us, pk_un hna, pk_us]
        exact ⟨rfl, rfl⟩
      · cases eq
        rw [pk_us, pk_us]
        exact ⟨rfl, rfl⟩
      · intro r hr
        rw [eB, List.dropLast_concat] at hr
        rw [pk_un (tr_nm hBdn hr), pk_un (tr_nm hbB hr)]
      · intro q hq
        rw [List.tail_cons] at hq
        rw [pk_un (tr_nm haB hq), pk_un (tr_nm hnB hq)]
    · refine List.Perm.trans ?_ hF3
      rw [List.perm_iff_count]
      intro x
      rw [eL]
      simp only [List.count_append, List.count_cons]
      omega
    · rw [eL]
      exact congrArg nI (by simp; omega)
theorem rg_rem (hS : rg_S L ky rk nx pv rf fr ec) {A B : List Nat} {g a : Nat} (e : L ++ [48] = A ++ g :: a :: B) : ∃ f b L', fr = nI f ∧ f < 48 ∧ pv g = nI b ∧ nx g = nI a ∧ b < 49 ∧ a < 49 ∧ (b = 48 ∧ A = [] ∨ ∃ A', A = A' ++ [b]) ∧ L' ++ [48] = A ++ a :: B ∧ g ∈ L ∧ (∀ q, q ∈ L' ↔ q ∈ L ∧ q ≠ g) ∧ 0 < L.length ∧ rg_S L' ky rk (upd nx b (nI a)) (upd pv a (nI b)) (upd rf f (nI g)) (nI (f + 1)) (nI (L.length - 1)) := by
  obtain ⟨Bg, eBg, eL0⟩ := rg_tail e
  obtain ⟨Bd, eB⟩ : ∃ Bd, Bg = g :: Bd ∧ a :: B = Bd ++ [48] := by
    cases Bg with
    | nil => simp at eBg
    | cons z Bd =>
      rw [List.cons_append] at eBg
      have := List.cons.inj eBg
      exact ⟨Bd, by rw [this.1], this.2⟩
  obtain ⟨rfl, eB⟩ := eB
  have eL : L = A ++ g :: Bd := eL0
  have hgL : g ∈ L := by rw [eL]; simp
  obtain ⟨Fr, hF1, hF2, hF3⟩ := hS.2.2.2.2.2.1
  have hFl := hF3.length_eq
  rw [List.length_append, List.length_range] at hFl
  have hLl : L.length = A.length + Bd.length + 1 := by rw [eL]; simp; omega
  have hnd := rg_nd hS
  have h48 := rg_48 hS
  rw [e] at hnd
  obtain ⟨hndA, hndB, hndX⟩ := List.nodup_append.mp hnd
  obtain ⟨hgB, hndB2⟩ := List.nodup_cons.mp hndB
  have haB : a ∉ B := (List.nodup_cons.mp hndB2).1
  have haA : a ∉ A := fun h => hndX a h a (by simp) rfl
  have hgA : g ∉ A := fun h => hndX g h g (by simp) rfl
  obtain ⟨A0, b, eA⟩ : ∃ A0 b, 48 :: A = A0 ++ [b] := by
    rcases tr_lc (48 :: A) with h | ⟨A0, b, h⟩
    · simp at h
    · exact ⟨A0, b, h⟩
  have hb : b = 48 ∨ b ∈ A := by
    have : b ∈ 48 :: A := by rw [eA]; simp
    simpa using this
  have hbnd : b ∉ A0 := by
    have h1 : (48 :: A).Nodup := by
      refine List.nodup_cons.mpr ⟨fun h => h48 (by rw [eL]; simp [h]), hndA⟩
    rw [eA] at h1
    intro h
    exact (List.nodup_append.mp h1).2.2 b h b (by simp) rfl
  have hbB : b ∉ Bd := by
    intro h
    rcases hb with z | z
    · exact h48 (by rw [eL, ← z]; simp [h])
    · have h2 : b ∈ a :: B := by rw [eB]; simp [h]
      exact hndX b z b (List.mem_cons_of_mem _ h2) rfl
  have hLk := hS.2.2.2.2.1
  rw [e, show (48 :: (A ++ g :: a :: B)) = A0 ++ b :: g :: a :: B by rw [← List.cons_append, eA]; simp] at hLk
  obtain ⟨hLk1, hLk2⟩ := rg_Lk_app.mp hLk
  have hpg : nx b = nI g ∧ pv g = nI b := hLk2.1 g _ rfl
  have hpa : nx g = nI a ∧ pv a = nI g := hLk2.2.1 a _ rfl
  have hL' : (A ++ Bd) ++ [48] = A ++ a :: B := by rw [eB]; simp
  have haR : a ∈ L ++ [48] := by rw [e]; simp
  refine ⟨Fr.length, b, A ++ Bd, hF2, by omega, hpg.2, hpa.1, ?_, (rg_le hS haR).1, ?_, hL', hgL, ?_, by omega, ?_, hS.2.1, ?_, ?_, ?_, ⟨g :: Fr, tr_FS_push hF1, rfl, ?_⟩, ?_⟩
  · rcases hb with z | z
    · omega
    · have := (rg_lt hS (by rw [eL]; simp [z] : b ∈ L)).1; omega
  · cases A0 with
    | nil =>
      have := List.cons.inj eA
      exact Or.inl ⟨this.1.symm, this.2⟩
    | cons z A0 =>
      have := List.cons.inj eA
      exact Or.inr ⟨A0, this.2⟩
  · intro q
    rw [eL]
    simp only [List.mem_append, List.mem_cons]
    constructor
    · rintro (z | z)
      · exact ⟨Or.inl z, fun c => hgA (c ▸ z)⟩
      · refine ⟨Or.inr (Or.inr z), fun c => hgB ?_⟩
        rw [eB, ← c]; simp [z]
    · rintro ⟨z | z | z, c⟩
      · exact Or.inl z
      · exact absurd z c
      · exact Or.inr z
  · intro r hr
    refine rg_lt hS ?_
    rw [eL]
    simp only [List.mem_append, List.mem_cons] at hr ⊢
    rcases hr with z | z
    · exact Or.inl z
    · exact Or.inr (Or.inr z)
  · intro r hr
    refine rg_k hS ?_
    rw [hL'] at hr
    rw [e]
    simp only [List.mem_append, List.mem_cons] at hr ⊢
    rcases hr with z | z
    · exact Or.inl z
    · exact Or.inr (Or.inr z)
  · rw [hL']
    have hP := hS.2.2.2.1
    rw [e] at hP
    obtain ⟨hP1, hP2, hP3⟩ := List.pairwise_append.mp hP
    exact List.pairwise_append.mpr ⟨hP1, (List.pairwise_cons.mp hP2).2, fun x hx y hy => hP3 x hx y (List.mem_cons_of_mem _ hy)⟩
  · rw [hL', show (48 :: (A ++ a :: B)) = A0 ++ b :: a :: B by rw [← List.cons_append, eA]; simp]
    refine rg_Lk_app.mpr ⟨rg_Lk_congr ?_ ?_ hLk1, ⟨fun q l' eq => ?_, rg_Lk_congr ?_ ?_ hLk2.2.2⟩⟩
    · intro r hr
      rw [List.dropLast_concat] at hr
      exact pk_un (tr_nm hbnd hr)
    · intro q hq
      rw [← eA, List.tail_cons] at hq
      exact pk_un (tr_nm haA hq)
    · cases eq
      rw [pk_us, pk_us]
      exact ⟨rfl, rfl⟩
    · intro r hr
      rw [eB, List.dropLast_concat] at hr
      exact pk_un (tr_nm hbB hr)
    · intro q hq
      rw [List.tail_cons] at hq
      exact pk_un (tr_nm haB hq)
  · refine List.Perm.trans ?_ hF3
    rw [List.perm_iff_count]
    intro x
    rw [eL]
    simp only [List.count_append, List.count_cons]
    omega
  · exact congrArg nI (by simp; omega)
theorem dd_add {L' : List Nat} {n k a : Nat} (hS : rg_S L ky rk nx pv rf fr ec) (hD : dd_D L ky ph st va rd wr gr ow bs bv Yst Yva Yrd Ywr Yto Ybs Ybv) (hn : n < 48) (hnL : n ∉ L) (hL' : ∀ q, q ∈ L' ↔ q = n ∨ q ∈ L) (hk : k < 1000) (ha : rg_F L ky k a) (hka : k ≠ ky a) : dd_D L' (rg_u ky n k) ph (upd st n 2) (upd va n 0) (upd rd n (gr a)) (upd wr n 0) (upd gr n (gr a)) (upd ow n (-1)) bs bv (upd Yst k 2) Yva Yrd Ywr Yto Ybs Ybv := by
  have hkk : ∀ r ∈ L, ky r ≠ k := fun r hr e => by
    rcases ha.2.2 r (by simp [hr]) with z | z
    · omega
    · have := ha.2.1; omega
  have hkN := hD.2.1 k hk hkk
  have hnR : n ∉ L ++ [48] := by
    intro h
    rcases List.mem_append.mp h with h | h
    · exact hnL h
    · rw [List.mem_singleton] at h; omega
  have hR : ∀ q, q ∈ L' ++ [48] ↔ q = n ∨ q ∈ L ++ [48] := fun q => by
    simp only [List.mem_append, hL' q, List.mem_singleton]
    constructor
    · rintro ((z | z) | z)
      · exact Or.inl z
      · exact Or.inr (Or.inl z)
      · exact Or.inr (Or.inr z)
    · rintro (z | z | z)
      · exact Or.inl (Or.inl z)
      · exact Or.inl (Or.inr z)
      · exact Or.inr z
  refine ⟨fun q hq => ?_, fun x hx hne => ?_, fun q x hF hne u hu => ?_, fun q hq u hz => ?_, fun q hq u hz => ?_, ?_⟩
  · by_cases e : q = n
    · subst e
      unfold dd_E
      rw [rg_us, pk_us, pk_us, pk_us, pk_us, pk_us, pk_us]
      refine ⟨Or.inr ⟨rfl, rfl⟩, rfl, hkN.2.1, fun u hu => ⟨?_, ?_, ?_, fun z => absurd z (dd_m1 hu)⟩, Or.inl rfl, fun x y h => ?_⟩
      · exact hD.2.2.1 a k ha hka u hu
      · rw [(hkN.2.2 u hu).1, b_0]; rfl
      · rw [(hkN.2.2 u hu).2, decide_eq_false (dd_m1 hu)]; rfl
      · rw [b_0] at h; exact absurd h (by decide)
    · have hqL : q ∈ L := by rcases (hL' q).mp hq with z | z; exact absurd z e; exact z
      obtain ⟨h1, h2, h3, h4, h5, h6⟩ := hD.1 q hqL
      unfold dd_E
      rw [rg_un e, pk_un e, pk_un e, pk_un e, pk_un e, pk_un e, pk_un (hkk q hqL)]
      exact ⟨h1, h2, h3, h4, h5, h6⟩
  · have hxk : x ≠ k := fun e => by
      have := hne n ((hL' n).mpr (Or.inl rfl))
      rw [rg_us] at this
      exact this e.symm
    have := hD.2.1 x hx (fun r hr => by
      have hrn : r ≠ n := fun z => hnL (z ▸ hr)
      have := hne r ((hL' r).mpr (Or.inr hr))
      rw [rg_un hrn] at this
      exact this)
    unfold dd_N
    rw [pk_un hxk]
    exact this
  · by_cases e : q = n
    · subst e
      rw [rg_us] at hne
      rw [pk_us]
      have hx := hF.2.1
      rw [rg_us] at hx
      refine hD.2.2.1 a x ⟨ha.1, by have := ha.2.1; omega, fun p hp => ?_⟩ (by have := ha.2.1; omega) u hu
      have hpn : p ≠ q := fun z => hnR (z ▸ hp)
      have h1 := hF.2.2 p ((hR p).mpr (Or.inr hp))
      rw [rg_un hpn, rg_us] at h1
      have h2 := ha.2.2 p hp
      omega
    · rw [rg_un e] at hne
      rw [pk_un e]
      have hqR : q ∈ L ++ [48] := by rcases (hR q).mp hF.1 with z | z; exact absurd z e; exact z
      have hx := hF.2.1
      rw [rg_un e] at hx
      refine hD.2.2.1 q x ⟨hqR, hx, fun p hp => ?_⟩ hne u hu
      have hpn : p ≠ n := fun z => hnR (z ▸ hp)
      have h1 := hF.2.2 p ((hR p).mpr (Or.inr hp))
      rw [rg_un hpn, rg_un e] at h1
      exact h1
  · by_cases e : q = n
    · subst e
      rw [pk_us, pk_us] at hz
      rcases hz with z | z
      · exact hD.2.2.2.2.1 a ha.1 u z
      · rw [b_0] at z; exact absurd z (by decide)
    · rw [pk_un e, pk_un e] at hz
      have hqL : q ∈ L := by rcases (hL' q).mp hq with z | z; exact absurd z e; exact z
      exact hD.2.2.2.1 q hqL u hz
  · by_cases e : q = n
    · subst e
      rw [pk_us] at hz
      exact hD.2.2.2.2.1 a ha.1 u hz
    · rw [pk_un e] at hz
      have hqR : q ∈ L ++ [48] := by rcases (hR q).mp hq with z | z; exact absurd z e; exact z
      exact hD.2.2.2.2.1 q hqR u hz
  · rw [pk_un (by omega)]; exact hD.2.2.2.2.2
theorem dd_rem {L' : List Nat} {g a : Nat} (hS : rg_S L ky rk nx pv rf fr ec) (hD : dd_D L ky ph st va rd wr gr ow bs bv Yst Yva Yrd Ywr Yto Ybs Ybv) (hg : g ∈ L) (hL' : ∀ q, q ∈ L' ↔ q ∈ L ∧ q ≠ g) (ha : rg_F L ky (ky g + 1) a) (hw : wr g = 0) (hb : ∀ x, x < ky g → rg_F L ky x g → gr g = rd g) (hc : ∀ x, ky g < x → x < ky a → gr a = rd g) : dd_D L' ky ph st va (upd rd g 0) wr (upd (upd gr a (rd g)) g 0) ow bs bv (upd Yst (ky g) 0) (upd Yva (ky g) 0) Yrd Ywr Yto Ybs Ybv := by
  have hgl := rg_lt hS hg
  have hga : g ≠ a := fun e => by have := ha.2.1; rw [← e] at this; omega
  have hR : ∀ q, q ∈ L' ++ [48] ↔ q ∈ L ++ [48] ∧ q ≠ g := fun q => by
    simp only [List.mem_append, hL' q, List.mem_singleton]
    constructor
    · rintro (z | z)
      · exact ⟨Or.inl z.1, z.2⟩
      · exact ⟨Or.inr z, by omega⟩
    · rintro ⟨z | z, c⟩
      · exact Or.inl ⟨z, c⟩
      · exact Or.inr z
  have hwb : ∀ u, bt (wr g) u = false := fun u => by rw [hw]; exact b_0 u
  refine ⟨fun q hq => ?_, fun x hx hne => ?_, fun q x hF hne u hu => ?_, fun q hq u hz => ?_, fun q hq u hz => ?_, hD.2.2.2.2.2⟩
  · obtain ⟨hqL, hqg⟩ := (hL' q).mp hq
    obtain ⟨h1, h2, h3, h4, h5, h6⟩ := hD.1 q hqL
    have hne : ky q ≠ ky g := fun z => hqg (rg_inj hS (by simp [hqL]) (by simp [hg]) z)
    unfold dd_E
    rw [pk_un hqg, pk_un hne, pk_un hne]
    exact ⟨h1, h2, h3, h4, h5, h6⟩
  · by_cases e : x = ky g
    · subst e
      obtain ⟨h1, h2, h3, h4, h5, h6⟩ := hD.1 g hg
      refine ⟨pk_us, pk_us, fun u hu => ?_⟩
      obtain ⟨g1, g2, g3, g4⟩ := h4 u hu
      rw [g2, g3, hwb]
      refine ⟨rfl, ?_⟩
      rw [dd_b0]
      apply decide_eq_false
      intro z
      have := (g4 z).1
      rw [hwb] at this
      exact absurd this (by decide)
    · have := hD.2.1 x hx (fun r hr z => by
        by_cases er : r = g
        · rw [er] at z; exact e z.symm
        · exact hne r ((hL' r).mpr ⟨hr, er⟩) z)
      unfold dd_N
      rw [pk_un e, pk_un e]
      exact this
  · obtain ⟨hqR, hqg⟩ := (hR q).mp hF.1
    rw [pk_un hqg]
    have ha2 := ha.2.1
    by_cases e : q = a
    · subst e
      rw [pk_us]
      have hx := hF.2.1
      have hold : ∀ p ∈ L ++ [48], p ≠ g → ky p < x ∨ ky q ≤ ky p := fun p hp hpg => hF.2.2 p ((hR p).mpr ⟨hp, hpg⟩)
      rcases Nat.lt_trichotomy x (ky g) with hlt | heq | hgt
      · have hFg : rg_F L ky x g := by
          refine ⟨by simp [hg], by omega, fun p hp => ?_⟩
          by_cases epg : p = g
          · rw [epg]; exact Or.inr (Nat.le_refl _)
          · rcases hold p hp epg with z | z
            · exact Or.inl z
            · exact Or.inr (by omega)
        rw [hD.2.2.1 g x hFg (by omega) u hu, hb x hlt hFg]
      · rw [heq]
        exact ((hD.1 g hg).2.2.2.1 u hu).1
      · have hFa : rg_F L ky x q := by
          refine ⟨hqR, hx, fun p hp => ?_⟩
          by_cases epg : p = g
          · rw [epg]; exact Or.inl hgt
          · exact hold p hp epg
        rw [hD.2.2.1 q x hFa hne u hu, hc x hgt (by omega)]
    · rw [pk_un e]
      refine hD.2.2.1 q x ⟨hqR, hF.2.1, fun p hp => ?_⟩ hne u hu
      by_cases epg : p = g
      · subst epg
        apply Classical.byContradiction
        intro hcon
        have hax := hF.2.2 a ((hR a).mpr ⟨ha.1, fun z => hga z.symm⟩)
        have hqa := ha.2.2 q hqR
        have : ky q = ky a := by omega
        exact e (rg_inj hS hqR ha.1 this)
      · exact hF.2.2 p ((hR p).mpr ⟨hp, epg⟩)
  · obtain ⟨hqL, hqg⟩ := (hL' q).mp hq
    rw [pk_un hqg] at hz
    exact hD.2.2.2.1 q hqL u hz
  · obtain ⟨hqR, hqg⟩ := (hR q).mp hq
    rw [pk_un hqg] at hz
    by_cases e : q = a
    · subst e
      rw [pk_us] at hz
      exact hD.2.2.2.1 g hg u (Or.inl hz)
    · rw [pk_un e] at hz
      exact hD.2.2.2.2.1 q hqR u hz
end
end
section
/-! the component's stores -/
section
variable {f_END f_NOBODY f_FAN f_FILL f_STRIDE f_DEPTH f_PAGES f_ROWS f_slots f_capacity f_entryCount f_freeRecs f_freePages f_root f_height : Int32} {f_clock : Int64} {a_recKey a_recState a_recValue a_next a_prev a_readers a_writers a_gapReaders a_owner a_baseState a_baseValue a_recFree a_pageFill a_pageSlot a_pageTop a_pageFree a_pathPage a_pathSlot a_phaseOf a_outcomeOf a_used : Nat → Int32} {a_beganAt : Nat → Int64} {a_opKind a_opFirst a_opSecond : Nat → Int32} {a_acceptedAt : Nat → Int64} {a_rowCount a_rowKeys a_rowValues a_reach : Nat → Int32}
theorem xw_addRow {post : SX → Prop} {t r c : Nat} (ht : t < 5) (hr : r < 49) (hc : a_rowCount t = nI c) (hc2 : c < 48) (h : post (f_END, f_NOBODY, f_FAN, f_FILL, f_STRIDE, f_DEPTH, f_PAGES, f_ROWS, f_slots, f_capacity, f_entryCount, f_freeRecs, f_freePages, f_root, f_height, f_clock, a_recKey, a_recState, a_recValue, a_next, a_prev, a_readers, a_writers, a_gapReaders, a_owner, a_baseState, a_baseValue, a_recFree, a_pageFill, a_pageSlot, a_pageTop, a_pageFree, a_pathPage, a_pathSlot, a_phaseOf, a_outcomeOf, a_used, a_beganAt, a_opKind, a_opFirst, a_opSecond, a_acceptedAt, upd a_rowCount t (nI (c + 1)), upd a_rowKeys (t * 48 + c) (a_recKey r), upd a_rowValues (t * 48 + c) (a_recValue r), a_reach)) : wpX_addRow post (f_END, f_NOBODY, f_FAN, f_FILL, f_STRIDE, f_DEPTH, f_PAGES, f_ROWS, f_slots, f_capacity, f_entryCount, f_freeRecs, f_freePages, f_root, f_height, f_clock, a_recKey, a_recState, a_recValue, a_next, a_prev, a_readers, a_writers, a_gapReaders, a_owner, a_baseState, a_baseValue, a_recFree, a_pageFill, a_pageSlot, a_pageTop, a_pageFree, a_pathPage, a_pathSlot, a_phaseOf, a_outcomeOf, a_used, a_beganAt, a_opKind, a_opFirst, a_opSecond, a_acceptedAt, a_rowCount, a_rowKeys, a_rowValues, a_reach) (nI t) (nI r) := by
  have vt : vp_in (nI t) 5 := vp_in_nI ht (by omega)
  have ct : (nI t).toNatClampNeg = t := nI_clamp (by omega)
  have vr : vp_in (nI r) 49 := vp_in_nI hr (by omega)
  have cr : (nI r).toNatClampNeg = r := nI_clamp (by omega)
  have e1 : nI t * 48 + nI c = nI (t * 48 + c) := by rw [show (48 : Int32) = nI 48 from rfl, pk_mul, nI_add]
  have v2 : vp_in (nI (t * 48 + c)) 240 := vp_in_nI (by omega) (by omega)
  have c2 : (nI (t * 48 + c)).toNatClampNeg = t * 48 + c := nI_clamp (by omega)
  refine ⟨vt, ?_⟩
  rw [ct, cr]
  refine nm_r hc (br_f (nI_ge (b := 48) hc2 (by omega)) ⟨vr, ?_⟩)
  rw [e1, c2, nI_1]
  exact ⟨v2, nm_e ⟨vr, v2, nm_e ⟨vt, nm_e h⟩⟩⟩
theorem xw_change {post : SX → Prop} {t r : Nat} {ns nv : Int32} (ht : t < 5) (hr : r < 49) (h1 : a_owner r = -1 → post (f_END, f_NOBODY, f_FAN, f_FILL, f_STRIDE, f_DEPTH, f_PAGES, f_ROWS, f_slots, f_capacity, f_entryCount, f_freeRecs, f_freePages, f_root, f_height, f_clock, a_recKey, upd a_recState r ns, upd a_recValue r nv, a_next, a_prev, a_readers, a_writers, a_gapReaders, upd a_owner r (nI t), upd a_baseState r (a_recState r), upd a_baseValue r (a_recValue r), a_recFree, a_pageFill, a_pageSlot, a_pageTop, a_pageFree, a_pathPage, a_pathSlot, a_phaseOf, a_outcomeOf, a_used, a_beganAt, a_opKind, a_opFirst, a_opSecond, a_acceptedAt, a_rowCount, a_rowKeys, a_rowValues, a_reach)) (h2 : a_owner r ≠ -1 → post (f_END, f_NOBODY, f_FAN, f_FILL, f_STRIDE, f_DEPTH, f_PAGES, f_ROWS, f_slots, f_capacity, f_entryCount, f_freeRecs, f_freePages, f_root, f_height, f_clock, a_recKey, upd a_recState r ns, upd a_recValue r nv, a_next, a_prev, a_readers, a_writers, a_gapReaders, a_owner, a_baseState, a_baseValue, a_recFree, a_pageFill, a_pageSlot, a_pageTop, a_pageFree, a_pathPage, a_pathSlot, a_phaseOf, a_outcomeOf, a_used, a_beganAt, a_opKind, a_opFirst, a_opSecond, a_acceptedAt, a_rowCount, a_rowKeys, a_rowValues, a_reach)) : wpX_change post (f_END, f_NOBODY, f_FAN, f_FILL, f_STRIDE, f_DEPTH, f_PAGES, f_ROWS, f_slots, f_capacity, f_entryCount, f_freeRecs, f_freePages, f_root, f_height, f_clock, a_recKey, a_recState, a_recValue, a_next, a_prev, a_readers, a_writers, a_gapReaders, a_owner, a_baseState, a_baseValue, a_recFree, a_pageFill, a_pageSlot, a_pageTop, a_pageFree, a_pathPage, a_pathSlot, a_phaseOf, a_outcomeOf, a_used, a_beganAt, a_opKind, a_opFirst, a_opSecond, a_acceptedAt, a_rowCount, a_rowKeys, a_rowValues, a_reach) (nI t) (nI r) ns nv := by
  have vr : vp_in (nI r) 49 := vp_in_nI hr (by omega)
  have cr : (nI r).toNatClampNeg = r := nI_clamp (by omega)
  refine ⟨vr, ?_⟩
  rw [cr]
  refine br_c (fun z => ⟨vr, nm_e ⟨vr, vr, nm_e ⟨vr, vr, nm_e ?_⟩⟩⟩) (fun z => ?_)
  · unfold wX_change_41
    rw [cr]
    exact ⟨vr, nm_e ⟨vr, nm_e (h1 z)⟩⟩
  · unfold wX_change_41
    rw [cr]
    exact ⟨vr, nm_e ⟨vr, nm_e (h2 z)⟩⟩
theorem xw_forget {post : SX → Prop} {t : Nat} (ht : t < 5) (h : post (f_END, f_NOBODY, f_FAN, f_FILL, f_STRIDE, f_DEPTH, f_PAGES, f_ROWS, f_slots, f_capacity, f_entryCount, f_freeRecs, f_freePages, f_root, f_height, f_clock, a_recKey, a_recState, a_recValue, a_next, a_prev, a_readers, a_writers, a_gapReaders, a_owner, a_baseState, a_baseValue, a_recFree, a_pageFill, a_pageSlot, a_pageTop, a_pageFree, a_pathPage, a_pathSlot, a_phaseOf, a_outcomeOf, a_used, a_beganAt, upd a_opKind t 0, upd a_opFirst t 0, upd a_opSecond t 0, a_acceptedAt, a_rowCount, a_rowKeys, a_rowValues, a_reach)) : wpX_forgetOperation post (f_END, f_NOBODY, f_FAN, f_FILL, f_STRIDE, f_DEPTH, f_PAGES, f_ROWS, f_slots, f_capacity, f_entryCount, f_freeRecs, f_freePages, f_root, f_height, f_clock, a_recKey, a_recState, a_recValue, a_next, a_prev, a_readers, a_writers, a_gapReaders, a_owner, a_baseState, a_baseValue, a_recFree, a_pageFill, a_pageSlot, a_pageTop, a_pageFree, a_pathPage, a_pathSlot, a_phaseOf, a_outcomeOf, a_used, a_beganAt, a_opKind, a_opFirst, a_opSecond, a_acceptedAt, a_rowCount, a_rowKeys, a_rowValues, a_reach) (nI t) := by
  have vt : vp_in (nI t) 5 := vp_in_nI ht (by omega)
  have ct : (nI t).toNatClampNeg = t := nI_clamp (by omega)
  refine ⟨vt, ?_⟩
  rw [ct]
  exact nm_e ⟨vt, nm_e ⟨vt, nm_e h⟩⟩
theorem xw_addGhost {post : Int32 → SX → Prop} {L : List Nat} {ky : Nat → Nat} {A B : List Nat} {a k : Nat} (hS : rg_S L ky a_recKey a_next a_prev a_recFree f_freeRecs f_entryCount) (hR : rg_T a_pageFill a_pageSlot a_pageTop a_pageFree f_freePages f_root f_height L ky) (e : L ++ [48] = A ++ a :: B) (hA : ∀ y ∈ A, ky y < k) (hk : k < ky a) (hk1 : k < 1000) (hl : L.length < 48)
    (h : ∀ n L' nx pv fr ec pf ps pt fp rt ht pp sl, n < 48 → n ∉ L → (∀ q, q ∈ L' ↔ q = n ∨ q ∈ L) → rg_S L' (rg_u ky n k) (upd a_recKey n (nI k)) nx pv a_recFree fr ec → rg_T pf ps pt a_pageFree fp rt ht L' (rg_u ky n k) → post (nI n) (f_END, f_NOBODY, f_FAN, f_FILL, f_STRIDE, f_DEPTH, f_PAGES, f_ROWS, f_slots, f_capacity, ec, fr, fp, rt, ht, f_clock, upd a_recKey n (nI k), upd a_recState n 2, upd a_recValue n 0, nx, pv, upd a_readers n (a_gapReaders a), upd a_writers n 0, upd a_gapReaders n (a_gapReaders a), upd a_owner n (-1), a_baseState, a_baseValue, a_recFree, pf, ps, pt, a_pageFree, pp, sl, a_phaseOf, a_outcomeOf, a_used, a_beganAt, a_opKind, a_opFirst, a_opSecond, a_acceptedAt, a_rowCount, a_rowKeys, a_rowValues, a_reach)) : wpX_addGhost post (f_END, f_NOBODY, f_FAN, f_FILL, f_STRIDE, f_DEPTH, f_PAGES, f_ROWS, f_slots, f_capacity, f_entryCount, f_freeRecs, f_freePages, f_root, f_height, f_clock, a_recKey, a_recState, a_recValue, a_next, a_prev, a_readers, a_writers, a_gapReaders, a_owner, a_baseState, a_baseValue, a_recFree, a_pageFill, a_pageSlot, a_pageTop, a_pageFree, a_pathPage, a_pathSlot, a_phaseOf, a_outcomeOf, a_used, a_beganAt, a_opKind, a_opFirst, a_opSecond, a_acceptedAt, a_rowCount, a_rowKeys, a_rowValues, a_reach) (nI k) := by
  obtain ⟨n, f, b, L', g1, g2, g3, g4, g5, g6, g7, g8, g9, g10⟩ := rg_add hS e hA hk hk1 hl
  obtain ⟨C, gs, F, hT⟩ := hR
  have haR : a ∈ L ++ [48] := by rw [e]; simp
  have ha49 := (rg_le hS haR).1
  have hka := (rg_le hS haR).2
  have vn : vp_in (nI n) 49 := vp_in_nI (by omega) (by omega)
  have va : vp_in (nI a) 49 := vp_in_nI (by omega) (by omega)
  have vb : vp_in (nI b) 49 := vp_in_nI (by omega) (by omega)
  have cn : (nI n).toNatClampNeg = n := nI_clamp (by omega)
  have ca : (nI a).toNatClampNeg = a := nI_clamp (by omega)
  have cb : (nI b).toNatClampNeg = b := nI_clamp (by omega)
  have cf : (nI f).toNatClampNeg = f := nI_clamp (by omega)
  have hnR : n ∉ L ++ [48] := by
    intro hm
    rcases List.mem_append.mp hm with z | z
    · exact g5 z
    · rw [List.mem_singleton] at z; omega
  have hmp : ∀ l : List Nat, n ∉ l → l.map (fun r => (r, rg_u ky n k r)) = l.map (fun r => (r, ky r)) := fun l hl => List.map_congr_left (fun r hr => by rw [rg_un (tr_nm hl hr)])
  unfold wpX_addGhost
  refine xw_locP hS hT (by omega) e hA (by omega) fun pp sl hPt => ?_
  refine nm_r (e' := nI f) (by rw [g1]; exact nI_pred f) ⟨vp_in_nI g2 (by omega), nm_r (e' := nI n) (by rw [cf]; exact g3) ?_⟩
  rw [cn, ca]
  refine ⟨vn, nm_e ⟨vn, nm_e ⟨vn, nm_e ⟨vn, nm_e ⟨vn, nm_e ⟨va, vn, nm_e ⟨va, vn, nm_e ⟨va, nm_r g6 ⟨vb, ?_⟩⟩⟩⟩⟩⟩⟩⟩⟩
  rw [cb]
  refine nm_e ⟨vn, nm_e ⟨vn, nm_e ⟨va, nm_e ?_⟩⟩⟩
  have eb : rg_b L ky = A.map (fun r => (r, ky r)) ++ (a, ky a) :: B.map (fun r => (r, ky r)) := by
    unfold rg_b; rw [e]; simp
  have hlen : (rg_b L ky).length ≤ 49 := by unfold rg_b; simp; omega
  have eb' : rg_b L' (rg_u ky n k) = A.map (fun r => (r, ky r)) ++ (n, k) :: (a, ky a) :: B.map (fun r => (r, ky r)) := by
    unfold rg_b
    rw [g8, List.map_append, List.map_cons, List.map_cons, rg_us, hmp A (fun z => hnR (by rw [e]; simp [z])), hmp B (fun z => hnR (by rw [e]; simp [z])), rg_un (fun z => hnR (by rw [e, z]; simp))]
  refine xw_insT hT hlen eb eb' hPt (by omega) (by omega) fun pf ps pt fp rt ht C' gs' F' hT' => ?_
  refine nm_r (e' := nI (L.length + 1)) ?_ (h n L' _ _ _ _ pf ps pt fp rt ht pp sl g4 g5 g9 g10 ⟨C', gs', F', hT'⟩)
  rw [hS.2.2.2.2.2.2]
  exact nI_1 _
theorem xw_removeEntry {post : SX → Prop} {L : List Nat} {ky : Nat → Nat} {A B : List Nat} {g a : Nat} (hS : rg_S L ky a_recKey a_next a_prev a_recFree f_freeRecs f_entryCount) (hR : rg_T a_pageFill a_pageSlot a_pageTop a_pageFree f_freePages f_root f_height L ky) (e : L ++ [48] = A ++ g :: a :: B)
    (h : ∀ L' nx pv rf fr ec pf ps pt pe fp rt ht pp sl, (∀ q, q ∈ L' ↔ q ∈ L ∧ q ≠ g) → L' ++ [48] = A ++ a :: B → rg_S L' ky a_recKey nx pv rf fr ec → rg_T pf ps pt pe fp rt ht L' ky → post (f_END, f_NOBODY, f_FAN, f_FILL, f_STRIDE, f_DEPTH, f_PAGES, f_ROWS, f_slots, f_capacity, ec, fr, fp, rt, ht, f_clock, a_recKey, a_recState, a_recValue, nx, pv, upd a_readers g 0, a_writers, upd (upd a_gapReaders a (a_readers g)) g 0, a_owner, a_baseState, a_baseValue, rf, pf, ps, pt, pe, pp, sl, a_phaseOf, a_outcomeOf, a_used, a_beganAt, a_opKind, a_opFirst, a_opSecond, a_acceptedAt, a_rowCount, a_rowKeys, a_rowValues, a_reach)) : wpX_removeEntry post (f_END, f_NOBODY, f_FAN, f_FILL, f_STRIDE, f_DEPTH, f_PAGES, f_ROWS, f_slots, f_capacity, f_entryCount, f_freeRecs, f_freePages, f_root, f_height, f_clock, a_recKey, a_recState, a_recValue, a_next, a_prev, a_readers, a_writers, a_gapReaders, a_owner, a_baseState, a_baseValue, a_recFree, a_pageFill, a_pageSlot, a_pageTop, a_pageFree, a_pathPage, a_pathSlot, a_phaseOf, a_outcomeOf, a_used, a_beganAt, a_opKind, a_opFirst, a_opSecond, a_acceptedAt, a_rowCount, a_rowKeys, a_rowValues, a_reach) (nI g) := by
  obtain ⟨f, b, L', g1, g2, g3, g4, g5, g6, g7, g8, g9, g10, g11, g12⟩ := rg_rem hS e
  obtain ⟨C, gs, F, hT⟩ := hR
  have hgl := rg_lt hS g9
  have hlL := (rg_len hS).1
  have vg : vp_in (nI g) 49 := vp_in_nI (by omega) (by omega)
  have va : vp_in (nI a) 49 := vp_in_nI (by omega) (by omega)
  have vb : vp_in (nI b) 49 := vp_in_nI (by omega) (by omega)
  have cg : (nI g).toNatClampNeg = g := nI_clamp (by omega)
  have ca : (nI a).toNatClampNeg = a := nI_clamp (by omega)
  have cb : (nI b).toNatClampNeg = b := nI_clamp (by omega)
  have cf : (nI f).toNatClampNeg = f := nI_clamp (by omega)
  refine ⟨vg, nm_r (e' := nI b) (by rw [cg]; exact g3) ⟨vg, nm_r (e' := nI a) (by rw [cg]; exact g4) ⟨vg, va, ?_⟩⟩⟩
  rw [cg, ca, cb]
  refine nm_e ⟨vb, nm_e ⟨va, nm_e ⟨vg, ?_⟩⟩⟩
  rw [rg_k hS (by simp [g9])]
  have eb : rg_b L ky = A.map (fun r => (r, ky r)) ++ (g, ky g) :: (a :: B).map (fun r => (r, ky r)) := by
    unfold rg_b; rw [e]; simp
  have eb' : rg_b L' ky = A.map (fun r => (r, ky r)) ++ (a :: B).map (fun r => (r, ky r)) := by
    unfold rg_b; rw [g8]; simp
  have hlen : (rg_b L ky).length ≤ 49 := by unfold rg_b; simp; omega
  refine xw_remT (x := (g, ky g)) hT hlen (rg_So hS) eb eb' (by simp) (by show ky g ≤ 1000; omega) fun pf ps pt pe fp rt ht pp sl C' gs' F' hT' => ⟨vg, ?_⟩
  refine nm_e ⟨vg, nm_e ?_⟩
  rw [g1]
  refine br_f (nI_ge (b := 48) g2 (by omega)) ⟨vp_in_nI g2 (by omega), ?_⟩
  rw [cf]
  refine nm_e (nm_r (nI_1 f) (nm_r (e' := nI (L.length - 1)) ?_ (h L' _ _ _ _ _ pf ps pt pe fp rt ht pp sl g10 g8 g12 ⟨C', gs', F', hT'⟩)))
  rw [hS.2.2.2.2.2.2]
  obtain ⟨m, hm⟩ : ∃ m, L.length = m + 1 := ⟨L.length - 1, by omega⟩
  rw [hm]
  exact nI_pred m
theorem xw_isRem {post : Int32 → Prop} {L : List Nat} {ky : Nat → Nat} {A B : List Nat} {g a : Nat} (hS : rg_S L ky a_recKey a_next a_prev a_recFree f_freeRecs f_entryCount) (e : L ++ [48] = A ++ g :: a :: B) (h1 : a_writers g = 0 → (∀ x, x < ky g → rg_F L ky x g → a_gapReaders g = a_readers g) → (∀ x, ky g < x → x < ky a → a_gapReaders a = a_readers g) → post 1) (h0 : ¬ (a_writers g = 0 ∧ (∀ x, x < ky g → rg_F L ky x g → a_gapReaders g = a_readers g) ∧ (∀ x, ky g < x → x < ky a → a_gapReaders a = a_readers g)) → post 0) : wpX_isRemovable post (f_END, f_NOBODY, f_FAN, f_FILL, f_STRIDE, f_DEPTH, f_PAGES, f_ROWS, f_slots, f_capacity, f_entryCount, f_freeRecs, f_freePages, f_root, f_height, f_clock, a_recKey, a_recState, a_recValue, a_next, a_prev, a_readers, a_writers, a_gapReaders, a_owner, a_baseState, a_baseValue, a_recFree, a_pageFill, a_pageSlot, a_pageTop, a_pageFree, a_pathPage, a_pathSlot, a_phaseOf, a_outcomeOf, a_used, a_beganAt, a_opKind, a_opFirst, a_opSecond, a_acceptedAt, a_rowCount, a_rowKeys, a_rowValues, a_reach) (nI g) := by
  obtain ⟨f, b, L', g1, g2, g3, g4, g5, g6, g7, g8, g9, g10, g11, g12⟩ := rg_rem hS e
  have hgl := rg_lt hS g9
  have hgR : g ∈ L ++ [48] := by simp [g9]
  have haR : a ∈ L ++ [48] := by rw [e]; simp
  have hal := rg_le hS haR
  have ho := rg_ord hS e
  have hga : ky g < ky a := ho.2.1 a (by simp)
  have vg : vp_in (nI g) 49 := vp_in_nI (by omega) (by omega)
  have va : vp_in (nI a) 49 := vp_in_nI (by omega) (by omega)
  have vb : vp_in (nI b) 49 := vp_in_nI (by omega) (by omega)
  have cg : (nI g).toNatClampNeg = g := nI_clamp (by omega)
  have ca : (nI a).toNatClampNeg = a := nI_clamp (by omega)
  have cb : (nI b).toNatClampNeg = b := nI_clamp (by omega)
  have i1 : (1 : Int32) = nI 1 := rfl
  refine ⟨vg, ?_⟩
  rw [cg]
  refine br_c (fun hw => ⟨vg, nm_r (rg_k hS hgR) ⟨vg, nm_r g3 ?_⟩⟩) (fun hw => h0 (fun z => hw z.1))
  have last : (∀ x, x < ky g → rg_F L ky x g → a_gapReaders g = a_readers g) → wX_isRemovable_68 post (nI g) (nI (ky g)) f_END f_NOBODY f_FAN f_FILL f_STRIDE f_DEPTH f_PAGES f_ROWS f_slots f_capacity f_entryCount f_freeRecs f_freePages f_root f_height f_clock a_recKey a_recState a_recValue a_next a_prev a_readers a_writers a_gapReaders a_owner a_baseState a_baseValue a_recFree a_pageFill a_pageSlot a_pageTop a_pageFree a_pathPage a_pathSlot a_phaseOf a_outcomeOf a_used a_beganAt a_opKind a_opFirst a_opSecond a_acceptedAt a_rowCount a_rowKeys a_rowValues a_reach := by
    intro hb
    refine ⟨vg, nm_r (e' := nI a) (by rw [cg]; exact g4) ⟨va, ?_⟩⟩
    rw [ca, cg, rg_k hS haR, pk_sub (by omega)]
    refine pk_le (ky a - ky g) 1 (fun hle => h1 hw hb (fun x h2 h3 => by omega)) (fun hle => ⟨va, vg, br_c (fun hq => h1 hw hb (fun _ _ _ => hq)) (fun hq => h0 (fun z => hq (z.2.2 (ky g + 1) (by omega) (by omega))))⟩)
  have mid : ∀ (z0 : Int32) (d : Nat), nI (ky g) - z0 = nI d → d ≤ 1000 → (d ≤ 1 → ∀ x, x < ky g → ¬ rg_F L ky x g) → (1 < d → ∃ x, x < ky g ∧ rg_F L ky x g) → wX_isRemovable_41 post (nI g) (nI (ky g)) z0 f_END f_NOBODY f_FAN f_FILL f_STRIDE f_DEPTH f_PAGES f_ROWS f_slots f_capacity f_entryCount f_freeRecs f_freePages f_root f_height f_clock a_recKey a_recState a_recValue a_next a_prev a_readers a_writers a_gapReaders a_owner a_baseState a_baseValue a_recFree a_pageFill a_pageSlot a_pageTop a_pageFree a_pathPage a_pathSlot a_phaseOf a_outcomeOf a_used a_beganAt a_opKind a_opFirst a_opSecond a_acceptedAt a_rowCount a_rowKeys a_rowValues a_reach := by
    intro z0 d hd hd1 hd2 hd3
    unfold wX_isRemovable_41
    rw [hd, cg]
    refine pk_le d 1 (fun hle => last (fun x hx hF => absurd hF (hd2 hle x hx))) (fun hle => ⟨vg, vg, br_c (fun hq => last (fun _ _ _ => hq)) (fun hq => h0 (fun z => ?_))⟩)
    obtain ⟨x, hx, hF⟩ := hd3 hle
    exact hq (z.2.1 x hx hF)
  rcases g7 with ⟨e48, eA⟩ | ⟨A', eA⟩
  · subst e48 eA
    refine br_t rfl (mid (-1) (ky g + 1) ?_ (by omega) (fun hle x hx => by omega) (fun hle => ⟨0, by omega, hgR, by omega, fun p hp => Or.inr ?_⟩))
    · rw [Int32.sub_neg, nI_1]
    · rw [e] at hp
      simp only [List.nil_append, List.mem_cons] at hp
      rcases hp with z | z | z
      · rw [z]; exact Nat.le_refl _
      · rw [z]; omega
      · have := ho.2.1 p (by simp [z]); omega
  · subst eA
    have hbA := ho.1 b (by simp)
    have hbR : b ∈ L ++ [48] := by rw [e]; simp
    have hbL : b ∈ L := rg_L hS hbR (by omega)
    have hbl := rg_lt hS hbL
    have hb48 : ¬ nI b = 48 := by
      rw [show (48 : Int32) = nI 48 from rfl, nI_eq (by omega) (by omega)]; omega
    refine br_f hb48 ⟨vb, ?_⟩
    rw [cb, rg_k hS hbR]
    refine mid _ (ky g - ky b) (pk_sub (by omega)) (by omega) (fun hle x hx hF => ?_) (fun hle => ⟨ky b + 1, by omega, hgR, by omega, fun p hp => ?_⟩)
    · rcases hF.2.2 b hbR with z | z
      · omega
      · omega
    · rw [e] at hp
      simp only [List.mem_append, List.mem_cons] at hp
      have ho2 := rg_ord hS (A := A') (r := b) (B := g :: a :: B) (by rw [e]; simp)
      rcases hp with (z | z | z) | z | z | z
      · have := ho2.1 p z; omega
      · rw [z]; omega
      · simp at z
      · rw [z]; omega
      · rw [z]; omega
      · have := ho.2.1 p (by simp [z]); omega
end
end
section
/-! the end of a transaction, on both sides -/
theorem dd_v0 : vp_nar .boolean 0 = 0 := by decide
theorem dd_v1 : vp_nar .boolean 1 = 1 := by decide
section
variable {f_END f_NOBODY f_FAN f_FILL f_STRIDE f_DEPTH f_PAGES f_ROWS f_slots f_capacity f_entryCount f_freeRecs f_freePages f_root f_height : Int32} {f_clock : Int64} {a_recKey a_recState a_recValue a_next a_prev a_readers a_writers a_gapReaders a_owner a_baseState a_baseValue a_recFree a_pageFill a_pageSlot a_pageTop a_pageFree a_pathPage a_pathSlot a_phaseOf a_outcomeOf a_used : Nat → Int32} {a_beganAt : Nat → Int64} {a_opKind a_opFirst a_opSecond : Nat → Int32} {a_acceptedAt : Nat → Int64} {a_rowCount a_rowKeys a_rowValues a_reach : Nat → Int32}
theorem xw_et110 {post : SX → Prop} {t : Nat} {rs : Int32} (ht : t < 5) (h : post (f_END, f_NOBODY, f_FAN, f_FILL, f_STRIDE, f_DEPTH, f_PAGES, f_ROWS, f_slots, f_capacity, f_entryCount, f_freeRecs, f_freePages, f_root, f_height, f_clock, a_recKey, a_recState, a_recValue, a_next, a_prev, a_readers, a_writers, a_gapReaders, a_owner, a_baseState, a_baseValue, a_recFree, a_pageFill, a_pageSlot, a_pageTop, a_pageFree, a_pathPage, a_pathSlot, upd a_phaseOf t 0, upd a_outcomeOf t rs, upd a_used t 0, a_beganAt, upd a_opKind t 0, upd a_opFirst t 0, upd a_opSecond t 0, a_acceptedAt, upd a_rowCount t 0, a_rowKeys, a_rowValues, a_reach)) : wX_endTransaction_110 post (nI t) rs f_END f_NOBODY f_FAN f_FILL f_STRIDE f_DEPTH f_PAGES f_ROWS f_slots f_capacity f_entryCount f_freeRecs f_freePages f_root f_height f_clock a_recKey a_recState a_recValue a_next a_prev a_readers a_writers a_gapReaders a_owner a_baseState a_baseValue a_recFree a_pageFill a_pageSlot a_pageTop a_pageFree a_pathPage a_pathSlot a_phaseOf a_outcomeOf a_used a_beganAt a_opKind a_opFirst a_opSecond a_acceptedAt a_rowCount a_rowKeys a_rowValues a_reach := by
  have vt : vp_in (nI t) 5 := vp_in_nI ht (by omega)
  have ct : (nI t).toNatClampNeg = t := nI_clamp (by omega)
  refine xw_forget ht ⟨vt, ?_⟩
  rw [ct]
  exact nm_e ⟨vt, nm_e ⟨vt, nm_e ⟨vt, nm_e h⟩⟩⟩
theorem xw_et_loop {post : SX → Prop} {t : Nat} {x3 rs : Int32} {L : List Nat} {ky : Nat → Nat} (hS : rg_S L ky a_recKey a_next a_prev a_recFree f_freeRecs f_entryCount) : ∀ (S A : List Nat) (i n q : Nat) (l : List Nat) (a_readers a_writers a_gapReaders a_owner : Nat → Int32), L ++ [48] = A ++ (S ++ [48]) → S ++ [48] = q :: l → i + S.length ≤ 48 → S.length < n → (∀ rd wr gr ow, (∀ j, rd j = if j ∈ S then a_readers j &&& x3 else a_readers j) → (∀ j, wr j = if j ∈ S then a_writers j &&& x3 else a_writers j) → (∀ j, gr j = if j ∈ S then a_gapReaders j &&& x3 else a_gapReaders j) → (∀ j, ow j = if j ∈ S then (if a_owner j = nI t then -1 else a_owner j) else a_owner j) → wX_endTransaction_110 post (nI t) rs f_END f_NOBODY f_FAN f_FILL f_STRIDE f_DEPTH f_PAGES f_ROWS f_slots f_capacity f_entryCount f_freeRecs f_freePages f_root f_height f_clock a_recKey a_recState a_recValue a_next a_prev rd wr gr ow a_baseState a_baseValue a_recFree a_pageFill a_pageSlot a_pageTop a_pageFree a_pathPage a_pathSlot a_phaseOf a_outcomeOf a_used a_beganAt a_opKind a_opFirst a_opSecond a_acceptedAt a_rowCount a_rowKeys a_rowValues a_reach) → wX_endTransaction_29 post (nI t) rs x3 f_END f_NOBODY f_FAN f_FILL f_STRIDE f_DEPTH f_PAGES f_ROWS f_slots f_capacity f_entryCount f_freeRecs f_freePages f_root f_height f_clock n (nI q) (nI i) a_recKey a_recState a_recValue a_next a_prev a_readers a_writers a_gapReaders a_owner a_baseState a_baseValue a_recFree a_pageFill a_pageSlot a_pageTop a_pageFree a_pathPage a_pathSlot a_phaseOf a_outcomeOf a_used a_beganAt a_opKind a_opFirst a_opSecond a_acceptedAt a_rowCount a_rowKeys a_rowValues a_reach
  | [], A, i, n + 1, q, l, a_readers, a_writers, a_gapReaders, a_owner, h1, h2, h3, h4, h => by
    obtain ⟨rfl, _⟩ := List.cons.inj h2
    have hp := h a_readers a_writers a_gapReaders a_owner (fun j => by rw [if_neg (by simp)]) (fun j => by rw [if_neg (by simp)]) (fun j => by rw [if_neg (by simp)]) (fun j => by rw [if_neg (by simp)])
    exact br_c (fun _ => hp) (fun _ => br_t rfl hp)
  | p :: S, A, i, n + 1, q, l, a_readers, a_writers, a_gapReaders, a_owner, h1, h2, h3, h4, h => by
    obtain ⟨rfl, hl⟩ := List.cons.inj h2
    rw [List.length_cons] at h3 h4
    obtain ⟨Bd, eB, eL⟩ := rg_tail h1
    have hpS : p :: S = Bd := by
      have := List.append_inj' (s₁ := p :: S) (s₂ := Bd) (t₁ := [48]) (t₂ := [48]) (by rw [← eB]; rfl) rfl
      exact this.1
    have hpL : p ∈ L := by rw [eL, ← hpS]; simp
    have hp48 := (rg_lt hS hpL).1
    have vp : vp_in (nI p) 49 := vp_in_nI (by omega) (by omega)
    have cp : (nI p).toNatClampNeg = p := nI_clamp (by omega)
    have hnd := rg_nd hS
    rw [h1] at hnd
    have hpn : p ∉ S := by
      have := (List.nodup_append.mp hnd).2.1
      rw [List.cons_append, List.nodup_cons] at this
      exact fun hm => this.1 (by simp [hm])
    obtain ⟨q', l', e'⟩ : ∃ q' l', S ++ [48] = q' :: l' := by
      cases S with
      | nil => exact ⟨_, _, rfl⟩
      | cons a S => exact ⟨_, _, rfl⟩
    have hnx : a_next p = nI q' := (rg_next hS (A := A) (r := p) (q := q') (B := l') (by rw [h1, List.cons_append, e'])).1
    have h48 : ¬ nI p = 48 := by
      rw [show (48 : Int32) = nI 48 from rfl, nI_eq (by omega) (by omega)]; omega
    have aux : ∀ (f : Nat → Int32) (g : Nat → Int32) (F : Int32 → Int32), (∀ j, g j = if j ∈ S then F (upd f p (F (f p)) j) else upd f p (F (f p)) j) → ∀ j, g j = if j ∈ p :: S then F (f j) else f j := by
      intro f g F hg j
      rw [hg j]
      by_cases ej : j = p
      · subst ej; rw [if_neg hpn, if_pos (by simp), pk_us]
      · rw [pk_un ej]; simp [ej]
    have go : ∀ ow, (∀ j, ow j = upd a_owner p (if a_owner p = nI t then -1 else a_owner p) j) → wX_endTransaction_29 post (nI t) rs x3 f_END f_NOBODY f_FAN f_FILL f_STRIDE f_DEPTH f_PAGES f_ROWS f_slots f_capacity f_entryCount f_freeRecs f_freePages f_root f_height f_clock n (nI q') (nI (i + 1)) a_recKey a_recState a_recValue a_next a_prev (upd a_readers p (a_readers p &&& x3)) (upd a_writers p (a_writers p &&& x3)) (upd a_gapReaders p (a_gapReaders p &&& x3)) ow a_baseState a_baseValue a_recFree a_pageFill a_pageSlot a_pageTop a_pageFree a_pathPage a_pathSlot a_phaseOf a_outcomeOf a_used a_beganAt a_opKind a_opFirst a_opSecond a_acceptedAt a_rowCount a_rowKeys a_rowValues a_reach := by
      intro ow how
      refine xw_et_loop hS S (A ++ [p]) (i + 1) n q' l' _ _ _ _ (by rw [h1]; simp) e' (by omega) (by omega) ?_
      intro rd wr gr ow' r1 r2 r3 r4
      refine h rd wr gr ow' (aux a_readers rd (fun z => z &&& x3) r1) (aux a_writers wr (fun z => z &&& x3) r2) (aux a_gapReaders gr (fun z => z &&& x3) r3) (aux a_owner ow' (fun z => if z = nI t then -1 else z) (fun j => ?_))
      rw [r4 j, how j]
    refine br_f (nI_ge (b := 48) (by omega) (by omega)) (br_f h48 ⟨vp, vp, ?_⟩)
    rw [cp, hnx]
    refine nm_e ⟨vp, vp, nm_e ⟨vp, vp, nm_e ⟨vp, br_c (fun ho => ⟨vp, nm_e ⟨vp, nm_e (nm_r (nI_1 i) (go _ (fun j => ?_)))⟩⟩) (fun ho => ⟨vp, nm_e (nm_r (nI_1 i) (go _ (fun j => ?_)))⟩)⟩⟩⟩
    · rw [if_pos ho]
    · rw [if_neg ho]
      by_cases ej : j = p
      · subst ej; rw [pk_us]
      · rw [pk_un ej]
theorem xw_rb_loop {post : SX → Prop} {t : Nat} {rs : Int32} {L : List Nat} {ky : Nat → Nat} (hS : rg_S L ky a_recKey a_next a_prev a_recFree f_freeRecs f_entryCount) : ∀ (S A : List Nat) (i n q : Nat) (l : List Nat) (a_recState a_recValue : Nat → Int32), L ++ [48] = A ++ (S ++ [48]) → S ++ [48] = q :: l → i + S.length ≤ 48 → S.length < n → (∀ st va, (∀ j, st j = if j ∈ S then (if a_owner j = nI t then a_baseState j else a_recState j) else a_recState j) → (∀ j, va j = if j ∈ S then (if a_owner j = nI t then a_baseValue j else a_recValue j) else a_recValue j) → wpX_endTransaction (fun u => post u) (f_END, f_NOBODY, f_FAN, f_FILL, f_STRIDE, f_DEPTH, f_PAGES, f_ROWS, f_slots, f_capacity, f_entryCount, f_freeRecs, f_freePages, f_root, f_height, f_clock, a_recKey, st, va, a_next, a_prev, a_readers, a_writers, a_gapReaders, a_owner, a_baseState, a_baseValue, a_recFree, a_pageFill, a_pageSlot, a_pageTop, a_pageFree, a_pathPage, a_pathSlot, a_phaseOf, a_outcomeOf, a_used, a_beganAt, a_opKind, a_opFirst, a_opSecond, a_acceptedAt, a_rowCount, a_rowKeys, a_rowValues, a_reach) (nI t) rs) → wX_rollBack_11 post (nI t) rs f_END f_NOBODY f_FAN f_FILL f_STRIDE f_DEPTH f_PAGES f_ROWS f_slots f_capacity f_entryCount f_freeRecs f_freePages f_root f_height f_clock n (nI q) (nI i) a_recKey a_recState a_recValue a_next a_prev a_readers a_writers a_gapReaders a_owner a_baseState a_baseValue a_recFree a_pageFill a_pageSlot a_pageTop a_pageFree a_pathPage a_pathSlot a_phaseOf a_outcomeOf a_used a_beganAt a_opKind a_opFirst a_opSecond a_acceptedAt a_rowCount a_rowKeys a_rowValues a_reach
  | [], A, i, n + 1, q, l, a_recState, a_recValue, h1, h2, h3, h4, h => by
    obtain ⟨rfl, _⟩ := List.cons.inj h2
    have hp := h a_recState a_recValue (fun j => by rw [if_neg (by simp)]) (fun j => by rw [if_neg (by simp)])
    have hp2 : wX_rollBack_71 post (nI t) rs f_END f_NOBODY f_FAN f_FILL f_STRIDE f_DEPTH f_PAGES f_ROWS f_slots f_capacity f_entryCount f_freeRecs f_freePages f_root f_height f_clock a_recKey a_recState a_recValue a_next a_prev a_readers a_writers a_gapReaders a_owner a_baseState a_baseValue a_recFree a_pageFill a_pageSlot a_pageTop a_pageFree a_pathPage a_pathSlot a_phaseOf a_outcomeOf a_used a_beganAt a_opKind a_opFirst a_opSecond a_acceptedAt a_rowCount a_rowKeys a_rowValues a_reach := hp
    exact br_c (fun _ => hp2) (fun _ => br_t rfl hp2)
  | p :: S, A, i, n + 1, q, l, a_recState, a_recValue, h1, h2, h3, h4, h => by
    obtain ⟨rfl, hl⟩ := List.cons.inj h2
    rw [List.length_cons] at h3 h4
    obtain ⟨Bd, eB, eL⟩ := rg_tail h1
    have hpS : p :: S = Bd := by
      have := List.append_inj' (s₁ := p :: S) (s₂ := Bd) (t₁ := [48]) (t₂ := [48]) (by rw [← eB]; rfl) rfl
      exact this.1
    have hpL : p ∈ L := by rw [eL, ← hpS]; simp
    have hp48 := (rg_lt hS hpL).1
    have vp : vp_in (nI p) 49 := vp_in_nI (by omega) (by omega)
    have cp : (nI p).toNatClampNeg = p := nI_clamp (by omega)
    have hnd := rg_nd hS
    rw [h1] at hnd
    have hpn : p ∉ S := by
      have := (List.nodup_append.mp hnd).2.1
      rw [List.cons_append, List.nodup_cons] at this
      exact fun hm => this.1 (by simp [hm])
    obtain ⟨q', l', e'⟩ : ∃ q' l', S ++ [48] = q' :: l' := by
      cases S with
      | nil => exact ⟨_, _, rfl⟩
      | cons a S => exact ⟨_, _, rfl⟩
    have hnx : a_next p = nI q' := (rg_next hS (A := A) (r := p) (q := q') (B := l') (by rw [h1, List.cons_append, e'])).1
    have h48 : ¬ nI p = 48 := by
      rw [show (48 : Int32) = nI 48 from rfl, nI_eq (by omega) (by omega)]; omega
    have go : ∀ st va, (∀ j, st j = upd a_recState p (if a_owner p = nI t then a_baseState p else a_recState p) j) → (∀ j, va j = upd a_recValue p (if a_owner p = nI t then a_baseValue p else a_recValue p) j) → wX_rollBack_11 post (nI t) rs f_END f_NOBODY f_FAN f_FILL f_STRIDE f_DEPTH f_PAGES f_ROWS f_slots f_capacity f_entryCount f_freeRecs f_freePages f_root f_height f_clock n (nI q') (nI (i + 1)) a_recKey st va a_next a_prev a_readers a_writers a_gapReaders a_owner a_baseState a_baseValue a_recFree a_pageFill a_pageSlot a_pageTop a_pageFree a_pathPage a_pathSlot a_phaseOf a_outcomeOf a_used a_beganAt a_opKind a_opFirst a_opSecond a_acceptedAt a_rowCount a_rowKeys a_rowValues a_reach := by
      intro st va hst hva
      refine xw_rb_loop hS S (A ++ [p]) (i + 1) n q' l' _ _ (by rw [h1]; simp) e' (by omega) (by omega) ?_
      intro st' va' r1 r2
      refine h st' va' (fun j => ?_) (fun j => ?_)
      · rw [r1 j, hst j]
        by_cases ej : j = p
        · subst ej
          have hjm : j ∈ j :: S := by simp
          rw [if_neg hpn, if_pos hjm, pk_us]
        · rw [pk_un ej]; simp [ej]
      · rw [r2 j, hva j]
        by_cases ej : j = p
        · subst ej
          have hjm : j ∈ j :: S := by simp
          rw [if_neg hpn, if_pos hjm, pk_us]
        · rw [pk_un ej]; simp [ej]
    refine br_f (nI_ge (b := 48) (by omega) (by omega)) (br_f h48 ⟨vp, ?_⟩)
    rw [cp, hnx]
    refine br_c (fun ho => ⟨vp, vp, nm_e ⟨vp, vp, nm_e ⟨vp, nm_e (nm_r (nI_1 i) (go _ _ (fun j => ?_) (fun j => ?_)))⟩⟩⟩) (fun ho => ⟨vp, nm_e (nm_r (nI_1 i) (go _ _ (fun j => ?_) (fun j => ?_)))⟩)
    · rw [if_pos ho]
    · rw [if_pos ho]
    · rw [if_neg ho]
      by_cases ej : j = p
      · subst ej; rw [pk_us]
      · rw [pk_un ej]
    · rw [if_neg ho]
      by_cases ej : j = p
      · subst ej; rw [pk_us]
      · rw [pk_un ej]
theorem rg_hd {L : List Nat} : ∃ q l, L ++ [48] = q :: l := by
  cases L with
  | nil => exact ⟨_, _, rfl⟩
  | cons a S => exact ⟨_, _, rfl⟩
end
section
variable {f_END f_NOBODY f_FAN f_FILL f_STRIDE f_DEPTH f_PAGES f_ROWS f_slots f_capacity f_entryCount f_freeRecs f_freePages f_root f_height : Int32} {f_clock : Int64} {a_recKey a_recState a_recValue a_next a_prev a_readers a_writers a_gapReaders a_owner a_baseState a_baseValue a_recFree a_pageFill a_pageSlot a_pageTop a_pageFree a_pathPage a_pathSlot a_phaseOf a_outcomeOf a_used : Nat → Int32} {a_beganAt : Nat → Int64} {a_opKind a_opFirst a_opSecond : Nat → Int32} {a_acceptedAt : Nat → Int64} {a_rowCount a_rowKeys a_rowValues a_reach : Nat → Int32} {b_states b_values b_reads b_writes b_touched b_beforeStates b_beforeValues : Nat → Int32}
theorem xw_end {post : SX → Prop} {t : Nat} {rs : Int32} {L : List Nat} {ky : Nat → Nat} (hS : rg_S L ky a_recKey a_next a_prev a_recFree f_freeRecs f_entryCount) (hD : dd_D L ky a_phaseOf a_recState a_recValue a_readers a_writers a_gapReaders a_owner a_baseState a_baseValue b_states b_values b_reads b_writes b_touched b_beforeStates b_beforeValues) (ht : t < 5) (h : ∀ rd wr gr ow, dd_D L ky (upd a_phaseOf t 0) a_recState a_recValue rd wr gr ow a_baseState a_baseValue b_states b_values (dd_clr t b_reads) (dd_clr t b_writes) (dd_clr t b_touched) b_beforeStates b_beforeValues → post (f_END, f_NOBODY, f_FAN, f_FILL, f_STRIDE, f_DEPTH, f_PAGES, f_ROWS, f_slots, f_capacity, f_entryCount, f_freeRecs, f_freePages, f_root, f_height, f_clock, a_recKey, a_recState, a_recValue, a_next, a_prev, rd, wr, gr, ow, a_baseState, a_baseValue, a_recFree, a_pageFill, a_pageSlot, a_pageTop, a_pageFree, a_pathPage, a_pathSlot, upd a_phaseOf t 0, upd a_outcomeOf t rs, upd a_used t 0, a_beganAt, upd a_opKind t 0, upd a_opFirst t 0, upd a_opSecond t 0, a_acceptedAt, upd a_rowCount t 0, a_rowKeys, a_rowValues, a_reach)) : wpX_endTransaction post (f_END, f_NOBODY, f_FAN, f_FILL, f_STRIDE, f_DEPTH, f_PAGES, f_ROWS, f_slots, f_capacity, f_entryCount, f_freeRecs, f_freePages, f_root, f_height, f_clock, a_recKey, a_recState, a_recValue, a_next, a_prev, a_readers, a_writers, a_gapReaders, a_owner, a_baseState, a_baseValue, a_recFree, a_pageFill, a_pageSlot, a_pageTop, a_pageFree, a_pathPage, a_pathSlot, a_phaseOf, a_outcomeOf, a_used, a_beganAt, a_opKind, a_opFirst, a_opSecond, a_acceptedAt, a_rowCount, a_rowKeys, a_rowValues, a_reach) (nI t) rs := by
  obtain ⟨q, l, eq⟩ := rg_hd (L := L)
  have hl := (rg_len hS).1
  refine nm_e (nm_e (nm_r (rg_head hS eq).1 ⟨L.length + 1, ?_⟩))
  refine xw_et_loop hS L [] 0 _ q l _ _ _ _ rfl eq (by omega) (by omega) ?_
  intro rd wr gr ow r1 r2 r3 r4
  refine xw_et110 ht (h rd wr gr ow ?_)
  have h48 := rg_48 hS
  refine dd_end hS hD ht (fun r hr => by rw [r1, if_pos hr]) (fun r hr => by rw [r2, if_pos hr]) (by rw [r2, if_neg h48]) (fun r hr => ?_) (fun r hr => by rw [r4, if_pos hr]) (fun u hu => pk_un hu)
  rw [r3]
  rcases List.mem_append.mp hr with z | z
  · have : r ≠ 48 := fun e => h48 (e ▸ z)
    rw [if_pos z, pk_un this]
  · rw [List.mem_singleton] at z
    subst z
    rw [if_neg h48, pk_us]
theorem xw_roll {post : SX → Prop} {t : Nat} {rs : Int32} {L : List Nat} {ky : Nat → Nat} (hS : rg_S L ky a_recKey a_next a_prev a_recFree f_freeRecs f_entryCount) (hD : dd_D L ky a_phaseOf a_recState a_recValue a_readers a_writers a_gapReaders a_owner a_baseState a_baseValue b_states b_values b_reads b_writes b_touched b_beforeStates b_beforeValues) (ht : t < 5) (h : ∀ st va rd wr gr ow, dd_D L ky (upd a_phaseOf t 0) st va rd wr gr ow a_baseState a_baseValue (dd_rs t b_touched b_beforeStates b_states) (dd_rv t b_touched b_beforeStates b_beforeValues b_values) (dd_clr t b_reads) (dd_clr t b_writes) (dd_clr t b_touched) b_beforeStates b_beforeValues → post (f_END, f_NOBODY, f_FAN, f_FILL, f_STRIDE, f_DEPTH, f_PAGES, f_ROWS, f_slots, f_capacity, f_entryCount, f_freeRecs, f_freePages, f_root, f_height, f_clock, a_recKey, st, va, a_next, a_prev, rd, wr, gr, ow, a_baseState, a_baseValue, a_recFree, a_pageFill, a_pageSlot, a_pageTop, a_pageFree, a_pathPage, a_pathSlot, upd a_phaseOf t 0, upd a_outcomeOf t rs, upd a_used t 0, a_beganAt, upd a_opKind t 0, upd a_opFirst t 0, upd a_opSecond t 0, a_acceptedAt, upd a_rowCount t 0, a_rowKeys, a_rowValues, a_reach)) : wpX_rollBack post (f_END, f_NOBODY, f_FAN, f_FILL, f_STRIDE, f_DEPTH, f_PAGES, f_ROWS, f_slots, f_capacity, f_entryCount, f_freeRecs, f_freePages, f_root, f_height, f_clock, a_recKey, a_recState, a_recValue, a_next, a_prev, a_readers, a_writers, a_gapReaders, a_owner, a_baseState, a_baseValue, a_recFree, a_pageFill, a_pageSlot, a_pageTop, a_pageFree, a_pathPage, a_pathSlot, a_phaseOf, a_outcomeOf, a_used, a_beganAt, a_opKind, a_opFirst, a_opSecond, a_acceptedAt, a_rowCount, a_rowKeys, a_rowValues, a_reach) (nI t) rs := by
  obtain ⟨q, l, eq⟩ := rg_hd (L := L)
  have hl := (rg_len hS).1
  refine nm_r (rg_head hS eq).1 ⟨L.length + 1, ?_⟩
  refine xw_rb_loop hS L [] 0 _ q l _ _ rfl eq (by omega) (by omega) ?_
  intro st va r1 r2
  have hD2 := dd_rb (st' := st) (va' := va) hS hD ht (fun r hr => by rw [r1, if_pos hr]) (fun r hr => by rw [r2, if_pos hr])
  exact xw_end hS hD2 ht (fun rd wr gr ow hD3 => h st va rd wr gr ow hD3)
end
def dd_clrP (t i : Nat) (f : Nat → Int32) : Nat → Int32 := fun j => if t * 1000 ≤ j ∧ j < t * 1000 + i then 0 else f j
theorem dd_clrP0 {t : Nat} {f : Nat → Int32} : dd_clrP t 0 f = f := by
  funext j; unfold dd_clrP; rw [if_neg (by omega)]
theorem dd_clrP1 {t i : Nat} {f : Nat → Int32} : upd (dd_clrP t i f) (t * 1000 + i) 0 = dd_clrP t (i + 1) f := by
  funext j; unfold dd_clrP upd
  by_cases e : j = t * 1000 + i
  · rw [if_pos e, if_pos (by omega)]
  · rw [if_neg e]
    dsimp only
    by_cases e2 : t * 1000 ≤ j ∧ j < t * 1000 + i
    · rw [if_pos e2, if_pos (by omega)]
    · rw [if_neg e2, if_neg (by omega)]
def dd_rsP (t i : Nat) (Yto Ybs Yst : Nat → Int32) : Nat → Int32 := fun k => if k < i ∧ Yto (t * 1000 + k) ≠ 0 then (if Ybs (t * 1000 + k) = 1 then 1 else 2) else Yst k
def dd_rvP (t i : Nat) (Yto Ybs Ybv Yva : Nat → Int32) : Nat → Int32 := fun k => if k < i ∧ Yto (t * 1000 + k) ≠ 0 then (if Ybs (t * 1000 + k) = 1 then Ybv (t * 1000 + k) else 0) else Yva k
theorem dd_rsPs {t i : Nat} {Yto Ybs Yst : Nat → Int32} (h : Yto (t * 1000 + i) = 0) : dd_rsP t i Yto Ybs Yst = dd_rsP t (i + 1) Yto Ybs Yst := by
  funext k; unfold dd_rsP
  by_cases e : k < i ∧ Yto (t * 1000 + k) ≠ 0
  · rw [if_pos e, if_pos (show k < i + 1 ∧ Yto (t * 1000 + k) ≠ 0 from ⟨by omega, e.2⟩)]
  · rw [if_neg e, if_neg]
    rintro ⟨z1, z2⟩
    by_cases ek : k = i
    · subst ek; exact z2 h
    · exact e ⟨by omega, z2⟩
theorem dd_rvPs {t i : Nat} {Yto Ybs Ybv Yva : Nat → Int32} (h : Yto (t * 1000 + i) = 0) : dd_rvP t i Yto Ybs Ybv Yva = dd_rvP t (i + 1) Yto Ybs Ybv Yva := by
  funext k; unfold dd_rvP
  by_cases e : k < i ∧ Yto (t * 1000 + k) ≠ 0
  · rw [if_pos e, if_pos (show k < i + 1 ∧ Yto (t * 1000 + k) ≠ 0 from ⟨by omega, e.2⟩)]
  · rw [if_neg e, if_neg]
    rintro ⟨z1, z2⟩
    by_cases ek : k = i
    · subst ek; exact z2 h
    · exact e ⟨by omega, z2⟩
theorem dd_rsPu {t i : Nat} {Yto Ybs Yst : Nat → Int32} (h : Yto (t * 1000 + i) ≠ 0) : upd (dd_rsP t i Yto Ybs Yst) i (if Ybs (t * 1000 + i) = 1 then 1 else 2) = dd_rsP t (i + 1) Yto Ybs Yst := by
  funext k; unfold dd_rsP upd
  by_cases ek : k = i
  · subst ek
    have hc : k < k + 1 ∧ Yto (t * 1000 + k) ≠ 0 := ⟨by omega, h⟩
    rw [if_pos rfl, if_pos hc]
  · rw [if_neg ek]
    dsimp only
    by_cases e : k < i ∧ Yto (t * 1000 + k) ≠ 0
    · rw [if_pos e, if_pos (show k < i + 1 ∧ Yto (t * 1000 + k) ≠ 0 from ⟨by omega, e.2⟩)]
    · rw [if_neg e, if_neg]
      rintro ⟨z1, z2⟩
      exact e ⟨by omega, z2⟩
theorem dd_rvPu {t i : Nat} {Yto Ybs Ybv Yva : Nat → Int32} (h : Yto (t * 1000 + i) ≠ 0) : upd (dd_rvP t i Yto Ybs Ybv Yva) i (if Ybs (t * 1000 + i) = 1 then Ybv (t * 1000 + i) else 0) = dd_rvP t (i + 1) Yto Ybs Ybv Yva := by
  funext k; unfold dd_rvP upd
  by_cases ek : k = i
  · subst ek
    have hc : k < k + 1 ∧ Yto (t * 1000 + k) ≠ 0 := ⟨by omega, h⟩
    rw [if_pos rfl, if_pos hc]
  · rw [if_neg ek]
    dsimp only
    by_cases e : k < i ∧ Yto (t * 1000 + k) ≠ 0
    · rw [if_pos e, if_pos (show k < i + 1 ∧ Yto (t * 1000 + k) ≠ 0 from ⟨by omega, e.2⟩)]
    · rw [if_neg e, if_neg]
      rintro ⟨z1, z2⟩
      exact e ⟨by omega, z2⟩
section
variable {g_slots g_capacity : Int32} {g_clock : Int64} {b_states b_values b_reads b_writes b_touched b_beforeStates b_beforeValues b_phases b_outcomes b_used b_kinds b_firsts b_seconds : Nat → Int32} {b_begun b_accepted : Nat → Int64} {b_rowCounts b_rowKeys b_rowValues : Nat → Int32}
theorem yw_forget {post : SY → Prop} {t : Nat} (ht : t < 5) (h : post (g_slots, g_capacity, g_clock, b_states, b_values, b_reads, b_writes, b_touched, b_beforeStates, b_beforeValues, b_phases, b_outcomes, b_used, upd b_kinds t 0, upd b_firsts t 0, upd b_seconds t 0, b_begun, b_accepted, b_rowCounts, b_rowKeys, b_rowValues)) : wpY_forget post (g_slots, g_capacity, g_clock, b_states, b_values, b_reads, b_writes, b_touched, b_beforeStates, b_beforeValues, b_phases, b_outcomes, b_used, b_kinds, b_firsts, b_seconds, b_begun, b_accepted, b_rowCounts, b_rowKeys, b_rowValues) (nI t) := by
  have vt : vp_in (nI t) 5 := vp_in_nI ht (by omega)
  have ct : (nI t).toNatClampNeg = t := nI_clamp (by omega)
  refine ⟨vt, ?_⟩
  rw [ct]
  exact nm_e ⟨vt, nm_e ⟨vt, nm_e h⟩⟩
theorem yw_end {post : SY → Prop} {t : Nat} (ht : t < 5) (h : post (g_slots, g_capacity, g_clock, b_states, b_values, dd_clr t b_reads, dd_clr t b_writes, dd_clr t b_touched, b_beforeStates, b_beforeValues, upd b_phases t 0, b_outcomes, upd b_used t 0, upd b_kinds t 0, upd b_firsts t 0, upd b_seconds t 0, b_begun, b_accepted, upd b_rowCounts t 0, b_rowKeys, b_rowValues)) : wpY_end post (g_slots, g_capacity, g_clock, b_states, b_values, b_reads, b_writes, b_touched, b_beforeStates, b_beforeValues, b_phases, b_outcomes, b_used, b_kinds, b_firsts, b_seconds, b_begun, b_accepted, b_rowCounts, b_rowKeys, b_rowValues) (nI t) := by
  have vt : vp_in (nI t) 5 := vp_in_nI ht (by omega)
  have ct : (nI t).toNatClampNeg = t := nI_clamp (by omega)
  have lp : ∀ (d i n : Nat), i + d = 1000 → d < n → wY_end_2 post (nI t) g_slots g_capacity g_clock n (nI i) b_states b_values (dd_clrP t i b_reads) (dd_clrP t i b_writes) (dd_clrP t i b_touched) b_beforeStates b_beforeValues b_phases b_outcomes b_used b_kinds b_firsts b_seconds b_begun b_accepted b_rowCounts b_rowKeys b_rowValues := by
    intro d
    induction d with
    | zero =>
      intro i n hi hn
      obtain ⟨n, rfl⟩ : ∃ m, n = m + 1 := ⟨n - 1, by omega⟩
      have e : i = 1000 := by omega
      subst e
      refine br_t (by decide) (yw_forget ht ⟨vt, ?_⟩)
      rw [ct]
      exact nm_e ⟨vt, nm_e ⟨vt, nm_e h⟩⟩
    | succ d ih =>
      intro i n hi hn
      obtain ⟨n, rfl⟩ : ∃ m, n = m + 1 := ⟨n - 1, by omega⟩
      have v : vp_in (nI (t * 1000 + i)) 5000 := vp_in_nI (by omega) (by omega)
      refine br_f (nI_ge (b := 1000) (by omega) (by omega)) ?_
      rw [yw_ix, nI_clamp (n := t * 1000 + i) (by omega), dd_v0, dd_clrP1, dd_clrP1, dd_clrP1]
      exact ⟨v, nm_e ⟨v, nm_e ⟨v, nm_e (nm_r (nI_1 i) (ih (i + 1) n (by omega) (by omega)))⟩⟩⟩
  have := lp 1000 0 1001 (by omega) (by omega)
  rw [dd_clrP0, dd_clrP0, dd_clrP0] at this
  exact ⟨1001, this⟩
theorem yw_roll {post : SY → Prop} {t : Nat} (ht : t < 5) (h : post (g_slots, g_capacity, g_clock, dd_rs t b_touched b_beforeStates b_states, dd_rv t b_touched b_beforeStates b_beforeValues b_values, dd_clr t b_reads, dd_clr t b_writes, dd_clr t b_touched, b_beforeStates, b_beforeValues, upd b_phases t 0, b_outcomes, upd b_used t 0, upd b_kinds t 0, upd b_firsts t 0, upd b_seconds t 0, b_begun, b_accepted, upd b_rowCounts t 0, b_rowKeys, b_rowValues)) : wpY_rollBack post (g_slots, g_capacity, g_clock, b_states, b_values, b_reads, b_writes, b_touched, b_beforeStates, b_beforeValues, b_phases, b_outcomes, b_used, b_kinds, b_firsts, b_seconds, b_begun, b_accepted, b_rowCounts, b_rowKeys, b_rowValues) (nI t) := by
  have lp : ∀ (d i n : Nat), i + d = 1000 → d < n → wY_rollBack_2 post (nI t) g_slots g_capacity g_clock n (nI i) (dd_rsP t i b_touched b_beforeStates b_states) (dd_rvP t i b_touched b_beforeStates b_beforeValues b_values) b_reads b_writes b_touched b_beforeStates b_beforeValues b_phases b_outcomes b_used b_kinds b_firsts b_seconds b_begun b_accepted b_rowCounts b_rowKeys b_rowValues := by
    intro d
    induction d with
    | zero =>
      intro i n hi hn
      obtain ⟨n, rfl⟩ : ∃ m, n = m + 1 := ⟨n - 1, by omega⟩
      have e : i = 1000 := by omega
      subst e
      exact br_t (by decide) (yw_end ht h)
    | succ d ih =>
      intro i n hi hn
      obtain ⟨n, rfl⟩ : ∃ m, n = m + 1 := ⟨n - 1, by omega⟩
      have v : vp_in (nI (t * 1000 + i)) 5000 := vp_in_nI (by omega) (by omega)
      have vi : vp_in (nI i) 1000 := vp_in_nI (by omega) (by omega)
      have ci : (nI i).toNatClampNeg = i := nI_clamp (by omega)
      have cc : (nI (t * 1000 + i)).toNatClampNeg = t * 1000 + i := nI_clamp (by omega)
      have ih' := ih (i + 1) n (by omega) (by omega)
      refine br_f (nI_ge (b := 1000) (by omega) (by omega)) (nm_r (yw_ix t i) ⟨v, ?_⟩)
      rw [cc]
      refine br_c (fun z => nm_r (nI_1 i) ?_) (fun z => ⟨v, br_c (fun z1 => ?_) (fun z1 => ?_)⟩)
      · rw [dd_rsPs z, dd_rvPs z]; exact ih'
      · rw [← dd_rsPu z, ← dd_rvPu z, if_pos z1, if_pos z1] at ih'
        unfold wY_rollBack_46
        rw [ci, cc]
        exact ⟨vi, nm_e ⟨v, br_t z1 ⟨v, vi, nm_e (nm_r (nI_1 i) ih')⟩⟩⟩
      · rw [← dd_rsPu z, ← dd_rvPu z, if_neg z1, if_neg z1] at ih'
        unfold wY_rollBack_46
        rw [ci, cc]
        exact ⟨vi, nm_e ⟨v, br_f z1 ⟨vi, nm_e (nm_r (nI_1 i) ih')⟩⟩⟩
  have := lp 1000 0 1001 (by omega) (by omega)
  rw [show dd_rsP t 0 b_touched b_beforeStates b_states = b_states from by funext k; unfold dd_rsP; rw [if_neg (by omega)], show dd_rvP t 0 b_touched b_beforeStates b_beforeValues b_values = b_values from by funext k; unfold dd_rvP; rw [if_neg (by omega)]] at this
  exact ⟨1001, this⟩
end
end
section
/-! the reference's execution -/
theorem dd_upd_id {f : Nat → Int32} {k : Nat} {x : Int32} (h : f k = x) : upd f k x = f := by
  funext j; unfold upd
  by_cases e : j = k
  · rw [if_pos e, e, h]
  · rw [if_neg e]
def dd_cnt (st : Nat → Int32) (i : Nat) : Nat := (List.range i).countP (fun y => decide (st y ≠ 0))
theorem dd_cnt_s (st : Nat → Int32) (i : Nat) : dd_cnt st (i + 1) = dd_cnt st i + (if st i = 0 then 0 else 1) := by
  unfold dd_cnt
  rw [List.range_succ, List.countP_append, List.countP_cons, List.countP_nil]
  by_cases e : st i = 0 <;> simp [e]
theorem dd_cnt_le (st : Nat → Int32) (i : Nat) : dd_cnt st i ≤ i := by
  have := List.countP_le_length (p := fun y => decide (st y ≠ 0)) (l := List.range i)
  rw [List.length_range] at this
  exact this
theorem dd_nd_c {l : List Nat} (h : l.Nodup) (a : Nat) : l.count a = if a ∈ l then 1 else 0 := by
  have h1 := List.nodup_iff_count.mp h a
  by_cases e : a ∈ l
  · rw [if_pos e]
    have := tr_cp e
    omega
  · rw [if_neg e]; exact List.count_eq_zero.mpr e
theorem dd_cntL {L : List Nat} {ky : Nat → Nat} {rk nx pv rf : Nat → Int32} {fr ec : Int32} {ph st va rd wr gr ow bs bv Yst Yva Yrd Ywr Yto Ybs Ybv : Nat → Int32} (hS : rg_S L ky rk nx pv rf fr ec) (hD : dd_D L ky ph st va rd wr gr ow bs bv Yst Yva Yrd Ywr Yto Ybs Ybv) : dd_cnt Yst 1000 = L.length := by
  have hnd : (L.map ky).Nodup := by
    have h1 := (List.pairwise_append.mp hS.2.2.2.1).1
    show (L.map ky).Pairwise (fun a b => a ≠ b)
    rw [List.pairwise_map]
    refine List.Pairwise.imp ?_ h1
    intro a b hab
    omega
  have hnd2 : ((List.range 1000).filter (fun y => decide (Yst y ≠ 0))).Nodup := List.Pairwise.filter _ List.nodup_range
  have hP : ((List.range 1000).filter (fun y => decide (Yst y ≠ 0))).Perm (L.map ky) := by
    rw [List.perm_iff_count]
    intro a
    rw [dd_nd_c hnd a, dd_nd_c hnd2 a]
    have : a ∈ (List.range 1000).filter (fun y => decide (Yst y ≠ 0)) ↔ a ∈ L.map ky := by
      rw [List.mem_filter, List.mem_range, List.mem_map, decide_eq_true_iff]
      constructor
      · rintro ⟨h1, h2⟩
        obtain ⟨p, hp, ep⟩ := dd_st hS hD h1 h2
        exact ⟨p, hp, ep⟩
      · rintro ⟨p, hp, ep⟩
        rw [← ep]
        exact ⟨(rg_lt hS hp).2, (dd_stE hD hp).2.2⟩
    by_cases e : a ∈ L.map ky
    · rw [if_pos e, if_pos (this.mpr e)]
    · rw [if_neg e, if_neg (fun z => e (this.mp z))]
  have := hP.length_eq
  rw [List.length_map] at this
  unfold dd_cnt
  rw [List.countP_eq_length_filter]
  exact this
theorem dd_fill1 {t x hi : Nat} {f : Nat → Int32} (h : x ≤ hi) : dd_fill t (x + 1) hi (upd f (t * 1000 + x) 1) = dd_fill t x hi f := by
  funext j; unfold dd_fill upd
  by_cases e : t * 1000 + (x + 1) ≤ j ∧ j ≤ t * 1000 + hi
  · rw [if_pos e, if_pos (by omega)]
  · rw [if_neg e]
    by_cases e2 : j = t * 1000 + x
    · rw [if_pos e2, if_pos (by omega)]
    · rw [if_neg e2, if_neg (by omega)]
theorem dd_fill0 {t x hi : Nat} {f : Nat → Int32} (h : hi < x) : dd_fill t x hi f = f := by
  funext j; unfold dd_fill; rw [if_neg (by omega)]
theorem dd_fillk {t x : Nat} {f : Nat → Int32} : dd_fill t x x f = upd f (t * 1000 + x) 1 := by
  rw [← dd_fill1 (Nat.le_refl x), dd_fill0 (by omega)]
section
variable {g_slots g_capacity : Int32} {g_clock : Int64} {b_states b_values b_reads b_writes b_touched b_beforeStates b_beforeValues b_phases b_outcomes b_used b_kinds b_firsts b_seconds : Nat → Int32} {b_begun b_accepted : Nat → Int64} {b_rowCounts b_rowKeys b_rowValues : Nat → Int32}
theorem yw_entries {post : Int32 → Prop} (h : post (nI (dd_cnt b_states 1000))) : wpY_entries post (g_slots, g_capacity, g_clock, b_states, b_values, b_reads, b_writes, b_touched, b_beforeStates, b_beforeValues, b_phases, b_outcomes, b_used, b_kinds, b_firsts, b_seconds, b_begun, b_accepted, b_rowCounts, b_rowKeys, b_rowValues) := by
  have lp : ∀ (d i n : Nat), i + d = 1000 → d < n → wY_entries_4 post g_slots g_capacity g_clock b_states b_values b_reads b_writes b_touched b_beforeStates b_beforeValues b_phases b_outcomes b_used b_kinds b_firsts b_seconds b_begun b_accepted b_rowCounts b_rowKeys b_rowValues n (nI (dd_cnt b_states i)) (nI i) := by
    intro d
    induction d with
    | zero =>
      intro i n hi hn
      obtain ⟨n, rfl⟩ : ∃ m, n = m + 1 := ⟨n - 1, by omega⟩
      have e : i = 1000 := by omega
      subst e
      exact br_t (by decide) h
    | succ d ih =>
      intro i n hi hn
      obtain ⟨n, rfl⟩ : ∃ m, n = m + 1 := ⟨n - 1, by omega⟩
      have ih' := ih (i + 1) n (by omega) (by omega)
      rw [dd_cnt_s] at ih'
      refine br_f (nI_ge (b := 1000) (by omega) (by omega)) ⟨vp_in_nI (by omega) (by omega), ?_⟩
      rw [nI_clamp (by omega)]
      refine br_c (fun z => nm_r (nI_1 i) ?_) (fun z => nm_r (nI_1 _) (nm_r (nI_1 i) ?_))
      · rw [if_pos z] at ih'; exact ih'
      · rw [if_neg z] at ih'; exact ih'
  exact ⟨1001, lp 1000 0 1001 (by omega) (by omega)⟩
theorem yw_83r {post : SY → Prop} {t hi : Nat} {x2 x3 x4 : Int32} (ht : t < 5) (hh : hi < 1000) : ∀ (d x n : Nat) (b_reads : Nat → Int32), x + d = hi + 1 → d < n → wY_execute_137 post (nI t) x2 x3 x4 0 g_slots g_capacity g_clock b_states b_values (dd_fill t x hi b_reads) b_writes b_touched b_beforeStates b_beforeValues b_phases b_outcomes b_used b_kinds b_firsts b_seconds b_begun b_accepted b_rowCounts b_rowKeys b_rowValues → wY_execute_83 post (nI t) x2 x3 x4 (nI hi) 0 0 g_slots g_capacity g_clock n (nI x) b_states b_values b_reads b_writes b_touched b_beforeStates b_beforeValues b_phases b_outcomes b_used b_kinds b_firsts b_seconds b_begun b_accepted b_rowCounts b_rowKeys b_rowValues
  | 0, x, n + 1, b_reads, h1, h2, h => by
    rw [dd_fill0 (by omega)] at h
    exact br_t (nI_lt (by omega) (by omega)) h
  | d + 1, x, n + 1, b_reads, h1, h2, h => by
    refine br_f (nI_nlt (by omega) (by omega)) (br_t rfl (br_t rfl ?_))
    rw [yw_ix, nI_clamp (by omega), dd_v1]
    refine ⟨vp_in_nI (by omega) (by omega), nm_e (nm_r (nI_1 x) (yw_83r ht hh d (x + 1) n _ (by omega) (by omega) ?_))⟩
    rw [dd_fill1 (by omega)]
    exact h
theorem yw_83w {post : SY → Prop} {t k : Nat} {x2 x3 x4 : Int32} (ht : t < 5) (hk : k < 1000) (h : wY_execute_137 post (nI t) x2 x3 x4 0 g_slots g_capacity g_clock b_states b_values b_reads (upd b_writes (t * 1000 + k) 1) b_touched b_beforeStates b_beforeValues b_phases b_outcomes b_used b_kinds b_firsts b_seconds b_begun b_accepted b_rowCounts b_rowKeys b_rowValues) : wY_execute_83 post (nI t) x2 x3 x4 (nI k) 1 0 g_slots g_capacity g_clock 2 (nI k) b_states b_values b_reads b_writes b_touched b_beforeStates b_beforeValues b_phases b_outcomes b_used b_kinds b_firsts b_seconds b_begun b_accepted b_rowCounts b_rowKeys b_rowValues := by
  refine br_f (nI_nlt (by omega) (by omega)) (br_t rfl (br_f (by decide) ?_))
  rw [yw_ix, nI_clamp (by omega), dd_v1]
  exact ⟨vp_in_nI (by omega) (by omega), nm_e (nm_r (nI_1 k) (br_t (nI_lt (by omega) (by omega)) h))⟩
theorem yw_83f {post : SY → Prop} {x1 x2 x3 x4 x6 x7 x10 : Int32} (h : wY_execute_137 post x1 x2 x3 x4 1 g_slots g_capacity g_clock b_states b_values b_reads b_writes b_touched b_beforeStates b_beforeValues b_phases b_outcomes b_used b_kinds b_firsts b_seconds b_begun b_accepted b_rowCounts b_rowKeys b_rowValues) : wY_execute_83 post x1 x2 x3 x4 x6 x7 1 g_slots g_capacity g_clock 1 x10 b_states b_values b_reads b_writes b_touched b_beforeStates b_beforeValues b_phases b_outcomes b_used b_kinds b_firsts b_seconds b_begun b_accepted b_rowCounts b_rowKeys b_rowValues :=
  br_c (fun _ => h) (fun _ => br_f (by decide) h)
/-- the execution up to the claims: a read request -/
theorem yw_execR {t k : Nat} (ht : t < 5) (hk : k < 1000) (hf : b_firsts t = nI k) (h5 : b_kinds t = 5 → ∃ h, b_seconds t = nI h ∧ k ≤ h ∧ h < 1000) (hw : ¬ wf_wr b_states b_kinds t k) : ∃ lo hi, hi < 1000 ∧ (∀ x, wf_in b_states b_kinds b_seconds t k x ↔ lo ≤ x ∧ x ≤ hi) ∧ ∀ post : SY → Prop, wY_execute_137 post (nI t) (b_kinds t) (nI k) (b_seconds t) 0 g_slots g_capacity g_clock b_states b_values (dd_fill t lo hi b_reads) b_writes b_touched b_beforeStates b_beforeValues b_phases b_outcomes b_used b_kinds b_firsts b_seconds b_begun b_accepted b_rowCounts b_rowKeys b_rowValues → wpY_execute post (g_slots, g_capacity, g_clock, b_states, b_values, b_reads, b_writes, b_touched, b_beforeStates, b_beforeValues, b_phases, b_outcomes, b_used, b_kinds, b_firsts, b_seconds, b_begun, b_accepted, b_rowCounts, b_rowKeys, b_rowValues) (nI t) := by
  have vt : vp_in (nI t) 5 := vp_in_nI ht (by omega)
  have ct : (nI t).toNatClampNeg = t := nI_clamp (by omega)
  obtain ⟨lo, hi, hl, hh, hin, hlow, hhigh⟩ := yw_req (g_slots := g_slots) (g_capacity := g_capacity) (g_clock := g_clock) (b_states := b_states) (b_values := b_values) (b_reads := b_reads) (b_writes := b_writes) (b_touched := b_touched) (b_beforeStates := b_beforeStates) (b_beforeValues := b_beforeValues) (b_phases := b_phases) (b_outcomes := b_outcomes) (b_used := b_used) (b_begun := b_begun) (b_accepted := b_accepted) (b_rowCounts := b_rowCounts) (b_rowKeys := b_rowKeys) (b_rowValues := b_rowValues) ht hk hf h5
  refine ⟨lo, hi, hh, hin, fun post h => ⟨vt, ?_⟩⟩
  rw [ct, hf]
  refine nm_e ⟨vt, nm_e ⟨vt, nm_e ?_⟩⟩
  refine hlow _ (hhigh _ (yw_asksWrite ht hk hf (fun z => absurd z hw) (fun _ => yw_entries ?_)))
  have h1 : ¬ b_kinds t = 1 := fun e => hw (Or.inl e)
  refine br_f h1 ?_
  by_cases hlh : lo ≤ hi + 1
  · exact ⟨hi + 1 - lo + 1, yw_83r ht hh (hi + 1 - lo) lo _ _ (by omega) (by omega) h⟩
  · rw [dd_fill0 (by omega)] at h
    exact ⟨1, br_t (nI_lt (by omega) (by omega)) h⟩
theorem yw_execW {post : SY → Prop} {t k c : Nat} (ht : t < 5) (hk : k < 1000) (hf : b_firsts t = nI k) (hw : wf_wr b_states b_kinds t k) (hc : g_capacity = nI c) (hc1 : c ≤ 48) (hfull : b_kinds t = 1 → b_states k = 0 → dd_cnt b_states 1000 < c) (h : wY_execute_137 post (nI t) (b_kinds t) (nI k) (b_seconds t) 0 g_slots g_capacity g_clock b_states b_values b_reads (upd b_writes (t * 1000 + k) 1) b_touched b_beforeStates b_beforeValues b_phases b_outcomes b_used b_kinds b_firsts b_seconds b_begun b_accepted b_rowCounts b_rowKeys b_rowValues) : wpY_execute post (g_slots, g_capacity, g_clock, b_states, b_values, b_reads, b_writes, b_touched, b_beforeStates, b_beforeValues, b_phases, b_outcomes, b_used, b_kinds, b_firsts, b_seconds, b_begun, b_accepted, b_rowCounts, b_rowKeys, b_rowValues) (nI t) := by
  have vt : vp_in (nI t) 5 := vp_in_nI ht (by omega)
  have ct : (nI t).toNatClampNeg = t := nI_clamp (by omega)
  have h5 : b_kinds t = 5 → ∃ h, b_seconds t = nI h ∧ k ≤ h ∧ h < 1000 := by
    intro e
    rcases hw with z | z
    · rw [z] at e; exact absurd e (by decide)
    · rw [z.1] at e; exact absurd e (by decide)
  have h1 : wf_one b_states b_kinds t k := by
    rcases hw with z | z
    · exact Or.inl z
    · exact Or.inr ⟨Or.inl z.1, z.2⟩
  obtain ⟨lo, hi, hl, hh, hin, hlow, hhigh⟩ := yw_req (g_slots := g_slots) (g_capacity := g_capacity) (g_clock := g_clock) (b_states := b_states) (b_values := b_values) (b_reads := b_reads) (b_writes := b_writes) (b_touched := b_touched) (b_beforeStates := b_beforeStates) (b_beforeValues := b_beforeValues) (b_phases := b_phases) (b_outcomes := b_outcomes) (b_used := b_used) (b_begun := b_begun) (b_accepted := b_accepted) (b_rowCounts := b_rowCounts) (b_rowKeys := b_rowKeys) (b_rowValues := b_rowValues) ht hk hf h5
  have hone : ∀ x, lo ≤ x ∧ x ≤ hi ↔ x = k := fun x => by
    rw [← hin x]
    constructor
    · rintro (z | z)
      · exact z.2
      · exact absurd h1 z.1
    · intro z; exact Or.inl ⟨h1, z⟩
  have hkk := (hone k).mpr rfl
  have elo : lo = k := (hone lo).mp ⟨Nat.le_refl _, by omega⟩
  have ehi : hi = k := (hone hi).mp ⟨by omega, Nat.le_refl _⟩
  subst elo
  rw [ehi] at hhigh
  refine ⟨vt, ?_⟩
  rw [ct, hf]
  refine nm_e ⟨vt, nm_e ⟨vt, nm_e ?_⟩⟩
  refine hlow _ (hhigh _ (yw_asksWrite ht hk hf (fun _ => yw_entries ?_) (fun z => absurd hw z)))
  have fin := yw_83w (post := post) (x2 := b_kinds t) (x3 := nI lo) (x4 := b_seconds t) ht hk h
  refine br_c (fun e1 => ⟨vp_in_nI hk (by omega), ?_⟩) (fun e1 => ⟨2, fin⟩)
  rw [nI_clamp (n := lo) (by omega)]
  refine br_c (fun e0 => br_t ?_ ⟨2, fin⟩) (fun e0 => ⟨2, fin⟩)
  rw [hc]
  exact nI_lt (hfull e1 e0) (by omega)
theorem yw_execF {post : SY → Prop} {t k c : Nat} (ht : t < 5) (hk : k < 1000) (hf : b_firsts t = nI k) (e1 : b_kinds t = 1) (e0 : b_states k = 0) (hc : g_capacity = nI c) (hc1 : c ≤ 48) (hfull : c ≤ dd_cnt b_states 1000) (h : wY_execute_137 post (nI t) (b_kinds t) (nI k) (b_seconds t) 1 g_slots g_capacity g_clock b_states b_values b_reads b_writes b_touched b_beforeStates b_beforeValues b_phases b_outcomes b_used b_kinds b_firsts b_seconds b_begun b_accepted b_rowCounts b_rowKeys b_rowValues) : wpY_execute post (g_slots, g_capacity, g_clock, b_states, b_values, b_reads, b_writes, b_touched, b_beforeStates, b_beforeValues, b_phases, b_outcomes, b_used, b_kinds, b_firsts, b_seconds, b_begun, b_accepted, b_rowCounts, b_rowKeys, b_rowValues) (nI t) := by
  have vt : vp_in (nI t) 5 := vp_in_nI ht (by omega)
  have ct : (nI t).toNatClampNeg = t := nI_clamp (by omega)
  have h5 : b_kinds t = 5 → ∃ h, b_seconds t = nI h ∧ k ≤ h ∧ h < 1000 := by
    intro e; rw [e1] at e; exact absurd e (by decide)
  obtain ⟨lo, hi, hl, hh, hin, hlow, hhigh⟩ := yw_req (g_slots := g_slots) (g_capacity := g_capacity) (g_clock := g_clock) (b_states := b_states) (b_values := b_values) (b_reads := b_reads) (b_writes := b_writes) (b_touched := b_touched) (b_beforeStates := b_beforeStates) (b_beforeValues := b_beforeValues) (b_phases := b_phases) (b_outcomes := b_outcomes) (b_used := b_used) (b_begun := b_begun) (b_accepted := b_accepted) (b_rowCounts := b_rowCounts) (b_rowKeys := b_rowKeys) (b_rowValues := b_rowValues) ht hk hf h5
  refine ⟨vt, ?_⟩
  rw [ct, hf]
  refine nm_e ⟨vt, nm_e ⟨vt, nm_e ?_⟩⟩
  have hcl := dd_cnt_le b_states 1000
  refine hlow _ (hhigh _ (yw_asksWrite ht hk hf (fun _ => yw_entries ?_) (fun z => absurd (Or.inl e1) z)))
  refine br_t e1 ⟨vp_in_nI hk (by omega), ?_⟩
  rw [nI_clamp (n := k) (by omega)]
  refine br_t e0 (br_f ?_ ⟨1, yw_83f h⟩)
  rw [hc]
  exact nI_nlt hfull (by omega)
theorem yw_addRow {post : SY → Prop} {t k c : Nat} (ht : t < 5) (hk : k < 1000) (hc : b_rowCounts t = nI c) (hc2 : c < 48) (h : post (g_slots, g_capacity, g_clock, b_states, b_values, b_reads, b_writes, b_touched, b_beforeStates, b_beforeValues, b_phases, b_outcomes, b_used, b_kinds, b_firsts, b_seconds, b_begun, b_accepted, upd b_rowCounts t (nI (c + 1)), upd b_rowKeys (t * 48 + c) (nI k), upd b_rowValues (t * 48 + c) (b_values k))) : wpY_addRow post (g_slots, g_capacity, g_clock, b_states, b_values, b_reads, b_writes, b_touched, b_beforeStates, b_beforeValues, b_phases, b_outcomes, b_used, b_kinds, b_firsts, b_seconds, b_begun, b_accepted, b_rowCounts, b_rowKeys, b_rowValues) (nI t) (nI k) := by
  have vt : vp_in (nI t) 5 := vp_in_nI ht (by omega)
  have ct : (nI t).toNatClampNeg = t := nI_clamp (by omega)
  have vk : vp_in (nI k) 1000 := vp_in_nI hk (by omega)
  have ck : (nI k).toNatClampNeg = k := nI_clamp (by omega)
  have e1 : nI t * 48 + nI c = nI (t * 48 + c) := by rw [show (48 : Int32) = nI 48 from rfl, pk_mul, nI_add]
  have v2 : vp_in (nI (t * 48 + c)) 240 := vp_in_nI (by omega) (by omega)
  have c2 : (nI (t * 48 + c)).toNatClampNeg = t * 48 + c := nI_clamp (by omega)
  refine ⟨vt, ?_⟩
  rw [ct, ck]
  refine nm_r hc (br_f (nI_ge (b := 48) hc2 (by omega)) ?_)
  rw [e1, c2, nI_1]
  exact ⟨v2, nm_e ⟨vk, v2, nm_e ⟨vt, nm_e h⟩⟩⟩
theorem yw_change {post : SY → Prop} {t k : Nat} {ns nv : Int32} (ht : t < 5) (hk : k < 1000) (h1 : b_touched (t * 1000 + k) = 0 → post (g_slots, g_capacity, g_clock, upd b_states k ns, upd b_values k nv, b_reads, b_writes, upd b_touched (t * 1000 + k) 1, upd b_beforeStates (t * 1000 + k) (b_states k), upd b_beforeValues (t * 1000 + k) (b_values k), b_phases, b_outcomes, b_used, b_kinds, b_firsts, b_seconds, b_begun, b_accepted, b_rowCounts, b_rowKeys, b_rowValues)) (h2 : b_touched (t * 1000 + k) ≠ 0 → post (g_slots, g_capacity, g_clock, upd b_states k ns, upd b_values k nv, b_reads, b_writes, b_touched, b_beforeStates, b_beforeValues, b_phases, b_outcomes, b_used, b_kinds, b_firsts, b_seconds, b_begun, b_accepted, b_rowCounts, b_rowKeys, b_rowValues)) : wpY_change post (g_slots, g_capacity, g_clock, b_states, b_values, b_reads, b_writes, b_touched, b_beforeStates, b_beforeValues, b_phases, b_outcomes, b_used, b_kinds, b_firsts, b_seconds, b_begun, b_accepted, b_rowCounts, b_rowKeys, b_rowValues) (nI t) (nI k) ns nv := by
  have vk : vp_in (nI k) 1000 := vp_in_nI hk (by omega)
  have ck : (nI k).toNatClampNeg = k := nI_clamp (by omega)
  have v2 : vp_in (nI (t * 1000 + k)) 5000 := vp_in_nI (by omega) (by omega)
  have c2 : (nI (t * 1000 + k)).toNatClampNeg = t * 1000 + k := nI_clamp (by omega)
  refine nm_r (yw_ix t k) ⟨v2, ?_⟩
  rw [c2, ck, dd_v1]
  refine br_c (fun z => ⟨v2, nm_e ⟨vk, v2, nm_e ⟨vk, v2, nm_e ?_⟩⟩⟩) (fun z => ?_)
  · unfold wY_change_53
    rw [ck]
    exact ⟨vk, nm_e ⟨vk, nm_e (h1 z)⟩⟩
  · unfold wY_change_53
    rw [ck]
    exact ⟨vk, nm_e ⟨vk, nm_e (h2 z)⟩⟩
theorem yw_368 {post : SY → Prop} {t : Nat} (ht : t < 5) (h : post (g_slots, g_capacity, g_clock, b_states, b_values, b_reads, b_writes, b_touched, b_beforeStates, b_beforeValues, upd b_phases t 1, b_outcomes, b_used, upd b_kinds t 0, upd b_firsts t 0, upd b_seconds t 0, b_begun, b_accepted, b_rowCounts, b_rowKeys, b_rowValues)) : wY_execute_368 post (nI t) g_slots g_capacity g_clock b_states b_values b_reads b_writes b_touched b_beforeStates b_beforeValues b_phases b_outcomes b_used b_kinds b_firsts b_seconds b_begun b_accepted b_rowCounts b_rowKeys b_rowValues := by
  have vt : vp_in (nI t) 5 := vp_in_nI ht (by omega)
  have ct : (nI t).toNatClampNeg = t := nI_clamp (by omega)
  refine ⟨vt, ?_⟩
  rw [ct]
  exact nm_e (yw_forget ht h)
/-- the rows' loop: keys that give no row are passed -/
theorem yw_skip {post : SY → Prop} {t last y : Nat} {x11 : Int32} {Fu : Nat} (hy : y ≤ last + 1) (hy2 : y ≤ 1000) (ht : t < 5) (hl : last < 1000) (hK : ∀ n, Fu < n → wY_execute_298 post (nI t) (nI last) x11 n (nI y) g_slots g_capacity g_clock b_states b_values b_reads b_writes b_touched b_beforeStates b_beforeValues b_phases b_outcomes b_used b_kinds b_firsts b_seconds b_begun b_accepted b_rowCounts b_rowKeys b_rowValues) : ∀ (d x n : Nat), x + d = y → Fu + d < n → (∀ z, x ≤ z → z < y → b_states z ≠ 1 ∨ x11 ≤ b_rowCounts t) → wY_execute_298 post (nI t) (nI last) x11 n (nI x) g_slots g_capacity g_clock b_states b_values b_reads b_writes b_touched b_beforeStates b_beforeValues b_phases b_outcomes b_used b_kinds b_firsts b_seconds b_begun b_accepted b_rowCounts b_rowKeys b_rowValues
  | 0, x, n, h1, h2, h3 => by
    have e : x = y := by omega
    subst e
    exact hK n (by omega)
  | d + 1, x, n + 1, h1, h2, h3 => by
    have ih := yw_skip hy hy2 ht hl hK d (x + 1) n (by omega) (by omega) (fun z a b => h3 z (by omega) b)
    refine br_f (nI_nlt (by omega) (by omega)) (br_f (nI_ge (b := 1000) (by omega) (by omega)) ⟨vp_in_nI (by omega) (by omega), ?_⟩)
    rw [nI_clamp (n := x) (by omega), nI_clamp (n := t) (by omega)]
    rcases h3 x (Nat.le_refl _) (by omega) with z | z
    · exact br_f z (nm_r (nI_1 x) ih)
    · exact br_c (fun _ => ⟨vp_in_nI ht (by omega), br_t z (nm_r (nI_1 x) ih)⟩) (fun _ => nm_r (nI_1 x) ih)
theorem yw_298x {post : SY → Prop} {t last : Nat} {x11 : Int32} (hl : last < 1000) (h : wY_execute_348 post (nI t) g_slots g_capacity g_clock b_states b_values b_reads b_writes b_touched b_beforeStates b_beforeValues b_phases b_outcomes b_used b_kinds b_firsts b_seconds b_begun b_accepted b_rowCounts b_rowKeys b_rowValues) (n : Nat) (hn : 0 < n) : wY_execute_298 post (nI t) (nI last) x11 n (nI (last + 1)) g_slots g_capacity g_clock b_states b_values b_reads b_writes b_touched b_beforeStates b_beforeValues b_phases b_outcomes b_used b_kinds b_firsts b_seconds b_begun b_accepted b_rowCounts b_rowKeys b_rowValues := by
  obtain ⟨n, rfl⟩ : ∃ m, n = m + 1 := ⟨n - 1, by omega⟩
  exact br_t (nI_lt (by omega) (by omega)) h
theorem yw_348 {post : SY → Prop} {t c : Nat} (ht : t < 5) (hc : b_rowCounts t = nI c) (hc2 : c ≤ 48) (h : post (g_slots, g_capacity, g_clock, b_states, b_values, b_reads, b_writes, b_touched, b_beforeStates, b_beforeValues, upd b_phases t 1, upd b_outcomes t (if c = 0 then 3 else 2), b_used, upd b_kinds t 0, upd b_firsts t 0, upd b_seconds t 0, b_begun, b_accepted, b_rowCounts, b_rowKeys, b_rowValues)) : wY_execute_348 post (nI t) g_slots g_capacity g_clock b_states b_values b_reads b_writes b_touched b_beforeStates b_beforeValues b_phases b_outcomes b_used b_kinds b_firsts b_seconds b_begun b_accepted b_rowCounts b_rowKeys b_rowValues := by
  have vt : vp_in (nI t) 5 := vp_in_nI ht (by omega)
  have ct : (nI t).toNatClampNeg = t := nI_clamp (by omega)
  refine ⟨vt, ?_⟩
  rw [ct, hc]
  refine pk_le c 0 (fun z => ?_) (fun z => ?_)
  · rw [if_pos (by omega)] at h
    refine ⟨vt, ?_⟩
    rw [ct]
    exact nm_e (yw_368 ht h)
  · rw [if_neg (by omega)] at h
    refine ⟨vt, ?_⟩
    rw [ct]
    exact nm_e (yw_368 ht h)
end
end
section
/-! execution: what the kinds share -/
def zz_ph (v : SY) : Nat → Int32 := match v with
  | (g_slots, g_capacity, g_clock, b_states, b_values, b_reads, b_writes, b_touched, b_beforeStates, b_beforeValues, b_phases, b_outcomes, b_used, b_kinds, b_firsts, b_seconds, b_begun, b_accepted, b_rowCounts, b_rowKeys, b_rowValues) => b_phases
def zz_sl (v : SY) : Int32 := match v with
  | (g_slots, g_capacity, g_clock, b_states, b_values, b_reads, b_writes, b_touched, b_beforeStates, b_beforeValues, b_phases, b_outcomes, b_used, b_kinds, b_firsts, b_seconds, b_begun, b_accepted, b_rowCounts, b_rowKeys, b_rowValues) => g_slots
def zz_Ex (u : SX) (v : SY) (t : Nat) (ph : Nat → Int32) : Prop := ∃ v', (zz_ph v' = ph ∧ zz_sl v' = zz_sl v) ∧ (∀ post : SY → Prop, post v' → wpY_execute post v (nI t)) ∧ (∀ post : SX → Prop, (∀ u', zz_R u' v' → post u') → wpX_execute post u (nI t))
theorem dd_uu {f : Nat → Int32} {k : Nat} {x y : Int32} : upd (upd f k x) k y = upd f k y := by
  funext j; unfold upd
  by_cases e : j = k
  · rw [if_pos e, if_pos e]
  · rw [if_neg e, if_neg e, if_neg e]
theorem dd_Tx {s t : Nat} {ph kd fi se us rc rc' : Nat → Int32} (hT : dd_T s ph kd fi se us rc) (ht : t < s) (hrc : ∀ u, u ≠ t → rc' u = rc u) (hc : ∃ c, c ≤ 48 ∧ rc' t = nI c) : dd_T s (upd ph t 1) (upd kd t 0) (upd fi t 0) (upd se t 0) us rc' := by
  intro u
  by_cases e : u = t
  · subst e
    rw [pk_us, pk_us, pk_us, pk_us]
    exact ⟨Or.inr ⟨ht, Or.inl rfl⟩, fun _ => ⟨rfl, rfl, rfl⟩, fun z => absurd z (by decide), fun z => absurd z (by decide), hc⟩
  · rw [pk_un e, pk_un e, pk_un e, pk_un e, hrc u e]
    exact hT u
theorem dd_ph1 {ph : Nat → Int32} {t : Nat} : ∀ u, ph u ≠ 0 → upd ph t 1 u ≠ 0 := by
  intro u hu
  by_cases e : u = t
  · subst e; rw [pk_us]; decide
  · rw [pk_un e]; exact hu
theorem rg_str {L : List Nat} {ky : Nat → Nat} {rk nx pv rf : Nat → Int32} {fr ec : Int32} (hS : rg_S L ky rk nx pv rf fr ec) (st kd se : Nat → Int32) (t : Nat) {k r : Nat} {A B : List Nat} (e1 : L ++ [48] = A ++ r :: B) (hA : ∀ y ∈ A, ky y < k) (hr : k ≤ ky r) (hk : k < 1000) : ∃ S e B', r :: B = S ++ e :: B' ∧ L ++ [48] = A ++ (S ++ e :: B') ∧ (∀ q ∈ S, ¬ sx_stop rk st kd se t q) ∧ sx_stop rk st kd se t e ∧ (∀ q ∈ S ++ [e], k ≤ ky q) ∧ e ∈ L ++ [48] ∧ (∀ q ∈ S, q ∈ L ∧ ky q < ky e) := by
  have h48 : 48 ∈ r :: B := by
    have : 48 ∈ L ++ [48] := by simp
    rw [e1] at this
    rcases List.mem_append.mp this with z | z
    · have := hA 48 z; have := hS.2.1; omega
    · exact z
  obtain ⟨S, e, B', e2, hn, he⟩ := sx_split (rk := rk) (st := st) (kd := kd) (se := se) (t := t) h48
  have e3 : L ++ [48] = A ++ (S ++ e :: B') := by rw [e1, e2]
  have ho := rg_ord hS e1
  have ho2 := rg_ord hS (A := A ++ S) (r := e) (B := B') (by rw [e3]; simp)
  have heR : e ∈ L ++ [48] := by rw [e3]; simp
  refine ⟨S, e, B', e2, e3, hn, he, ?_, heR, ?_⟩
  · intro q hq
    have : q ∈ r :: B := by
      rw [e2]
      simp only [List.mem_append, List.mem_cons] at hq ⊢
      rcases hq with z | z | z
      · exact Or.inl z
      · exact Or.inr (Or.inl z)
      · simp at z
    rcases List.mem_cons.mp this with z | z
    · rw [z]; exact hr
    · have := ho.2.1 q z; omega
  · intro q hq
    have h1 := ho2.1 q (by simp [hq])
    have h2 := (rg_le hS heR).2
    exact ⟨rg_L hS (by rw [e3]; simp [hq]) (by omega), h1⟩
section
variable {f_END f_NOBODY f_FAN f_FILL f_STRIDE f_DEPTH f_PAGES f_ROWS f_slots f_capacity f_entryCount f_freeRecs f_freePages f_root f_height : Int32} {f_clock : Int64} {a_recKey a_recState a_recValue a_next a_prev a_readers a_writers a_gapReaders a_owner a_baseState a_baseValue a_recFree a_pageFill a_pageSlot a_pageTop a_pageFree a_pathPage a_pathSlot a_phaseOf a_outcomeOf a_used : Nat → Int32} {a_beganAt : Nat → Int64} {a_opKind a_opFirst a_opSecond : Nat → Int32} {a_acceptedAt : Nat → Int64} {a_rowCount a_rowKeys a_rowValues a_reach : Nat → Int32}
theorem xw_69 {post : SX → Prop} {t : Nat} {rs : Int32} (ht : t < 5) (h : post (f_END, f_NOBODY, f_FAN, f_FILL, f_STRIDE, f_DEPTH, f_PAGES, f_ROWS, f_slots, f_capacity, f_entryCount, f_freeRecs, f_freePages, f_root, f_height, f_clock, a_recKey, a_recState, a_recValue, a_next, a_prev, a_readers, a_writers, a_gapReaders, a_owner, a_baseState, a_baseValue, a_recFree, a_pageFill, a_pageSlot, a_pageTop, a_pageFree, a_pathPage, a_pathSlot, upd a_phaseOf t 1, upd a_outcomeOf t rs, a_used, a_beganAt, upd a_opKind t 0, upd a_opFirst t 0, upd a_opSecond t 0, a_acceptedAt, a_rowCount, a_rowKeys, a_rowValues, a_reach)) : wX_execute_69 post (nI t) rs f_END f_NOBODY f_FAN f_FILL f_STRIDE f_DEPTH f_PAGES f_ROWS f_slots f_capacity f_entryCount f_freeRecs f_freePages f_root f_height f_clock a_recKey a_recState a_recValue a_next a_prev a_readers a_writers a_gapReaders a_owner a_baseState a_baseValue a_recFree a_pageFill a_pageSlot a_pageTop a_pageFree a_pathPage a_pathSlot a_phaseOf a_outcomeOf a_used a_beganAt a_opKind a_opFirst a_opSecond a_acceptedAt a_rowCount a_rowKeys a_rowValues a_reach := by
  have vt : vp_in (nI t) 5 := vp_in_nI ht (by omega)
  have ct : (nI t).toNatClampNeg = t := nI_clamp (by omega)
  refine xw_forget ht ⟨vt, ?_⟩
  rw [ct]
  exact nm_e ⟨vt, nm_e h⟩
end
section
variable {f_END f_NOBODY f_FAN f_FILL f_STRIDE f_DEPTH f_PAGES f_ROWS f_slots f_capacity f_entryCount f_freeRecs f_freePages f_root f_height : Int32} {f_clock : Int64} {a_recKey a_recState a_recValue a_next a_prev a_readers a_writers a_gapReaders a_owner a_baseState a_baseValue a_recFree a_pageFill a_pageSlot a_pageTop a_pageFree a_pathPage a_pathSlot a_phaseOf a_outcomeOf a_used : Nat → Int32} {a_beganAt : Nat → Int64} {a_opKind a_opFirst a_opSecond : Nat → Int32} {a_acceptedAt : Nat → Int64} {a_rowCount a_rowKeys a_rowValues a_reach : Nat → Int32} {b_states b_values b_reads b_writes b_touched b_beforeStates b_beforeValues : Nat → Int32}
theorem zz_exI {s c t k : Nat} {L : List Nat} {ky : Nat → Nat} (h1 : f_slots = nI s) (h2 : 2 ≤ s) (h3 : s ≤ 5) (h4 : f_capacity = nI c) (h5 : c ≤ 48) (hT : dd_T s a_phaseOf a_opKind a_opFirst a_opSecond a_used a_rowCount) (hS : rg_S L ky a_recKey a_next a_prev a_recFree f_freeRecs f_entryCount) (hR : rg_T a_pageFill a_pageSlot a_pageTop a_pageFree f_freePages f_root f_height L ky) (hD : dd_D L ky a_phaseOf a_recState a_recValue a_readers a_writers a_gapReaders a_owner a_baseState a_baseValue b_states b_values b_reads b_writes b_touched b_beforeStates b_beforeValues) (ht : t < s) (p2 : a_phaseOf t = 2) (hub : ∀ o, ¬ wf a_phaseOf b_states a_opKind a_opFirst a_opSecond b_reads b_writes t o) (hf : a_opFirst t = nI k) (hk : k < 1000) (hrc : a_rowCount t = 0) (hkd : a_opKind t = 1) : zz_Ex (f_END, f_NOBODY, f_FAN, f_FILL, f_STRIDE, f_DEPTH, f_PAGES, f_ROWS, f_slots, f_capacity, f_entryCount, f_freeRecs, f_freePages, f_root, f_height, f_clock, a_recKey, a_recState, a_recValue, a_next, a_prev, a_readers, a_writers, a_gapReaders, a_owner, a_baseState, a_baseValue, a_recFree, a_pageFill, a_pageSlot, a_pageTop, a_pageFree, a_pathPage, a_pathSlot, a_phaseOf, a_outcomeOf, a_used, a_beganAt, a_opKind, a_opFirst, a_opSecond, a_acceptedAt, a_rowCount, a_rowKeys, a_rowValues, a_reach) (f_slots, f_capacity, f_clock, b_states, b_values, b_reads, b_writes, b_touched, b_beforeStates, b_beforeValues, a_phaseOf, a_outcomeOf, a_used, a_opKind, a_opFirst, a_opSecond, a_beganAt, a_acceptedAt, a_rowCount, a_rowKeys, a_rowValues) t (upd a_phaseOf t 1) := by
  have ht5 : t < 5 := by omega
  have vt : vp_in (nI t) 5 := vp_in_nI ht5 (by omega)
  have ct : (nI t).toNatClampNeg = t := nI_clamp (by omega)
  have hp0 : a_phaseOf t ≠ 0 := by rw [p2]; decide
  obtain ⟨A, r, B, e1, hA, hr⟩ := rg_find hS (k := k) (by omega)
  have hrR : r ∈ L ++ [48] := by rw [e1]; simp
  have hr49 := rg_le hS hrR
  have vr : vp_in (nI r) 49 := vp_in_nI hr49.1 (by omega)
  have cr : (nI r).toNatClampNeg = r := nI_clamp (by omega)
  have hrk := rg_k hS hrR
  have hFk := rg_toF hS e1 hA hr
  have hw : wf_wr b_states a_opKind t k := Or.inl hkd
  have h1k : wf_one b_states a_opKind t k := Or.inl hkd
  have hcnt := dd_cntL hS hD
  have hidr : upd a_rowCount t 0 = a_rowCount := dd_upd_id hrc
  have hrc0 : a_rowCount t = nI 0 := hrc
  have vk : vp_in (nI k) 1000 := vp_in_nI hk (by omega)
  have ck : (nI k).toNatClampNeg = k := nI_clamp (by omega)
  have hTx : ∀ rc', (∀ u, u ≠ t → rc' u = a_rowCount u) → (∃ c, c ≤ 48 ∧ rc' t = nI c) → dd_T s (upd a_phaseOf t 1) (upd a_opKind t 0) (upd a_opFirst t 0) (upd a_opSecond t 0) a_used rc' := fun rc' => dd_Tx hT ht
  have hT0 := hTx a_rowCount (fun _ _ => rfl) ⟨0, by omega, hrc0⟩
  have hT1 := hTx (upd a_rowCount t (nI (0 + 1))) (fun u hu => pk_un hu) ⟨1, by omega, pk_us⟩
  by_cases ek : ky r = k
  · -- an entry is there
    have hrL : r ∈ L := rg_L hS hrR (by omega)
    have hE := hD.1 r hrL
    have hx : ∀ o, bt (a_writers r) o = true → o = t := by
      intro o ho
      apply Classical.byContradiction
      intro hne
      have hpo := hD.2.2.2.1 r hrL o (Or.inr ho)
      have ho5 : o < 5 := by
        rcases (hT o).1 with z | z
        · exact absurd z hpo
        · omega
      refine hub o ((wf_1 h1k hf hk).mpr ⟨p2, fun e => hne e.symm, hpo, Or.inl ?_⟩)
      rw [← ek, (hE.2.2.2.1 o ho5).2.1, ho]
      decide
    have hD1 := dd_write hS hD ht5 hrL hp0 hx
    rw [ek] at hD1
    have hstr : b_states k = a_recState r := by rw [← ek]; exact hE.2.1
    have hvar : b_values k = a_recValue r := by rw [← ek]; exact hE.2.2.1
    have hYfull : a_opKind t = 1 → b_states k = 0 → dd_cnt b_states 1000 < c := by
      intro _ z
      rw [← ek] at z
      exact absurd z (dd_stE hD hrL).2.2
    have hX : ∀ post : SX → Prop, (∀ pp sl, wX_executeInsert_49 (fun r u => match u with | (f_END, f_NOBODY, f_FAN, f_FILL, f_STRIDE, f_DEPTH, f_PAGES, f_ROWS, f_slots, f_capacity, f_entryCount, f_freeRecs, f_freePages, f_root, f_height, f_clock, a_recKey, a_recState, a_recValue, a_next, a_prev, a_readers, a_writers, a_gapReaders, a_owner, a_baseState, a_baseValue, a_recFree, a_pageFill, a_pageSlot, a_pageTop, a_pageFree, a_pathPage, a_pathSlot, a_phaseOf, a_outcomeOf, a_used, a_beganAt, a_opKind, a_opFirst, a_opSecond, a_acceptedAt, a_rowCount, a_rowKeys, a_rowValues, a_reach) => wX_execute_69 post (nI t) r f_END f_NOBODY f_FAN f_FILL f_STRIDE f_DEPTH f_PAGES f_ROWS f_slots f_capacity f_entryCount f_freeRecs f_freePages f_root f_height f_clock a_recKey a_recState a_recValue a_next a_prev a_readers a_writers a_gapReaders a_owner a_baseState a_baseValue a_recFree a_pageFill a_pageSlot a_pageTop a_pageFree a_pathPage a_pathSlot a_phaseOf a_outcomeOf a_used a_beganAt a_opKind a_opFirst a_opSecond a_acceptedAt a_rowCount a_rowKeys a_rowValues a_reach) (nI t) (nI r) f_END f_NOBODY f_FAN f_FILL f_STRIDE f_DEPTH f_PAGES f_ROWS f_slots f_capacity f_entryCount f_freeRecs f_freePages f_root f_height f_clock a_recKey a_recState a_recValue a_next a_prev a_readers a_writers a_gapReaders a_owner a_baseState a_baseValue a_recFree a_pageFill a_pageSlot a_pageTop a_pageFree pp sl a_phaseOf a_outcomeOf a_used a_beganAt a_opKind a_opFirst a_opSecond a_acceptedAt a_rowCount a_rowKeys a_rowValues a_reach) → wpX_execute post (f_END, f_NOBODY, f_FAN, f_FILL, f_STRIDE, f_DEPTH, f_PAGES, f_ROWS, f_slots, f_capacity, f_entryCount, f_freeRecs, f_freePages, f_root, f_height, f_clock, a_recKey, a_recState, a_recValue, a_next, a_prev, a_readers, a_writers, a_gapReaders, a_owner, a_baseState, a_baseValue, a_recFree, a_pageFill, a_pageSlot, a_pageTop, a_pageFree, a_pathPage, a_pathSlot, a_phaseOf, a_outcomeOf, a_used, a_beganAt, a_opKind, a_opFirst, a_opSecond, a_acceptedAt, a_rowCount, a_rowKeys, a_rowValues, a_reach) (nI t) := by
      intro post h
      refine ⟨vt, nm_r (e' := 1) (by rw [ct]; exact hkd) (br_t rfl ?_)⟩
      refine ⟨vt, nm_r (e' := nI k) (by rw [ct]; exact hf) (xw_locate hS hR (by omega) e1 hA hr fun pp sl => ⟨vr, ?_⟩)⟩
      rw [cr, hrk, ek]
      exact br_t rfl (h pp sl)
    have hX49 : ∀ (post : SX → Prop) (pp sl : Nat → Int32), ((a_recState r = 1 → wX_execute_69 post (nI t) 4 f_END f_NOBODY f_FAN f_FILL f_STRIDE f_DEPTH f_PAGES f_ROWS f_slots f_capacity f_entryCount f_freeRecs f_freePages f_root f_height f_clock a_recKey a_recState a_recValue a_next a_prev a_readers (upd a_writers r (a_writers r ||| ((1 : Int32) <<< (nI t &&& 31)))) a_gapReaders a_owner a_baseState a_baseValue a_recFree a_pageFill a_pageSlot a_pageTop a_pageFree pp sl a_phaseOf a_outcomeOf a_used a_beganAt a_opKind a_opFirst a_opSecond a_acceptedAt (upd a_rowCount t (nI (0 + 1))) (upd a_rowKeys (t * 48 + 0) (nI k)) (upd a_rowValues (t * 48 + 0) (b_values k)) a_reach) ∧ (a_recState r ≠ 1 → (a_owner r = -1 → wX_execute_69 post (nI t) 1 f_END f_NOBODY f_FAN f_FILL f_STRIDE f_DEPTH f_PAGES f_ROWS f_slots f_capacity f_entryCount f_freeRecs f_freePages f_root f_height f_clock a_recKey (upd a_recState r 1) (upd a_recValue r (a_opSecond t)) a_next a_prev a_readers (upd a_writers r (a_writers r ||| ((1 : Int32) <<< (nI t &&& 31)))) a_gapReaders (upd a_owner r (nI t)) (upd a_baseState r (a_recState r)) (upd a_baseValue r (a_recValue r)) a_recFree a_pageFill a_pageSlot a_pageTop a_pageFree pp sl a_phaseOf a_outcomeOf a_used a_beganAt a_opKind a_opFirst a_opSecond a_acceptedAt a_rowCount a_rowKeys a_rowValues a_reach) ∧ (a_owner r ≠ -1 → wX_execute_69 post (nI t) 1 f_END f_NOBODY f_FAN f_FILL f_STRIDE f_DEPTH f_PAGES f_ROWS f_slots f_capacity f_entryCount f_freeRecs f_freePages f_root f_height f_clock a_recKey (upd a_recState r 1) (upd a_recValue r (a_opSecond t)) a_next a_prev a_readers (upd a_writers r (a_writers r ||| ((1 : Int32) <<< (nI t &&& 31)))) a_gapReaders a_owner a_baseState a_baseValue a_recFree a_pageFill a_pageSlot a_pageTop a_pageFree pp sl a_phaseOf a_outcomeOf a_used a_beganAt a_opKind a_opFirst a_opSecond a_acceptedAt a_rowCount a_rowKeys a_rowValues a_reach))) → wX_executeInsert_49 (fun r u => match u with | (f_END, f_NOBODY, f_FAN, f_FILL, f_STRIDE, f_DEPTH, f_PAGES, f_ROWS, f_slots, f_capacity, f_entryCount, f_freeRecs, f_freePages, f_root, f_height, f_clock, a_recKey, a_recState, a_recValue, a_next, a_prev, a_readers, a_writers, a_gapReaders, a_owner, a_baseState, a_baseValue, a_recFree, a_pageFill, a_pageSlot, a_pageTop, a_pageFree, a_pathPage, a_pathSlot, a_phaseOf, a_outcomeOf, a_used, a_beganAt, a_opKind, a_opFirst, a_opSecond, a_acceptedAt, a_rowCount, a_rowKeys, a_rowValues, a_reach) => wX_execute_69 post (nI t) r f_END f_NOBODY f_FAN f_FILL f_STRIDE f_DEPTH f_PAGES f_ROWS f_slots f_capacity f_entryCount f_freeRecs f_freePages f_root f_height f_clock a_recKey a_recState a_recValue a_next a_prev a_readers a_writers a_gapReaders a_owner a_baseState a_baseValue a_recFree a_pageFill a_pageSlot a_pageTop a_pageFree a_pathPage a_pathSlot a_phaseOf a_outcomeOf a_used a_beganAt a_opKind a_opFirst a_opSecond a_acceptedAt a_rowCount a_rowKeys a_rowValues a_reach) (nI t) (nI r) f_END f_NOBODY f_FAN f_FILL f_STRIDE f_DEPTH f_PAGES f_ROWS f_slots f_capacity f_entryCount f_freeRecs f_freePages f_root f_height f_clock a_recKey a_recState a_recValue a_next a_prev a_readers a_writers a_gapReaders a_owner a_baseState a_baseValue a_recFree a_pageFill a_pageSlot a_pageTop a_pageFree pp sl a_phaseOf a_outcomeOf a_used a_beganAt a_opKind a_opFirst a_opSecond a_acceptedAt a_rowCount a_rowKeys a_rowValues a_reach := by
      intro post pp sl h
      refine ⟨vr, vr, ?_⟩
      rw [cr, ct]
      refine nm_e ⟨vr, br_c (fun z => ?_) (fun z => ⟨vt, ?_⟩)⟩
      · refine xw_addRow ht5 hr49.1 hrc0 (by omega) ?_
        rw [hrk, ek, ← hvar]
        exact h.1 z
      · exact xw_change ht5 hr49.1 (fun z2 => (h.2 z).1 z2) (fun z2 => (h.2 z).2 z2)
    by_cases hl : a_recState r = 1
    · -- live: duplicate
      refine ⟨(f_slots, f_capacity, f_clock, b_states, b_values, b_reads, upd b_writes (t * 1000 + k) 1, b_touched, b_beforeStates, b_beforeValues, upd a_phaseOf t 1, upd a_outcomeOf t 4, a_used, upd a_opKind t 0, upd a_opFirst t 0, upd a_opSecond t 0, a_beganAt, a_acceptedAt, upd a_rowCount t (nI (0 + 1)), upd a_rowKeys (t * 48 + 0) (nI k), upd a_rowValues (t * 48 + 0) (b_values k)), ⟨rfl, rfl⟩, fun post h => ?_, fun post h => hX post (fun pp sl => hX49 post pp sl ⟨fun _ => xw_69 ht5 (h _ ?_), fun z => absurd hl z⟩)⟩
      · refine yw_execW ht5 hk hf hw h4 h5 hYfull ⟨vt, ?_⟩
        rw [ct, ck, hidr]
        refine nm_e (br_t hkd (br_t rfl ⟨vk, br_t (hstr.trans hl) ?_⟩))
        refine yw_addRow ht5 hk hrc0 (by omega) ⟨vt, ?_⟩
        exact nm_e (yw_368 ht5 h)
      · exact zz_in h1 h2 h3 h4 h5 hT1 hS hR (dd_ph dd_ph1 hD1)
    · have hl2 : a_recState r = 2 := by
        rcases hE.1 with z | z
        · exact absurd z hl
        · exact z.1
      have hY : ∀ post : SY → Prop, ((b_touched (t * 1000 + k) = 0 → wY_execute_368 post (nI t) f_slots f_capacity f_clock (upd b_states k 1) (upd b_values k (a_opSecond t)) b_reads (upd b_writes (t * 1000 + k) 1) (upd b_touched (t * 1000 + k) 1) (upd b_beforeStates (t * 1000 + k) (b_states k)) (upd b_beforeValues (t * 1000 + k) (b_values k)) a_phaseOf (upd a_outcomeOf t 1) a_used a_opKind a_opFirst a_opSecond a_beganAt a_acceptedAt a_rowCount a_rowKeys a_rowValues) ∧ (b_touched (t * 1000 + k) ≠ 0 → wY_execute_368 post (nI t) f_slots f_capacity f_clock (upd b_states k 1) (upd b_values k (a_opSecond t)) b_reads (upd b_writes (t * 1000 + k) 1) b_touched b_beforeStates b_beforeValues a_phaseOf (upd a_outcomeOf t 1) a_used a_opKind a_opFirst a_opSecond a_beganAt a_acceptedAt a_rowCount a_rowKeys a_rowValues)) → wpY_execute post (f_slots, f_capacity, f_clock, b_states, b_values, b_reads, b_writes, b_touched, b_beforeStates, b_beforeValues, a_phaseOf, a_outcomeOf, a_used, a_opKind, a_opFirst, a_opSecond, a_beganAt, a_acceptedAt, a_rowCount, a_rowKeys, a_rowValues) (nI t) := by
        intro post h
        refine yw_execW ht5 hk hf hw h4 h5 hYfull ⟨vt, ?_⟩
        rw [ct, ck, hidr]
        refine nm_e (br_t hkd (br_t rfl ⟨vk, br_f (by rw [hstr]; exact hl) ?_⟩))
        refine yw_change ht5 hk (fun z => ⟨vt, ?_⟩) (fun z => ⟨vt, ?_⟩)
        · exact nm_e (h.1 z)
        · exact nm_e (h.2 z)
      have htt := (hE.2.2.2.1 t ht5).2.2.1
      rw [ek] at htt
      have hwt : bt (upd a_writers r (a_writers r ||| ((1 : Int32) <<< (nI t &&& 31))) r) t = true := by
        rw [pk_us, bk_or (by omega)]; simp
      by_cases ho : a_owner r = -1
      · have htt0 : b_touched (t * 1000 + k) = 0 := by
          rw [htt, ho, decide_eq_false (dd_m1 ht5)]; rfl
        have hD2 := dd_own (z := b_states k) (y := b_values k) hS hD1 ht5 hrL ho hwt (Or.inr ⟨hl2, by rw [hstr, hl2]; decide⟩)
        have hD3 := dd_set (ns := 1) (nv := a_opSecond t) hS hD2 hrL (Or.inl rfl)
        rw [ek] at hD3
        refine ⟨(f_slots, f_capacity, f_clock, upd b_states k 1, upd b_values k (a_opSecond t), b_reads, upd b_writes (t * 1000 + k) 1, upd b_touched (t * 1000 + k) 1, upd b_beforeStates (t * 1000 + k) (b_states k), upd b_beforeValues (t * 1000 + k) (b_values k), upd a_phaseOf t 1, upd a_outcomeOf t 1, a_used, upd a_opKind t 0, upd a_opFirst t 0, upd a_opSecond t 0, a_beganAt, a_acceptedAt, a_rowCount, a_rowKeys, a_rowValues), ⟨rfl, rfl⟩, fun post h => hY post ⟨fun _ => yw_368 ht5 h, fun z => absurd htt0 z⟩, fun post h => hX post (fun pp sl => hX49 post pp sl ⟨fun z => absurd z hl, fun _ => ⟨fun _ => xw_69 ht5 (h _ ?_), fun z => absurd ho z⟩⟩)⟩
        exact zz_in h1 h2 h3 h4 h5 hT0 hS hR (dd_ph dd_ph1 hD3)
      · have htt1 : b_touched (t * 1000 + k) ≠ 0 := by
          rw [htt, dd_b1, decide_eq_true_iff]
          rcases hE.2.2.2.2.1 with z | ⟨u, hu, eu⟩
          · exact absurd z ho
          · have := ((hE.2.2.2.1 u hu).2.2.2 eu).1
            rw [← hx u this]; exact eu
        have hD3 := dd_set (ns := 1) (nv := a_opSecond t) hS hD1 hrL (Or.inl rfl)
        rw [ek] at hD3
        refine ⟨(f_slots, f_capacity, f_clock, upd b_states k 1, upd b_values k (a_opSecond t), b_reads, upd b_writes (t * 1000 + k) 1, b_touched, b_beforeStates, b_beforeValues, upd a_phaseOf t 1, upd a_outcomeOf t 1, a_used, upd a_opKind t 0, upd a_opFirst t 0, upd a_opSecond t 0, a_beganAt, a_acceptedAt, a_rowCount, a_rowKeys, a_rowValues), ⟨rfl, rfl⟩, fun post h => hY post ⟨fun z => absurd z htt1, fun _ => yw_368 ht5 h⟩, fun post h => hX post (fun pp sl => hX49 post pp sl ⟨fun z => absurd z hl, fun _ => ⟨fun z => absurd z ho, fun _ => xw_69 ht5 (h _ ?_)⟩⟩)⟩
        exact zz_in h1 h2 h3 h4 h5 hT0 hS hR (dd_ph dd_ph1 hD3)
  · -- no entry
    have hka : k < ky r := by omega
    have hkN : dd_N b_states b_values b_writes b_touched k := by
      refine hD.2.1 k hk (fun p hp e => ek ?_)
      rcases hFk.2.2 p (by simp [hp]) with z | z
      · omega
      · omega
    have hec := hS.2.2.2.2.2.2
    obtain ⟨hlL, Fr, hF1, hF2, hF3⟩ := rg_len hS
    have hX : ∀ post : SX → Prop, (∀ pp sl, ((f_capacity ≤ f_entryCount → wX_execute_69 post (nI t) 5 f_END f_NOBODY f_FAN f_FILL f_STRIDE f_DEPTH f_PAGES f_ROWS f_slots f_capacity f_entryCount f_freeRecs f_freePages f_root f_height f_clock a_recKey a_recState a_recValue a_next a_prev a_readers a_writers a_gapReaders a_owner a_baseState a_baseValue a_recFree a_pageFill a_pageSlot a_pageTop a_pageFree pp sl a_phaseOf a_outcomeOf a_used a_beganAt a_opKind a_opFirst a_opSecond a_acceptedAt a_rowCount a_rowKeys a_rowValues a_reach) ∧ (¬ f_capacity ≤ f_entryCount → 0 < f_freeRecs → wpX_addGhost (fun r_154 u => match u with | (f_END, f_NOBODY, f_FAN, f_FILL, f_STRIDE, f_DEPTH, f_PAGES, f_ROWS, f_slots, f_capacity, f_entryCount, f_freeRecs, f_freePages, f_root, f_height, f_clock, a_recKey, a_recState, a_recValue, a_next, a_prev, a_readers, a_writers, a_gapReaders, a_owner, a_baseState, a_baseValue, a_recFree, a_pageFill, a_pageSlot, a_pageTop, a_pageFree, a_pathPage, a_pathSlot, a_phaseOf, a_outcomeOf, a_used, a_beganAt, a_opKind, a_opFirst, a_opSecond, a_acceptedAt, a_rowCount, a_rowKeys, a_rowValues, a_reach) => wX_executeInsert_49 (fun r u => match u with | (f_END, f_NOBODY, f_FAN, f_FILL, f_STRIDE, f_DEPTH, f_PAGES, f_ROWS, f_slots, f_capacity, f_entryCount, f_freeRecs, f_freePages, f_root, f_height, f_clock, a_recKey, a_recState, a_recValue, a_next, a_prev, a_readers, a_writers, a_gapReaders, a_owner, a_baseState, a_baseValue, a_recFree, a_pageFill, a_pageSlot, a_pageTop, a_pageFree, a_pathPage, a_pathSlot, a_phaseOf, a_outcomeOf, a_used, a_beganAt, a_opKind, a_opFirst, a_opSecond, a_acceptedAt, a_rowCount, a_rowKeys, a_rowValues, a_reach) => wX_execute_69 post (nI t) r f_END f_NOBODY f_FAN f_FILL f_STRIDE f_DEPTH f_PAGES f_ROWS f_slots f_capacity f_entryCount f_freeRecs f_freePages f_root f_height f_clock a_recKey a_recState a_recValue a_next a_prev a_readers a_writers a_gapReaders a_owner a_baseState a_baseValue a_recFree a_pageFill a_pageSlot a_pageTop a_pageFree a_pathPage a_pathSlot a_phaseOf a_outcomeOf a_used a_beganAt a_opKind a_opFirst a_opSecond a_acceptedAt a_rowCount a_rowKeys a_rowValues a_reach) (nI t) r_154 f_END f_NOBODY f_FAN f_FILL f_STRIDE f_DEPTH f_PAGES f_ROWS f_slots f_capacity f_entryCount f_freeRecs f_freePages f_root f_height f_clock a_recKey a_recState a_recValue a_next a_prev a_readers a_writers a_gapReaders a_owner a_baseState a_baseValue a_recFree a_pageFill a_pageSlot a_pageTop a_pageFree a_pathPage a_pathSlot a_phaseOf a_outcomeOf a_used a_beganAt a_opKind a_opFirst a_opSecond a_acceptedAt a_rowCount a_rowKeys a_rowValues a_reach) (f_END, f_NOBODY, f_FAN, f_FILL, f_STRIDE, f_DEPTH, f_PAGES, f_ROWS, f_slots, f_capacity, f_entryCount, f_freeRecs, f_freePages, f_root, f_height, f_clock, a_recKey, a_recState, a_recValue, a_next, a_prev, a_readers, a_writers, a_gapReaders, a_owner, a_baseState, a_baseValue, a_recFree, a_pageFill, a_pageSlot, a_pageTop, a_pageFree, pp, sl, a_phaseOf, a_outcomeOf, a_used, a_beganAt, a_opKind, a_opFirst, a_opSecond, a_acceptedAt, a_rowCount, a_rowKeys, a_rowValues, a_reach) (nI k)) ∧ (¬ f_capacity ≤ f_entryCount → 0 < f_freeRecs))) → wpX_execute post (f_END, f_NOBODY, f_FAN, f_FILL, f_STRIDE, f_DEPTH, f_PAGES, f_ROWS, f_slots, f_capacity, f_entryCount, f_freeRecs, f_freePages, f_root, f_height, f_clock, a_recKey, a_recState, a_recValue, a_next, a_prev, a_readers, a_writers, a_gapReaders, a_owner, a_baseState, a_baseValue, a_recFree, a_pageFill, a_pageSlot, a_pageTop, a_pageFree, a_pathPage, a_pathSlot, a_phaseOf, a_outcomeOf, a_used, a_beganAt, a_opKind, a_opFirst, a_opSecond, a_acceptedAt, a_rowCount, a_rowKeys, a_rowValues, a_reach) (nI t) := by
      intro post h
      refine ⟨vt, nm_r (e' := 1) (by rw [ct]; exact hkd) (br_t rfl ?_)⟩
      refine ⟨vt, nm_r (e' := nI k) (by rw [ct]; exact hf) (xw_locate hS hR (by omega) e1 hA hr fun pp sl => ⟨vr, ?_⟩)⟩
      rw [cr, hrk]
      have hne : ¬ nI (ky r) = nI k := by rw [nI_eq (by omega) (by omega)]; exact ek
      have h0 := h pp sl
      exact br_f hne (br_c (fun z => h0.1 z) (fun z => br_t (h0.2.2 z) (h0.2.1 z (h0.2.2 z))))
    by_cases hfull : c ≤ L.length
    · have hcap : f_capacity ≤ f_entryCount := by rw [h4, hec]; exact nI_le hfull (by omega)
      refine ⟨(f_slots, f_capacity, f_clock, b_states, b_values, b_reads, b_writes, b_touched, b_beforeStates, b_beforeValues, upd a_phaseOf t 1, upd a_outcomeOf t 5, a_used, upd a_opKind t 0, upd a_opFirst t 0, upd a_opSecond t 0, a_beganAt, a_acceptedAt, a_rowCount, a_rowKeys, a_rowValues), ⟨rfl, rfl⟩, fun post h => ?_, fun post h => hX post (fun pp sl => ⟨fun _ => xw_69 ht5 (h _ ?_), fun z => absurd hcap z, fun z => absurd hcap z⟩)⟩
      · refine yw_execF ht5 hk hf hkd hkN.1 h4 h5 (by rw [hcnt]; exact hfull) ⟨vt, ?_⟩
        rw [ct, hidr]
        refine nm_e (br_t hkd (br_f (by decide) ⟨vt, ?_⟩))
        exact nm_e (yw_368 ht5 h)
      · exact zz_in h1 h2 h3 h4 h5 hT0 hS hR (dd_ph dd_ph1 hD)
    · have hcap : ¬ f_capacity ≤ f_entryCount := by rw [h4, hec]; exact nI_ge (by omega) (by omega)
      have hfr : 0 < f_freeRecs := by rw [hF2, ← nI_0]; exact nI_lt (by omega) (by omega)
      have ht0 := (hkN.2.2 t ht5).2
      refine ⟨(f_slots, f_capacity, f_clock, upd b_states k 1, upd b_values k (a_opSecond t), b_reads, upd b_writes (t * 1000 + k) 1, upd b_touched (t * 1000 + k) 1, upd b_beforeStates (t * 1000 + k) (b_states k), upd b_beforeValues (t * 1000 + k) (b_values k), upd a_phaseOf t 1, upd a_outcomeOf t 1, a_used, upd a_opKind t 0, upd a_opFirst t 0, upd a_opSecond t 0, a_beganAt, a_acceptedAt, a_rowCount, a_rowKeys, a_rowValues), ⟨rfl, rfl⟩, fun post h => ?_, fun post h => hX post (fun pp sl => ⟨fun z => absurd z hcap, fun _ _ => ?_, fun _ => hfr⟩)⟩
      · refine yw_execW ht5 hk hf hw h4 h5 (fun _ _ => by rw [hcnt]; omega) ⟨vt, ?_⟩
        rw [ct, ck, hidr]
        refine nm_e (br_t hkd (br_t rfl ⟨vk, br_f (by rw [hkN.1]; decide) ?_⟩))
        refine yw_change ht5 hk (fun z => ⟨vt, ?_⟩) (fun z => absurd ht0 z)
        exact nm_e (yw_368 ht5 h)
      · refine xw_addGhost hS hR e1 hA hka hk (by omega) fun n L' nx pv fr ec pf ps pt fp rt hgt pp sl n48 nL hL' hS' hR' => ?_
        have vn : vp_in (nI n) 49 := vp_in_nI (by omega) (by omega)
        have cn : (nI n).toNatClampNeg = n := nI_clamp (by omega)
        have hnL' : n ∈ L' := (hL' n).mpr (Or.inl rfl)
        have hG1 := dd_add hS hD n48 nL hL' hk hFk (fun e => ek e.symm)
        have hG2 := dd_write hS' hG1 ht5 hnL' hp0 (fun o ho => by rw [pk_us, b_0] at ho; exact absurd ho (by decide))
        have hG3 := dd_own (z := b_states k) (y := b_values k) hS' hG2 ht5 hnL' pk_us (by rw [pk_us, bk_or (by omega)]; simp) (Or.inr ⟨pk_us, by rw [hkN.1]; decide⟩)
        have hG4 := dd_set (ns := 1) (nv := a_opSecond t) hS' hG3 hnL' (Or.inl rfl)
        rw [rg_us, dd_uu (f := b_states)] at hG4
        refine ⟨vn, vn, ?_⟩
        rw [cn, ct]
        refine nm_e ⟨vn, br_f (by rw [pk_us]; decide) ⟨vt, ?_⟩⟩
        refine xw_change ht5 (by omega) (fun _ => xw_69 ht5 (h _ ?_)) (fun z => absurd pk_us z)
        exact zz_in h1 h2 h3 h4 h5 hT0 hS' hR' (dd_ph dd_ph1 hG4)
end
end
section
/-! execution: delete, fetch, seek -/
section
variable {g_slots g_capacity : Int32} {g_clock : Int64} {b_states b_values b_reads b_writes b_touched b_beforeStates b_beforeValues b_phases b_outcomes b_used b_kinds b_firsts b_seconds : Nat → Int32} {b_begun b_accepted : Nat → Int64} {b_rowCounts b_rowKeys b_rowValues : Nat → Int32}
theorem yw_row {post : SY → Prop} {t last x c most n : Nat} (ht : t < 5) (hx : x ≤ last) (hl : last < 1000) (hs : b_states x = 1) (hc : b_rowCounts t = nI c) (hm : c < most) (hm2 : most ≤ 48) (h : wY_execute_298 post (nI t) (nI last) (nI most) n (nI (x + 1)) g_slots g_capacity g_clock b_states b_values b_reads b_writes b_touched b_beforeStates b_beforeValues b_phases b_outcomes b_used b_kinds b_firsts b_seconds b_begun b_accepted (upd b_rowCounts t (nI (c + 1))) (upd b_rowKeys (t * 48 + c) (nI x)) (upd b_rowValues (t * 48 + c) (b_values x))) : wY_execute_298 post (nI t) (nI last) (nI most) (n + 1) (nI x) g_slots g_capacity g_clock b_states b_values b_reads b_writes b_touched b_beforeStates b_beforeValues b_phases b_outcomes b_used b_kinds b_firsts b_seconds b_begun b_accepted b_rowCounts b_rowKeys b_rowValues := by
  refine br_f (nI_nlt hx (by omega)) (br_f (nI_ge (b := 1000) (by omega) (by omega)) ⟨vp_in_nI (by omega) (by omega), ?_⟩)
  rw [nI_clamp (n := x) (by omega), nI_clamp (n := t) (by omega)]
  refine br_t hs ⟨vp_in_nI ht (by omega), br_f ?_ (yw_addRow ht (by omega) hc (by omega) (nm_r (nI_1 x) h))⟩
  rw [hc]
  exact nI_ge hm (by omega)
end
theorem wf_nolive {L : List Nat} {ky : Nat → Nat} {rk nx pv rf : Nat → Int32} {fr ec : Int32} {ph st va rd wr gr ow bs bv Yst Yva Yrd Ywr Yto Ybs Ybv kd se : Nat → Int32} (hS : rg_S L ky rk nx pv rf fr ec) (hD : dd_D L ky ph st va rd wr gr ow bs bv Yst Yva Yrd Ywr Yto Ybs Ybv) {t k e : Nat} {A S B : List Nat} (e1 : L ++ [48] = A ++ (S ++ e :: B)) (hA : ∀ a ∈ A, ky a < k) (hn : ∀ q ∈ S, ¬ sx_stop rk st kd se t q) (k4 : kd t = 4) {z : Nat} (hz : k ≤ z) (hz2 : z < ky e) (hz3 : z < 1000) : Yst z ≠ 1 := by
  intro h1
  obtain ⟨p, hp, ep⟩ := dd_st hS hD hz3 (by rw [h1]; decide)
  have hpE := dd_stE hD hp
  rw [ep] at hpE
  have ho := rg_ord hS (A := A ++ S) (r := e) (B := B) (by rw [e1]; simp)
  have hpR : p ∈ L ++ [48] := by simp [hp]
  rw [e1] at hpR
  simp only [List.mem_append, List.mem_cons] at hpR
  rcases hpR with c | c | c | c
  · have := hA p c; omega
  · exact hn p c (Or.inr (Or.inl ⟨k4, by rw [← hpE.1]; exact h1⟩))
  · rw [c] at ep; omega
  · have := ho.2.1 p c; omega
section
variable {f_END f_NOBODY f_FAN f_FILL f_STRIDE f_DEPTH f_PAGES f_ROWS f_slots f_capacity f_entryCount f_freeRecs f_freePages f_root f_height : Int32} {f_clock : Int64} {a_recKey a_recState a_recValue a_next a_prev a_readers a_writers a_gapReaders a_owner a_baseState a_baseValue a_recFree a_pageFill a_pageSlot a_pageTop a_pageFree a_pathPage a_pathSlot a_phaseOf a_outcomeOf a_used : Nat → Int32} {a_beganAt : Nat → Int64} {a_opKind a_opFirst a_opSecond : Nat → Int32} {a_acceptedAt : Nat → Int64} {a_rowCount a_rowKeys a_rowValues a_reach : Nat → Int32} {b_states b_values b_reads b_writes b_touched b_beforeStates b_beforeValues : Nat → Int32}
theorem zz_exD {s c t k : Nat} {L : List Nat} {ky : Nat → Nat} (h1 : f_slots = nI s) (h2 : 2 ≤ s) (h3 : s ≤ 5) (h4 : f_capacity = nI c) (h5 : c ≤ 48) (hT : dd_T s a_phaseOf a_opKind a_opFirst a_opSecond a_used a_rowCount) (hS : rg_S L ky a_recKey a_next a_prev a_recFree f_freeRecs f_entryCount) (hR : rg_T a_pageFill a_pageSlot a_pageTop a_pageFree f_freePages f_root f_height L ky) (hD : dd_D L ky a_phaseOf a_recState a_recValue a_readers a_writers a_gapReaders a_owner a_baseState a_baseValue b_states b_values b_reads b_writes b_touched b_beforeStates b_beforeValues) (ht : t < s) (p2 : a_phaseOf t = 2) (hub : ∀ o, ¬ wf a_phaseOf b_states a_opKind a_opFirst a_opSecond b_reads b_writes t o) (hf : a_opFirst t = nI k) (hk : k < 1000) (hrc : a_rowCount t = 0) (hkd : a_opKind t = 2) : zz_Ex (f_END, f_NOBODY, f_FAN, f_FILL, f_STRIDE, f_DEPTH, f_PAGES, f_ROWS, f_slots, f_capacity, f_entryCount, f_freeRecs, f_freePages, f_root, f_height, f_clock, a_recKey, a_recState, a_recValue, a_next, a_prev, a_readers, a_writers, a_gapReaders, a_owner, a_baseState, a_baseValue, a_recFree, a_pageFill, a_pageSlot, a_pageTop, a_pageFree, a_pathPage, a_pathSlot, a_phaseOf, a_outcomeOf, a_used, a_beganAt, a_opKind, a_opFirst, a_opSecond, a_acceptedAt, a_rowCount, a_rowKeys, a_rowValues, a_reach) (f_slots, f_capacity, f_clock, b_states, b_values, b_reads, b_writes, b_touched, b_beforeStates, b_beforeValues, a_phaseOf, a_outcomeOf, a_used, a_opKind, a_opFirst, a_opSecond, a_beganAt, a_acceptedAt, a_rowCount, a_rowKeys, a_rowValues) t (upd a_phaseOf t 1) := by
  have ht5 : t < 5 := by omega
  have vt : vp_in (nI t) 5 := vp_in_nI ht5 (by omega)
  have ct : (nI t).toNatClampNeg = t := nI_clamp (by omega)
  have hp0 : a_phaseOf t ≠ 0 := by rw [p2]; decide
  obtain ⟨A, r, B, e1, hA, hr⟩ := rg_find hS (k := k) (by omega)
  have hrR : r ∈ L ++ [48] := by rw [e1]; simp
  have hr49 := rg_le hS hrR
  have vr : vp_in (nI r) 49 := vp_in_nI hr49.1 (by omega)
  have cr : (nI r).toNatClampNeg = r := nI_clamp (by omega)
  have hrk := rg_k hS hrR
  have hFk := rg_toF hS e1 hA hr
  have hidr : upd a_rowCount t 0 = a_rowCount := dd_upd_id hrc
  have hrc0 : a_rowCount t = nI 0 := hrc
  have vk : vp_in (nI k) 1000 := vp_in_nI hk (by omega)
  have ck : (nI k).toNatClampNeg = k := nI_clamp (by omega)
  have hk1 : ¬ a_opKind t = 1 := by rw [hkd]; decide
  have hTx : ∀ rc', (∀ u, u ≠ t → rc' u = a_rowCount u) → (∃ c, c ≤ 48 ∧ rc' t = nI c) → dd_T s (upd a_phaseOf t 1) (upd a_opKind t 0) (upd a_opFirst t 0) (upd a_opSecond t 0) a_used rc' := fun rc' => dd_Tx hT ht
  have hT0 := hTx a_rowCount (fun _ _ => rfl) ⟨0, by omega, hrc0⟩
  have hT1 := hTx (upd a_rowCount t (nI (0 + 1))) (fun u hu => pk_un hu) ⟨1, by omega, pk_us⟩
  by_cases ek : ky r = k
  · have hrL : r ∈ L := rg_L hS hrR (by omega)
    have hE := hD.1 r hrL
    have hst0 : b_states k ≠ 0 := by rw [← ek]; exact (dd_stE hD hrL).2.2
    have h1k : wf_one b_states a_opKind t k := Or.inr ⟨Or.inl hkd, hst0⟩
    have hw : wf_wr b_states a_opKind t k := Or.inr ⟨hkd, hst0⟩
    have hx : ∀ o, bt (a_writers r) o = true → o = t := by
      intro o ho
      apply Classical.byContradiction
      intro hne
      have hpo := hD.2.2.2.1 r hrL o (Or.inr ho)
      have ho5 : o < 5 := by
        rcases (hT o).1 with z | z
        · exact absurd z hpo
        · omega
      refine hub o ((wf_1 h1k hf hk).mpr ⟨p2, fun e => hne e.symm, hpo, Or.inl ?_⟩)
      rw [← ek, (hE.2.2.2.1 o ho5).2.1, ho]
      decide
    have hD1 := dd_write hS hD ht5 hrL hp0 hx
    rw [ek] at hD1
    have hstr : b_states k = a_recState r := by rw [← ek]; exact hE.2.1
    have hvar : b_values k = a_recValue r := by rw [← ek]; exact hE.2.2.1
    have hX : ∀ post : SX → Prop, (∀ pp sl, ((a_recState r = 1 → (a_owner r = -1 → wX_execute_69 post (nI t) 1 f_END f_NOBODY f_FAN f_FILL f_STRIDE f_DEPTH f_PAGES f_ROWS f_slots f_capacity f_entryCount f_freeRecs f_freePages f_root f_height f_clock a_recKey (upd a_recState r 2) (upd a_recValue r 0) a_next a_prev a_readers (upd a_writers r (a_writers r ||| ((1 : Int32) <<< (nI t &&& 31)))) a_gapReaders (upd a_owner r (nI t)) (upd a_baseState r (a_recState r)) (upd a_baseValue r (a_recValue r)) a_recFree a_pageFill a_pageSlot a_pageTop a_pageFree pp sl a_phaseOf a_outcomeOf a_used a_beganAt a_opKind a_opFirst a_opSecond a_acceptedAt (upd a_rowCount t (nI (0 + 1))) (upd a_rowKeys (t * 48 + 0) (nI k)) (upd a_rowValues (t * 48 + 0) (b_values k)) a_reach) ∧ (a_owner r ≠ -1 → wX_execute_69 post (nI t) 1 f_END f_NOBODY f_FAN f_FILL f_STRIDE f_DEPTH f_PAGES f_ROWS f_slots f_capacity f_entryCount f_freeRecs f_freePages f_root f_height f_clock a_recKey (upd a_recState r 2) (upd a_recValue r 0) a_next a_prev a_readers (upd a_writers r (a_writers r ||| ((1 : Int32) <<< (nI t &&& 31)))) a_gapReaders a_owner a_baseState a_baseValue a_recFree a_pageFill a_pageSlot a_pageTop a_pageFree pp sl a_phaseOf a_outcomeOf a_used a_beganAt a_opKind a_opFirst a_opSecond a_acceptedAt (upd a_rowCount t (nI (0 + 1))) (upd a_rowKeys (t * 48 + 0) (nI k)) (upd a_rowValues (t * 48 + 0) (b_values k)) a_reach)) ∧ (a_recState r ≠ 1 → wX_execute_69 post (nI t) 3 f_END f_NOBODY f_FAN f_FILL f_STRIDE f_DEPTH f_PAGES f_ROWS f_slots f_capacity f_entryCount f_freeRecs f_freePages f_root f_height f_clock a_recKey a_recState a_recValue a_next a_prev a_readers (upd a_writers r (a_writers r ||| ((1 : Int32) <<< (nI t &&& 31)))) a_gapReaders a_owner a_baseState a_baseValue a_recFree a_pageFill a_pageSlot a_pageTop a_pageFree pp sl a_phaseOf a_outcomeOf a_used a_beganAt a_opKind a_opFirst a_opSecond a_acceptedAt a_rowCount a_rowKeys a_rowValues a_reach))) → wpX_execute post (f_END, f_NOBODY, f_FAN, f_FILL, f_STRIDE, f_DEPTH, f_PAGES, f_ROWS, f_slots, f_capacity, f_entryCount, f_freeRecs, f_freePages, f_root, f_height, f_clock, a_recKey, a_recState, a_recValue, a_next, a_prev, a_readers, a_writers, a_gapReaders, a_owner, a_baseState, a_baseValue, a_recFree, a_pageFill, a_pageSlot, a_pageTop, a_pageFree, a_pathPage, a_pathSlot, a_phaseOf, a_outcomeOf, a_used, a_beganAt, a_opKind, a_opFirst, a_opSecond, a_acceptedAt, a_rowCount, a_rowKeys, a_rowValues, a_reach) (nI t) := by
      intro post h
      refine ⟨vt, nm_r (e' := 2) (by rw [ct]; exact hkd) (br_f (by decide) (br_t rfl ?_))⟩
      refine ⟨vt, nm_r (e' := nI k) (by rw [ct]; exact hf) (xw_locate hS hR (by omega) e1 hA hr fun pp sl => ⟨vr, ?_⟩)⟩
      rw [cr, hrk, ek]
      refine br_t rfl ⟨vr, vr, nm_e ⟨vr, br_c (fun z => ?_) (fun z => (h pp sl).2 z)⟩⟩
      refine xw_addRow ht5 hr49.1 hrc0 (by omega) ?_
      rw [hrk, ek, ← hvar]
      exact xw_change ht5 hr49.1 (fun z2 => ((h pp sl).1 z).1 z2) (fun z2 => ((h pp sl).1 z).2 z2)
    have hY : ∀ post : SY → Prop, ((b_states k = 1 → (b_touched (t * 1000 + k) = 0 → wY_execute_368 post (nI t) f_slots f_capacity f_clock (upd b_states k 2) (upd b_values k 0) b_reads (upd b_writes (t * 1000 + k) 1) (upd b_touched (t * 1000 + k) 1) (upd b_beforeStates (t * 1000 + k) (b_states k)) (upd b_beforeValues (t * 1000 + k) (b_values k)) a_phaseOf (upd a_outcomeOf t 1) a_used a_opKind a_opFirst a_opSecond a_beganAt a_acceptedAt (upd a_rowCount t (nI (0 + 1))) (upd a_rowKeys (t * 48 + 0) (nI k)) (upd a_rowValues (t * 48 + 0) (b_values k))) ∧ (b_touched (t * 1000 + k) ≠ 0 → wY_execute_368 post (nI t) f_slots f_capacity f_clock (upd b_states k 2) (upd b_values k 0) b_reads (upd b_writes (t * 1000 + k) 1) b_touched b_beforeStates b_beforeValues a_phaseOf (upd a_outcomeOf t 1) a_used a_opKind a_opFirst a_opSecond a_beganAt a_acceptedAt (upd a_rowCount t (nI (0 + 1))) (upd a_rowKeys (t * 48 + 0) (nI k)) (upd a_rowValues (t * 48 + 0) (b_values k)))) ∧ (b_states k ≠ 1 → wY_execute_368 post (nI t) f_slots f_capacity f_clock b_states b_values b_reads (upd b_writes (t * 1000 + k) 1) b_touched b_beforeStates b_beforeValues a_phaseOf (upd a_outcomeOf t 3) a_used a_opKind a_opFirst a_opSecond a_beganAt a_acceptedAt a_rowCount a_rowKeys a_rowValues)) → wpY_execute post (f_slots, f_capacity, f_clock, b_states, b_values, b_reads, b_writes, b_touched, b_beforeStates, b_beforeValues, a_phaseOf, a_outcomeOf, a_used, a_opKind, a_opFirst, a_opSecond, a_beganAt, a_acceptedAt, a_rowCount, a_rowKeys, a_rowValues) (nI t) := by
      intro post h
      refine yw_execW ht5 hk hf hw h4 h5 (fun z => absurd z hk1) ⟨vt, ?_⟩
      rw [ct, ck, hidr]
      refine nm_e (br_f hk1 (br_t hkd ⟨vk, br_c (fun z => ?_) (fun z => ⟨vt, nm_e (h.2 z)⟩)⟩))
      refine yw_addRow ht5 hk hrc0 (by omega) ?_
      exact yw_change ht5 hk (fun z2 => ⟨vt, nm_e ((h.1 z).1 z2)⟩) (fun z2 => ⟨vt, nm_e ((h.1 z).2 z2)⟩)
    by_cases hl : a_recState r = 1
    · have hl' : b_states k = 1 := hstr.trans hl
      have htt := (hE.2.2.2.1 t ht5).2.2.1
      rw [ek] at htt
      have hwt : bt (upd a_writers r (a_writers r ||| ((1 : Int32) <<< (nI t &&& 31))) r) t = true := by
        rw [pk_us, bk_or (by omega)]; simp
      by_cases ho : a_owner r = -1
      · have htt0 : b_touched (t * 1000 + k) = 0 := by
          rw [htt, ho, decide_eq_false (dd_m1 ht5)]; rfl
        have hD2 := dd_own (z := b_states k) (y := b_values k) hS hD1 ht5 hrL ho hwt (Or.inl ⟨hl, hl', hvar⟩)
        have hD3 := dd_set (ns := 2) (nv := 0) hS hD2 hrL (Or.inr ⟨rfl, rfl⟩)
        rw [ek] at hD3
        refine ⟨(f_slots, f_capacity, f_clock, upd b_states k 2, upd b_values k 0, b_reads, upd b_writes (t * 1000 + k) 1, upd b_touched (t * 1000 + k) 1, upd b_beforeStates (t * 1000 + k) (b_states k), upd b_beforeValues (t * 1000 + k) (b_values k), upd a_phaseOf t 1, upd a_outcomeOf t 1, a_used, upd a_opKind t 0, upd a_opFirst t 0, upd a_opSecond t 0, a_beganAt, a_acceptedAt, upd a_rowCount t (nI (0 + 1)), upd a_rowKeys (t * 48 + 0) (nI k), upd a_rowValues (t * 48 + 0) (b_values k)), ⟨rfl, rfl⟩, fun post h => hY post ⟨fun _ => ⟨fun _ => yw_368 ht5 h, fun z => absurd htt0 z⟩, fun z => absurd hl' z⟩, fun post h => hX post (fun pp sl => ⟨fun _ => ⟨fun _ => xw_69 ht5 (h _ ?_), fun z => absurd ho z⟩, fun z => absurd hl z⟩)⟩
        exact zz_in h1 h2 h3 h4 h5 hT1 hS hR (dd_ph dd_ph1 hD3)
      · have htt1 : b_touched (t * 1000 + k) ≠ 0 := by
          rw [htt, dd_b1, decide_eq_true_iff]
          rcases hE.2.2.2.2.1 with z | ⟨u, hu, eu⟩
          · exact absurd z ho
          · have := ((hE.2.2.2.1 u hu).2.2.2 eu).1
            rw [← hx u this]; exact eu
        have hD3 := dd_set (ns := 2) (nv := 0) hS hD1 hrL (Or.inr ⟨rfl, rfl⟩)
        rw [ek] at hD3
        refine ⟨(f_slots, f_capacity, f_clock, upd b_states k 2, upd b_values k 0, b_reads, upd b_writes (t * 1000 + k) 1, b_touched, b_beforeStates, b_beforeValues, upd a_phaseOf t 1, upd a_outcomeOf t 1, a_used, upd a_opKind t 0, upd a_opFirst t 0, upd a_opSecond t 0, a_beganAt, a_acceptedAt, upd a_rowCount t (nI (0 + 1)), upd a_rowKeys (t * 48 + 0) (nI k), upd a_rowValues (t * 48 + 0) (b_values k)), ⟨rfl, rfl⟩, fun post h => hY post ⟨fun _ => ⟨fun z => absurd z htt1, fun _ => yw_368 ht5 h⟩, fun z => absurd hl' z⟩, fun post h => hX post (fun pp sl => ⟨fun _ => ⟨fun z => absurd z ho, fun _ => xw_69 ht5 (h _ ?_)⟩, fun z => absurd hl z⟩)⟩
        exact zz_in h1 h2 h3 h4 h5 hT1 hS hR (dd_ph dd_ph1 hD3)
    · refine ⟨(f_slots, f_capacity, f_clock, b_states, b_values, b_reads, upd b_writes (t * 1000 + k) 1, b_touched, b_beforeStates, b_beforeValues, upd a_phaseOf t 1, upd a_outcomeOf t 3, a_used, upd a_opKind t 0, upd a_opFirst t 0, upd a_opSecond t 0, a_beganAt, a_acceptedAt, a_rowCount, a_rowKeys, a_rowValues), ⟨rfl, rfl⟩, fun post h => hY post ⟨fun z => absurd (hstr.symm.trans z) hl, fun _ => yw_368 ht5 h⟩, fun post h => hX post (fun pp sl => ⟨fun z => absurd z hl, fun _ => xw_69 ht5 (h _ ?_)⟩)⟩
      exact zz_in h1 h2 h3 h4 h5 hT0 hS hR (dd_ph dd_ph1 hD1)
  · have hkN : dd_N b_states b_values b_writes b_touched k := by
      refine hD.2.1 k hk (fun p hp e => ek ?_)
      rcases hFk.2.2 p (by simp [hp]) with z | z
      · omega
      · omega
    have hw : ¬ wf_wr b_states a_opKind t k := by
      rintro (z | z)
      · exact hk1 z
      · exact z.2 hkN.1
    have h1k : ¬ wf_one b_states a_opKind t k := by
      rintro (z | z)
      · exact hk1 z
      · exact z.2 hkN.1
    have hk5 : a_opKind t = 5 → ∃ h, a_opSecond t = nI h ∧ k ≤ h ∧ h < 1000 := fun z => by rw [hkd] at z; exact absurd z (by decide)
    obtain ⟨S, e, B', q1, q2, q3, q4, q5, q6, q7⟩ := rg_str hS a_recState a_opKind a_opSecond t e1 hA hr hk
    obtain ⟨lo, hi, hh, hin, hYr⟩ := yw_execR (g_slots := f_slots) (g_capacity := f_capacity) (g_clock := f_clock) (b_states := b_states) (b_values := b_values) (b_reads := b_reads) (b_writes := b_writes) (b_touched := b_touched) (b_beforeStates := b_beforeStates) (b_beforeValues := b_beforeValues) (b_phases := a_phaseOf) (b_outcomes := a_outcomeOf) (b_used := a_used) (b_begun := a_beganAt) (b_accepted := a_acceptedAt) (b_rowCounts := a_rowCount) (b_rowKeys := a_rowKeys) (b_rowValues := a_rowValues) ht5 hk hf hk5 hw
    refine ⟨(f_slots, f_capacity, f_clock, b_states, b_values, dd_fill t lo hi b_reads, b_writes, b_touched, b_beforeStates, b_beforeValues, upd a_phaseOf t 1, upd a_outcomeOf t 3, a_used, upd a_opKind t 0, upd a_opFirst t 0, upd a_opSecond t 0, a_beganAt, a_acceptedAt, a_rowCount, a_rowKeys, a_rowValues), ⟨rfl, rfl⟩, fun post h => hYr post ⟨vt, ?_⟩, fun post h => ?_⟩
    · rw [ct, ck, hidr]
      exact nm_e (br_f hk1 (br_t hkd ⟨vk, br_f (by rw [hkN.1]; decide) ⟨vt, nm_e (yw_368 ht5 h)⟩⟩))
    · refine ⟨vt, nm_r (e' := 2) (by rw [ct]; exact hkd) (br_f (by decide) (br_t rfl ?_))⟩
      refine ⟨vt, nm_r (e' := nI k) (by rw [ct]; exact hf) (xw_locate hS hR (by omega) e1 hA hr fun pp sl => ⟨vr, ?_⟩)⟩
      rw [cr, hrk]
      have hne : ¬ nI (ky r) = nI k := by rw [nI_eq (by omega) (by omega)]; exact ek
      refine br_f hne (xw_cs hS ht5 q4 q2 q1.symm q3 fun gr rd hgr hrd => xw_69 ht5 (h _ ?_))
      refine zz_in h1 h2 h3 h4 h5 hT0 hS hR (dd_ph dd_ph1 (dd_cs hS hD ht5 hp0 hh (fun x q hx hF => ?_) hgr hrd))
      rw [← hin x]
      exact wf_WI hS hD hk h1k hk5 q2 hA q5 q3 q4 hx hF
theorem zz_exF {s c t k : Nat} {L : List Nat} {ky : Nat → Nat} (h1 : f_slots = nI s) (h2 : 2 ≤ s) (h3 : s ≤ 5) (h4 : f_capacity = nI c) (h5 : c ≤ 48) (hT : dd_T s a_phaseOf a_opKind a_opFirst a_opSecond a_used a_rowCount) (hS : rg_S L ky a_recKey a_next a_prev a_recFree f_freeRecs f_entryCount) (hR : rg_T a_pageFill a_pageSlot a_pageTop a_pageFree f_freePages f_root f_height L ky) (hD : dd_D L ky a_phaseOf a_recState a_recValue a_readers a_writers a_gapReaders a_owner a_baseState a_baseValue b_states b_values b_reads b_writes b_touched b_beforeStates b_beforeValues) (ht : t < s) (p2 : a_phaseOf t = 2) (hf : a_opFirst t = nI k) (hk : k < 1000) (hrc : a_rowCount t = 0) (hkd : a_opKind t = 3) : zz_Ex (f_END, f_NOBODY, f_FAN, f_FILL, f_STRIDE, f_DEPTH, f_PAGES, f_ROWS, f_slots, f_capacity, f_entryCount, f_freeRecs, f_freePages, f_root, f_height, f_clock, a_recKey, a_recState, a_recValue, a_next, a_prev, a_readers, a_writers, a_gapReaders, a_owner, a_baseState, a_baseValue, a_recFree, a_pageFill, a_pageSlot, a_pageTop, a_pageFree, a_pathPage, a_pathSlot, a_phaseOf, a_outcomeOf, a_used, a_beganAt, a_opKind, a_opFirst, a_opSecond, a_acceptedAt, a_rowCount, a_rowKeys, a_rowValues, a_reach) (f_slots, f_capacity, f_clock, b_states, b_values, b_reads, b_writes, b_touched, b_beforeStates, b_beforeValues, a_phaseOf, a_outcomeOf, a_used, a_opKind, a_opFirst, a_opSecond, a_beganAt, a_acceptedAt, a_rowCount, a_rowKeys, a_rowValues) t (upd a_phaseOf t 1) := by
  have ht5 : t < 5 := by omega
  have vt : vp_in (nI t) 5 := vp_in_nI ht5 (by omega)
  have ct : (nI t).toNatClampNeg = t := nI_clamp (by omega)
  have hp0 : a_phaseOf t ≠ 0 := by rw [p2]; decide
  obtain ⟨A, r, B, e1, hA, hr⟩ := rg_find hS (k := k) (by omega)
  have hrR : r ∈ L ++ [48] := by rw [e1]; simp
  have hr49 := rg_le hS hrR
  have vr : vp_in (nI r) 49 := vp_in_nI hr49.1 (by omega)
  have cr : (nI r).toNatClampNeg = r := nI_clamp (by omega)
  have hrk := rg_k hS hrR
  have hFk := rg_toF hS e1 hA hr
  have hidr : upd a_rowCount t 0 = a_rowCount := dd_upd_id hrc
  have hrc0 : a_rowCount t = nI 0 := hrc
  have vk : vp_in (nI k) 1000 := vp_in_nI hk (by omega)
  have ck : (nI k).toNatClampNeg = k := nI_clamp (by omega)
  have hk1 : ¬ a_opKind t = 1 := by rw [hkd]; decide
  have hk2 : ¬ a_opKind t = 2 := by rw [hkd]; decide
  have hk5' : ¬ a_opKind t = 5 := by rw [hkd]; decide
  have hk5 : a_opKind t = 5 → ∃ h, a_opSecond t = nI h ∧ k ≤ h ∧ h < 1000 := fun z => absurd z hk5'
  have hw : ¬ wf_wr b_states a_opKind t k := by
    rintro (z | z)
    · exact hk1 z
    · exact hk2 z.1
  have hTx : ∀ rc', (∀ u, u ≠ t → rc' u = a_rowCount u) → (∃ c, c ≤ 48 ∧ rc' t = nI c) → dd_T s (upd a_phaseOf t 1) (upd a_opKind t 0) (upd a_opFirst t 0) (upd a_opSecond t 0) a_used rc' := fun rc' => dd_Tx hT ht
  have hT0 := hTx a_rowCount (fun _ _ => rfl) ⟨0, by omega, hrc0⟩
  have hT1 := hTx (upd a_rowCount t (nI (0 + 1))) (fun u hu => pk_un hu) ⟨1, by omega, pk_us⟩
  obtain ⟨lo, hi, hh, hin, hYr⟩ := yw_execR (g_slots := f_slots) (g_capacity := f_capacity) (g_clock := f_clock) (b_states := b_states) (b_values := b_values) (b_reads := b_reads) (b_writes := b_writes) (b_touched := b_touched) (b_beforeStates := b_beforeStates) (b_beforeValues := b_beforeValues) (b_phases := a_phaseOf) (b_outcomes := a_outcomeOf) (b_used := a_used) (b_begun := a_beganAt) (b_accepted := a_acceptedAt) (b_rowCounts := a_rowCount) (b_rowKeys := a_rowKeys) (b_rowValues := a_rowValues) ht5 hk hf hk5 hw
  have hYn : ∀ (post : SY → Prop), b_states k ≠ 1 → post (f_slots, f_capacity, f_clock, b_states, b_values, dd_fill t lo hi b_reads, b_writes, b_touched, b_beforeStates, b_beforeValues, upd a_phaseOf t 1, upd a_outcomeOf t 3, a_used, upd a_opKind t 0, upd a_opFirst t 0, upd a_opSecond t 0, a_beganAt, a_acceptedAt, a_rowCount, a_rowKeys, a_rowValues) → wpY_execute post (f_slots, f_capacity, f_clock, b_states, b_values, b_reads, b_writes, b_touched, b_beforeStates, b_beforeValues, a_phaseOf, a_outcomeOf, a_used, a_opKind, a_opFirst, a_opSecond, a_beganAt, a_acceptedAt, a_rowCount, a_rowKeys, a_rowValues) (nI t) := by
    intro post hl h
    refine hYr post ⟨vt, ?_⟩
    rw [ct, hidr]
    refine nm_e (br_f hk1 (br_f hk2 (br_t hkd (br_f hk5' ⟨3, ?_⟩))))
    refine yw_skip (y := k + 1) (Fu := 1) (by omega) (by omega) ht5 hk (fun n hn => yw_298x hk (yw_348 (c := 0) ht5 hrc0 (by omega) h) n (by omega)) 1 k 3 (by omega) (by omega) (fun z z1 z2 => Or.inl ?_)
    rw [show z = k by omega]; exact hl
  by_cases ek : ky r = k
  · have hrL : r ∈ L := rg_L hS hrR (by omega)
    have hE := hD.1 r hrL
    have hst0 : b_states k ≠ 0 := by rw [← ek]; exact (dd_stE hD hrL).2.2
    have h1k : wf_one b_states a_opKind t k := Or.inr ⟨Or.inr hkd, hst0⟩
    have hstr : b_states k = a_recState r := by rw [← ek]; exact hE.2.1
    have hvar : b_values k = a_recValue r := by rw [← ek]; exact hE.2.2.1
    have hone : ∀ x, lo ≤ x ∧ x ≤ hi ↔ x = k := fun x => by
      rw [← hin x]
      constructor
      · rintro (z | z)
        · exact z.2
        · exact absurd h1k z.1
      · intro z; exact Or.inl ⟨h1k, z⟩
    have hkk := (hone k).mpr rfl
    have elo : lo = k := (hone lo).mp ⟨Nat.le_refl _, by omega⟩
    have ehi : hi = k := (hone hi).mp ⟨by omega, Nat.le_refl _⟩
    subst ehi elo
    rw [dd_fillk] at hYr hYn
    have hD1 := dd_fetch hS hD ht5 hrL hp0
    rw [ek] at hD1
    have hX : ∀ post : SX → Prop, (∀ pp sl, ((a_recState r = 1 → wX_execute_69 post (nI t) 2 f_END f_NOBODY f_FAN f_FILL f_STRIDE f_DEPTH f_PAGES f_ROWS f_slots f_capacity f_entryCount f_freeRecs f_freePages f_root f_height f_clock a_recKey a_recState a_recValue a_next a_prev (upd a_readers r (a_readers r ||| ((1 : Int32) <<< (nI t &&& 31)))) a_writers a_gapReaders a_owner a_baseState a_baseValue a_recFree a_pageFill a_pageSlot a_pageTop a_pageFree pp sl a_phaseOf a_outcomeOf a_used a_beganAt a_opKind a_opFirst a_opSecond a_acceptedAt (upd a_rowCount t (nI (0 + 1))) (upd a_rowKeys (t * 48 + 0) (nI lo)) (upd a_rowValues (t * 48 + 0) (b_values lo)) a_reach) ∧ (a_recState r ≠ 1 → wX_execute_69 post (nI t) 3 f_END f_NOBODY f_FAN f_FILL f_STRIDE f_DEPTH f_PAGES f_ROWS f_slots f_capacity f_entryCount f_freeRecs f_freePages f_root f_height f_clock a_recKey a_recState a_recValue a_next a_prev (upd a_readers r (a_readers r ||| ((1 : Int32) <<< (nI t &&& 31)))) a_writers a_gapReaders a_owner a_baseState a_baseValue a_recFree a_pageFill a_pageSlot a_pageTop a_pageFree pp sl a_phaseOf a_outcomeOf a_used a_beganAt a_opKind a_opFirst a_opSecond a_acceptedAt a_rowCount a_rowKeys a_rowValues a_reach))) → wpX_execute post (f_END, f_NOBODY, f_FAN, f_FILL, f_STRIDE, f_DEPTH, f_PAGES, f_ROWS, f_slots, f_capacity, f_entryCount, f_freeRecs, f_freePages, f_root, f_height, f_clock, a_recKey, a_recState, a_recValue, a_next, a_prev, a_readers, a_writers, a_gapReaders, a_owner, a_baseState, a_baseValue, a_recFree, a_pageFill, a_pageSlot, a_pageTop, a_pageFree, a_pathPage, a_pathSlot, a_phaseOf, a_outcomeOf, a_used, a_beganAt, a_opKind, a_opFirst, a_opSecond, a_acceptedAt, a_rowCount, a_rowKeys, a_rowValues, a_reach) (nI t) := by
      intro post h
      refine ⟨vt, nm_r (e' := 3) (by rw [ct]; exact hkd) (br_f (by decide) (br_f (by decide) (br_t rfl ?_)))⟩
      refine ⟨vt, nm_r (e' := nI lo) (by rw [ct]; exact hf) (xw_locate hS hR (by omega) e1 hA hr fun pp sl => ⟨vr, ?_⟩)⟩
      rw [cr, hrk, ek]
      refine br_t rfl ⟨vr, vr, nm_e ⟨vr, br_c (fun z => ?_) (fun z => (h pp sl).2 z)⟩⟩
      refine xw_addRow ht5 hr49.1 hrc0 (by omega) ?_
      rw [hrk, ek, ← hvar]
      exact (h pp sl).1 z
    by_cases hl : a_recState r = 1
    · refine ⟨(f_slots, f_capacity, f_clock, b_states, b_values, upd b_reads (t * 1000 + lo) 1, b_writes, b_touched, b_beforeStates, b_beforeValues, upd a_phaseOf t 1, upd a_outcomeOf t 2, a_used, upd a_opKind t 0, upd a_opFirst t 0, upd a_opSecond t 0, a_beganAt, a_acceptedAt, upd a_rowCount t (nI (0 + 1)), upd a_rowKeys (t * 48 + 0) (nI lo), upd a_rowValues (t * 48 + 0) (b_values lo)), ⟨rfl, rfl⟩, fun post h => hYr post ⟨vt, ?_⟩, fun post h => hX post (fun pp sl => ⟨fun _ => xw_69 ht5 (h _ ?_), fun z => absurd hl z⟩)⟩
      · rw [ct, hidr]
        refine nm_e (br_f hk1 (br_f hk2 (br_t hkd (br_f hk5' ⟨2, ?_⟩))))
        exact yw_row (most := 1) ht5 (Nat.le_refl _) hk (hstr.trans hl) hrc0 (by omega) (by omega) (yw_298x hk (yw_348 (c := 1) ht5 pk_us (by omega) h) 1 (by omega))
      · exact zz_in h1 h2 h3 h4 h5 hT1 hS hR (dd_ph dd_ph1 hD1)
    · refine ⟨(f_slots, f_capacity, f_clock, b_states, b_values, upd b_reads (t * 1000 + lo) 1, b_writes, b_touched, b_beforeStates, b_beforeValues, upd a_phaseOf t 1, upd a_outcomeOf t 3, a_used, upd a_opKind t 0, upd a_opFirst t 0, upd a_opSecond t 0, a_beganAt, a_acceptedAt, a_rowCount, a_rowKeys, a_rowValues), ⟨rfl, rfl⟩, fun post h => hYn post (by rw [hstr]; exact hl) h, fun post h => hX post (fun pp sl => ⟨fun z => absurd z hl, fun _ => xw_69 ht5 (h _ ?_)⟩)⟩
      exact zz_in h1 h2 h3 h4 h5 hT0 hS hR (dd_ph dd_ph1 hD1)
  · have hkN : dd_N b_states b_values b_writes b_touched k := by
      refine hD.2.1 k hk (fun p hp e => ek ?_)
      rcases hFk.2.2 p (by simp [hp]) with z | z
      · omega
      · omega
    have h1k : ¬ wf_one b_states a_opKind t k := by
      rintro (z | z)
      · exact hk1 z
      · exact z.2 hkN.1
    obtain ⟨S, e, B', q1, q2, q3, q4, q5, q6, q7⟩ := rg_str hS a_recState a_opKind a_opSecond t e1 hA hr hk
    refine ⟨(f_slots, f_capacity, f_clock, b_states, b_values, dd_fill t lo hi b_reads, b_writes, b_touched, b_beforeStates, b_beforeValues, upd a_phaseOf t 1, upd a_outcomeOf t 3, a_used, upd a_opKind t 0, upd a_opFirst t 0, upd a_opSecond t 0, a_beganAt, a_acceptedAt, a_rowCount, a_rowKeys, a_rowValues), ⟨rfl, rfl⟩, fun post h => hYn post (by rw [hkN.1]; decide) h, fun post h => ?_⟩
    refine ⟨vt, nm_r (e' := 3) (by rw [ct]; exact hkd) (br_f (by decide) (br_f (by decide) (br_t rfl ?_)))⟩
    refine ⟨vt, nm_r (e' := nI k) (by rw [ct]; exact hf) (xw_locate hS hR (by omega) e1 hA hr fun pp sl => ⟨vr, ?_⟩)⟩
    rw [cr, hrk]
    have hne : ¬ nI (ky r) = nI k := by rw [nI_eq (by omega) (by omega)]; exact ek
    refine br_f hne (xw_cs hS ht5 q4 q2 q1.symm q3 fun gr rd hgr hrd => xw_69 ht5 (h _ ?_))
    refine zz_in h1 h2 h3 h4 h5 hT0 hS hR (dd_ph dd_ph1 (dd_cs hS hD ht5 hp0 hh (fun x q hx hF => ?_) hgr hrd))
    rw [← hin x]
    exact wf_WI hS hD hk h1k hk5 q2 hA q5 q3 q4 hx hF
theorem zz_exS {s c t k : Nat} {L : List Nat} {ky : Nat → Nat} (h1 : f_slots = nI s) (h2 : 2 ≤ s) (h3 : s ≤ 5) (h4 : f_capacity = nI c) (h5 : c ≤ 48) (hT : dd_T s a_phaseOf a_opKind a_opFirst a_opSecond a_used a_rowCount) (hS : rg_S L ky a_recKey a_next a_prev a_recFree f_freeRecs f_entryCount) (hR : rg_T a_pageFill a_pageSlot a_pageTop a_pageFree f_freePages f_root f_height L ky) (hD : dd_D L ky a_phaseOf a_recState a_recValue a_readers a_writers a_gapReaders a_owner a_baseState a_baseValue b_states b_values b_reads b_writes b_touched b_beforeStates b_beforeValues) (ht : t < s) (p2 : a_phaseOf t = 2) (hf : a_opFirst t = nI k) (hk : k < 1000) (hrc : a_rowCount t = 0) (hkd : a_opKind t = 4) : zz_Ex (f_END, f_NOBODY, f_FAN, f_FILL, f_STRIDE, f_DEPTH, f_PAGES, f_ROWS, f_slots, f_capacity, f_entryCount, f_freeRecs, f_freePages, f_root, f_height, f_clock, a_recKey, a_recState, a_recValue, a_next, a_prev, a_readers, a_writers, a_gapReaders, a_owner, a_baseState, a_baseValue, a_recFree, a_pageFill, a_pageSlot, a_pageTop, a_pageFree, a_pathPage, a_pathSlot, a_phaseOf, a_outcomeOf, a_used, a_beganAt, a_opKind, a_opFirst, a_opSecond, a_acceptedAt, a_rowCount, a_rowKeys, a_rowValues, a_reach) (f_slots, f_capacity, f_clock, b_states, b_values, b_reads, b_writes, b_touched, b_beforeStates, b_beforeValues, a_phaseOf, a_outcomeOf, a_used, a_opKind, a_opFirst, a_opSecond, a_beganAt, a_acceptedAt, a_rowCount, a_rowKeys, a_rowValues) t (upd a_phaseOf t 1) := by
  have ht5 : t < 5 := by omega
  have vt : vp_in (nI t) 5 := vp_in_nI ht5 (by omega)
  have ct : (nI t).toNatClampNeg = t := nI_clamp (by omega)
  have hp0 : a_phaseOf t ≠ 0 := by rw [p2]; decide
  obtain ⟨A, r, B, e1, hA, hr⟩ := rg_find hS (k := k) (by omega)
  have hidr : upd a_rowCount t 0 = a_rowCount := dd_upd_id hrc
  have hrc0 : a_rowCount t = nI 0 := hrc
  have hk1 : ¬ a_opKind t = 1 := by rw [hkd]; decide
  have hk2 : ¬ a_opKind t = 2 := by rw [hkd]; decide
  have hk3 : ¬ a_opKind t = 3 := by rw [hkd]; decide
  have hk5' : ¬ a_opKind t = 5 := by rw [hkd]; decide
  have hk5 : a_opKind t = 5 → ∃ h, a_opSecond t = nI h ∧ k ≤ h ∧ h < 1000 := fun z => absurd z hk5'
  have hw : ¬ wf_wr b_states a_opKind t k := by
    rintro (z | z)
    · exact hk1 z
    · exact hk2 z.1
  have h1k : ¬ wf_one b_states a_opKind t k := by
    rintro (z | ⟨z | z, _⟩)
    · exact hk1 z
    · exact hk2 z
    · exact hk3 z
  have hTx : ∀ rc', (∀ u, u ≠ t → rc' u = a_rowCount u) → (∃ c, c ≤ 48 ∧ rc' t = nI c) → dd_T s (upd a_phaseOf t 1) (upd a_opKind t 0) (upd a_opFirst t 0) (upd a_opSecond t 0) a_used rc' := fun rc' => dd_Tx hT ht
  have hT0 := hTx a_rowCount (fun _ _ => rfl) ⟨0, by omega, hrc0⟩
  have hT1 := hTx (upd a_rowCount t (nI (0 + 1))) (fun u hu => pk_un hu) ⟨1, by omega, pk_us⟩
  obtain ⟨lo, hi, hh, hin, hYr⟩ := yw_execR (g_slots := f_slots) (g_capacity := f_capacity) (g_clock := f_clock) (b_states := b_states) (b_values := b_values) (b_reads := b_reads) (b_writes := b_writes) (b_touched := b_touched) (b_beforeStates := b_beforeStates) (b_beforeValues := b_beforeValues) (b_phases := a_phaseOf) (b_outcomes := a_outcomeOf) (b_used := a_used) (b_begun := a_beganAt) (b_accepted := a_acceptedAt) (b_rowCounts := a_rowCount) (b_rowKeys := a_rowKeys) (b_rowValues := a_rowValues) ht5 hk hf hk5 hw
  obtain ⟨S, e, B', q1, q2, q3, q4, q5, q6, q7⟩ := rg_str hS a_recState a_opKind a_opSecond t e1 hA hr hk
  have he49 := rg_le hS q6
  have hke := q5 e (by simp)
  have hek := rg_k hS q6
  have hDc : ∀ gr rd, (∀ j, gr j = if j ∈ S ++ [e] then a_gapReaders j ||| ((1 : Int32) <<< (nI t &&& 31)) else a_gapReaders j) → (∀ j, rd j = if j ∈ S ++ [e] ∧ j ≠ 48 then a_readers j ||| ((1 : Int32) <<< (nI t &&& 31)) else a_readers j) → dd_D L ky (upd a_phaseOf t 1) a_recState a_recValue rd a_writers gr a_owner a_baseState a_baseValue b_states b_values (dd_fill t lo hi b_reads) b_writes b_touched b_beforeStates b_beforeValues := by
    intro gr rd hgr hrd
    refine dd_ph dd_ph1 (dd_cs hS hD ht5 hp0 hh (fun x q hx hF => ?_) hgr hrd)
    rw [← hin x]
    exact wf_WI hS hD hk h1k hk5 q2 hA q5 q3 q4 hx hF
  have hX : ∀ post : SX → Prop, (∀ pp sl gr rd, (∀ j, gr j = if j ∈ S ++ [e] then a_gapReaders j ||| ((1 : Int32) <<< (nI t &&& 31)) else a_gapReaders j) → (∀ j, rd j = if j ∈ S ++ [e] ∧ j ≠ 48 then a_readers j ||| ((1 : Int32) <<< (nI t &&& 31)) else a_readers j) → ((e = 48 → wX_execute_69 post (nI t) 3 f_END f_NOBODY f_FAN f_FILL f_STRIDE f_DEPTH f_PAGES f_ROWS f_slots f_capacity f_entryCount f_freeRecs f_freePages f_root f_height f_clock a_recKey a_recState a_recValue a_next a_prev rd a_writers gr a_owner a_baseState a_baseValue a_recFree a_pageFill a_pageSlot a_pageTop a_pageFree pp sl a_phaseOf a_outcomeOf a_used a_beganAt a_opKind a_opFirst a_opSecond a_acceptedAt a_rowCount a_rowKeys a_rowValues a_reach) ∧ (e ≠ 48 → wX_execute_69 post (nI t) 2 f_END f_NOBODY f_FAN f_FILL f_STRIDE f_DEPTH f_PAGES f_ROWS f_slots f_capacity f_entryCount f_freeRecs f_freePages f_root f_height f_clock a_recKey a_recState a_recValue a_next a_prev rd a_writers gr a_owner a_baseState a_baseValue a_recFree a_pageFill a_pageSlot a_pageTop a_pageFree pp sl a_phaseOf a_outcomeOf a_used a_beganAt a_opKind a_opFirst a_opSecond a_acceptedAt (upd a_rowCount t (nI (0 + 1))) (upd a_rowKeys (t * 48 + 0) (nI (ky e))) (upd a_rowValues (t * 48 + 0) (a_recValue e)) a_reach))) → wpX_execute post (f_END, f_NOBODY, f_FAN, f_FILL, f_STRIDE, f_DEPTH, f_PAGES, f_ROWS, f_slots, f_capacity, f_entryCount, f_freeRecs, f_freePages, f_root, f_height, f_clock, a_recKey, a_recState, a_recValue, a_next, a_prev, a_readers, a_writers, a_gapReaders, a_owner, a_baseState, a_baseValue, a_recFree, a_pageFill, a_pageSlot, a_pageTop, a_pageFree, a_pathPage, a_pathSlot, a_phaseOf, a_outcomeOf, a_used, a_beganAt, a_opKind, a_opFirst, a_opSecond, a_acceptedAt, a_rowCount, a_rowKeys, a_rowValues, a_reach) (nI t) := by
    intro post h
    refine ⟨vt, nm_r (e' := 4) (by rw [ct]; exact hkd) (br_f (by decide) (br_f (by decide) (br_f (by decide) (br_t rfl ⟨vt, ?_⟩))))⟩
    rw [ct, hf]
    refine xw_locate hS hR (by omega) e1 hA hr fun pp sl => xw_cs hS ht5 q4 q2 q1.symm q3 fun gr rd hgr hrd => ?_
    refine pk_eq e 48 (fun z => (h pp sl gr rd hgr hrd).1 z) (fun z => xw_addRow ht5 he49.1 hrc0 (by omega) ?_)
    rw [hek]
    exact (h pp sl gr rd hgr hrd).2 z
  by_cases e48 : e = 48
  · refine ⟨(f_slots, f_capacity, f_clock, b_states, b_values, dd_fill t lo hi b_reads, b_writes, b_touched, b_beforeStates, b_beforeValues, upd a_phaseOf t 1, upd a_outcomeOf t 3, a_used, upd a_opKind t 0, upd a_opFirst t 0, upd a_opSecond t 0, a_beganAt, a_acceptedAt, a_rowCount, a_rowKeys, a_rowValues), ⟨rfl, rfl⟩, fun post h => hYr post ⟨vt, ?_⟩, fun post h => hX post (fun pp sl gr rd hgr hrd => ⟨fun _ => xw_69 ht5 (h _ ?_), fun z => absurd e48 z⟩)⟩
    · rw [ct, hidr]
      refine nm_e (br_f hk1 (br_f hk2 (br_f hk3 (br_t hkd (br_f hk5' ⟨1000 - k + 2, ?_⟩)))))
      refine yw_skip (y := 999 + 1) (last := 999) (Fu := 1) (by omega) (by omega) ht5 (by omega) (fun n hn => yw_298x (by omega) (yw_348 (c := 0) ht5 hrc0 (by omega) h) n (by omega)) (1000 - k) k _ (by omega) (by omega) (fun z z1 z2 => Or.inl ?_)
      have h1000 := hS.2.1
      exact wf_nolive hS hD q2 hA q3 hkd z1 (by rw [e48, h1000]; omega) (by omega)
    · exact zz_in h1 h2 h3 h4 h5 hT0 hS hR (hDc gr rd hgr hrd)
  · have heL : e ∈ L := by
      rcases List.mem_append.mp q6 with z | z
      · exact z
      · rw [List.mem_singleton] at z; exact absurd z e48
    have hel := rg_lt hS heL
    have hE := hD.1 e heL
    have hl : a_recState e = 1 := by
      rcases q4 with z | z | z | z
      · exact absurd z e48
      · exact z.2
      · exact absurd hkd z.1
      · exact absurd hkd z.1
    have hvar := hE.2.2.1
    refine ⟨(f_slots, f_capacity, f_clock, b_states, b_values, dd_fill t lo hi b_reads, b_writes, b_touched, b_beforeStates, b_beforeValues, upd a_phaseOf t 1, upd a_outcomeOf t 2, a_used, upd a_opKind t 0, upd a_opFirst t 0, upd a_opSecond t 0, a_beganAt, a_acceptedAt, upd a_rowCount t (nI (0 + 1)), upd a_rowKeys (t * 48 + 0) (nI (ky e)), upd a_rowValues (t * 48 + 0) (a_recValue e)), ⟨rfl, rfl⟩, fun post h => hYr post ⟨vt, ?_⟩, fun post h => hX post (fun pp sl gr rd hgr hrd => ⟨fun z => absurd z e48, fun _ => xw_69 ht5 (h _ ?_)⟩)⟩
    · rw [ct, hidr]
      refine nm_e (br_f hk1 (br_f hk2 (br_f hk3 (br_t hkd (br_f hk5' ⟨1000 + 1000 + 3, ?_⟩)))))
      refine yw_skip (y := ky e) (last := 999) (Fu := 1001) (by omega) (by omega) ht5 (by omega) (fun n hn => ?_) (ky e - k) k _ (by omega) (by omega) (fun z z1 z2 => Or.inl (wf_nolive hS hD q2 hA q3 hkd z1 z2 (by omega)))
      obtain ⟨n, rfl⟩ : ∃ m, n = m + 1 := ⟨n - 1, by omega⟩
      refine yw_row (most := 1) ht5 (by omega) (by omega) (hE.2.1.trans hl) hrc0 (by omega) (by omega) ?_
      rw [hvar]
      refine yw_skip (y := 999 + 1) (last := 999) (Fu := 0) (by omega) (by omega) ht5 (by omega) (fun n hn => yw_298x (by omega) (yw_348 (c := 1) ht5 pk_us (by omega) h) n (by omega)) (999 - ky e) (ky e + 1) _ (by omega) (by omega) (fun z z1 z2 => Or.inr ?_)
      rw [pk_us]
      exact nI_le (a := 1) (by omega) (by omega)
    · exact zz_in h1 h2 h3 h4 h5 hT1 hS hR (hDc gr rd hgr hrd)
end
end
section
/-! execution: scan -/
section
variable {f_END f_NOBODY f_FAN f_FILL f_STRIDE f_DEPTH f_PAGES f_ROWS f_slots f_capacity f_entryCount f_freeRecs f_freePages f_root f_height : Int32} {f_clock : Int64} {a_recKey a_recState a_recValue a_next a_prev a_readers a_writers a_gapReaders a_owner a_baseState a_baseValue a_recFree a_pageFill a_pageSlot a_pageTop a_pageFree a_pathPage a_pathSlot a_phaseOf a_outcomeOf a_used : Nat → Int32} {a_beganAt : Nat → Int64} {a_opKind a_opFirst a_opSecond : Nat → Int32} {a_acceptedAt : Nat → Int64} {a_rowCount a_rowKeys a_rowValues a_reach : Nat → Int32}
theorem xw_80 {post : Int32 → SX → Prop} {t c : Nat} (ht : t < 5) (hc : a_rowCount t = nI c) (hc2 : c ≤ 48) (h : post (if c = 0 then 3 else 2) (f_END, f_NOBODY, f_FAN, f_FILL, f_STRIDE, f_DEPTH, f_PAGES, f_ROWS, f_slots, f_capacity, f_entryCount, f_freeRecs, f_freePages, f_root, f_height, f_clock, a_recKey, a_recState, a_recValue, a_next, a_prev, a_readers, a_writers, a_gapReaders, a_owner, a_baseState, a_baseValue, a_recFree, a_pageFill, a_pageSlot, a_pageTop, a_pageFree, a_pathPage, a_pathSlot, a_phaseOf, a_outcomeOf, a_used, a_beganAt, a_opKind, a_opFirst, a_opSecond, a_acceptedAt, a_rowCount, a_rowKeys, a_rowValues, a_reach)) : wX_executeScan_80 post (nI t) f_END f_NOBODY f_FAN f_FILL f_STRIDE f_DEPTH f_PAGES f_ROWS f_slots f_capacity f_entryCount f_freeRecs f_freePages f_root f_height f_clock a_recKey a_recState a_recValue a_next a_prev a_readers a_writers a_gapReaders a_owner a_baseState a_baseValue a_recFree a_pageFill a_pageSlot a_pageTop a_pageFree a_pathPage a_pathSlot a_phaseOf a_outcomeOf a_used a_beganAt a_opKind a_opFirst a_opSecond a_acceptedAt a_rowCount a_rowKeys a_rowValues a_reach := by
  have vt : vp_in (nI t) 5 := vp_in_nI ht (by omega)
  have ct : (nI t).toNatClampNeg = t := nI_clamp (by omega)
  refine ⟨vt, ?_⟩
  rw [ct, hc]
  refine pk_le c 0 (fun z => ?_) (fun z => ?_)
  · rw [if_pos (by omega)] at h; exact h
  · rw [if_neg (by omega)] at h; exact h
end
section
variable {f_END f_NOBODY f_FAN f_FILL f_STRIDE f_DEPTH f_PAGES f_ROWS f_slots f_capacity f_entryCount f_freeRecs f_freePages f_root f_height : Int32} {f_clock : Int64} {a_recKey a_recState a_recValue a_next a_prev a_readers a_writers a_gapReaders a_owner a_baseState a_baseValue a_recFree a_pageFill a_pageSlot a_pageTop a_pageFree a_pathPage a_pathSlot a_phaseOf a_outcomeOf a_used : Nat → Int32} {a_beganAt : Nat → Int64} {a_opKind a_opFirst a_opSecond : Nat → Int32} {a_acceptedAt : Nat → Int64} {a_rowCount a_rowKeys a_rowValues a_reach : Nat → Int32} {b_states b_values b_reads b_writes b_touched b_beforeStates b_beforeValues : Nat → Int32}
theorem zz_scanL {t h : Nat} {L : List Nat} {ky : Nat → Nat} (hS : rg_S L ky a_recKey a_next a_prev a_recFree f_freeRecs f_entryCount) (hD : dd_D L ky a_phaseOf a_recState a_recValue a_readers a_writers a_gapReaders a_owner a_baseState a_baseValue b_states b_values b_reads b_writes b_touched b_beforeStates b_beforeValues) (ht : t < 5) (hh : h < 1000) : ∀ (l A : List Nat) (q i x c : Nat) (a_rowCount a_rowKeys a_rowValues : Nat → Int32), L ++ [48] = A ++ q :: l → (∀ a ∈ A, ky a < x) → x ≤ ky q → a_rowCount t = nI c → c + l.length ≤ 48 → i + l.length ≤ 48 → ∃ rc rk rv c', rc t = nI c' ∧ c' ≤ 48 ∧ (∀ u, u ≠ t → rc u = a_rowCount u) ∧
    (∀ (post : Int32 → SX → Prop) (n : Nat) (a_gapReaders a_readers a_pathPage a_pathSlot : Nat → Int32), l.length < n → wX_executeScan_80 post (nI t) f_END f_NOBODY f_FAN f_FILL f_STRIDE f_DEPTH f_PAGES f_ROWS f_slots f_capacity f_entryCount f_freeRecs f_freePages f_root f_height f_clock a_recKey a_recState a_recValue a_next a_prev a_readers a_writers a_gapReaders a_owner a_baseState a_baseValue a_recFree a_pageFill a_pageSlot a_pageTop a_pageFree a_pathPage a_pathSlot a_phaseOf a_outcomeOf a_used a_beganAt a_opKind a_opFirst a_opSecond a_acceptedAt rc rk rv a_reach → wX_executeScan_28 post (nI t) (nI h) n (nI q) (nI i) f_END f_NOBODY f_FAN f_FILL f_STRIDE f_DEPTH f_PAGES f_ROWS f_slots f_capacity f_entryCount f_freeRecs f_freePages f_root f_height f_clock a_recKey a_recState a_recValue a_next a_prev a_readers a_writers a_gapReaders a_owner a_baseState a_baseValue a_recFree a_pageFill a_pageSlot a_pageTop a_pageFree a_pathPage a_pathSlot a_phaseOf a_outcomeOf a_used a_beganAt a_opKind a_opFirst a_opSecond a_acceptedAt a_rowCount a_rowKeys a_rowValues a_reach) ∧
    (∀ (post : SY → Prop) (n : Nat) (b_reads : Nat → Int32), h + 1 - x < n → wY_execute_348 post (nI t) f_slots f_capacity f_clock b_states b_values b_reads b_writes b_touched b_beforeStates b_beforeValues a_phaseOf a_outcomeOf a_used a_opKind a_opFirst a_opSecond a_beganAt a_acceptedAt rc rk rv → wY_execute_298 post (nI t) (nI h) (nI 48) n (nI x) f_slots f_capacity f_clock b_states b_values b_reads b_writes b_touched b_beforeStates b_beforeValues a_phaseOf a_outcomeOf a_used a_opKind a_opFirst a_opSecond a_beganAt a_acceptedAt a_rowCount a_rowKeys a_rowValues)
  | l, A, q, i, x, c, a_rowCount, a_rowKeys, a_rowValues, e1, hA, hx, hc, hcl, hil => by
    have hqR : q ∈ L ++ [48] := by rw [e1]; simp
    have hq49 := rg_le hS hqR
    have vq : vp_in (nI q) 49 := vp_in_nI hq49.1 (by omega)
    have cq : (nI q).toNatClampNeg = q := nI_clamp (by omega)
    have ho := rg_ord hS e1
    have habs : ∀ z, x ≤ z → z < ky q → b_states z ≠ 1 := by
      intro z z1 z2 z3
      obtain ⟨p, hp, ep⟩ := dd_st hS hD (by omega) (by rw [z3]; decide : b_states z ≠ 0)
      have hpR : p ∈ L ++ [48] := by simp [hp]
      rw [e1] at hpR
      simp only [List.mem_append, List.mem_cons] at hpR
      rcases hpR with d | d | d
      · have := hA p d; omega
      · rw [d] at ep; omega
      · have := ho.2.1 p d; omega
    have yend : h < ky q → ∀ (post : SY → Prop) (n : Nat) (b_reads : Nat → Int32), h + 1 - x < n → wY_execute_348 post (nI t) f_slots f_capacity f_clock b_states b_values b_reads b_writes b_touched b_beforeStates b_beforeValues a_phaseOf a_outcomeOf a_used a_opKind a_opFirst a_opSecond a_beganAt a_acceptedAt a_rowCount a_rowKeys a_rowValues → wY_execute_298 post (nI t) (nI h) (nI 48) n (nI x) f_slots f_capacity f_clock b_states b_values b_reads b_writes b_touched b_beforeStates b_beforeValues a_phaseOf a_outcomeOf a_used a_opKind a_opFirst a_opSecond a_beganAt a_acceptedAt a_rowCount a_rowKeys a_rowValues := by
      intro hlt post n b_reads hn hp
      by_cases hxh : x ≤ h + 1
      · exact yw_skip (y := h + 1) (Fu := 0) (by omega) (by omega) ht hh (fun n hn => yw_298x hh hp n hn) (h + 1 - x) x n (by omega) (by omega) (fun z z1 z2 => Or.inl (habs z z1 (by omega)))
      · obtain ⟨n, rfl⟩ : ∃ m, n = m + 1 := ⟨n - 1, by omega⟩
        exact br_t (nI_lt (by omega) (by omega)) hp
    have hc48 : c ≤ 48 := by omega
    by_cases h48 : q = 48
    · subst h48
      refine ⟨a_rowCount, a_rowKeys, a_rowValues, c, hc, hc48, fun _ _ => rfl, fun post n a_gapReaders a_readers a_pathPage a_pathSlot hn hp => ?_, yend (by have := hS.2.1; omega)⟩
      obtain ⟨n, rfl⟩ : ∃ m, n = m + 1 := ⟨n - 1, by omega⟩
      exact br_c (fun _ => hp) (fun _ => br_t rfl hp)
    · have hqL : q ∈ L := by
        rcases List.mem_append.mp hqR with z | z
        · exact z
        · rw [List.mem_singleton] at z; exact absurd z h48
      have hql := rg_lt hS hqL
      have hE := hD.1 q hqL
      have hrk := rg_k hS hqR
      have hne : ¬ nI q = 48 := by
        rw [show (48 : Int32) = nI 48 from rfl, nI_eq (by omega) (by omega)]; exact h48
      match l, e1, hcl, hil, ho with
      | [], e1, _, _, _ =>
        exfalso
        have := (List.append_inj' e1 rfl).2
        simp at this
        omega
      | q' :: l', e1, hcl, hil, ho =>
        rw [List.length_cons] at hcl hil
        have hnx : a_next q = nI q' := (rg_next hS e1).1
        have hqq := ho.2.1 q' (by simp)
        have hi48 : ¬ (48 : Int32) ≤ nI i := nI_ge (b := 48) (by omega) (by omega)
        by_cases hkh : h < ky q
        · refine ⟨a_rowCount, a_rowKeys, a_rowValues, c, hc, hc48, fun _ _ => rfl, fun post n a_gapReaders a_readers a_pathPage a_pathSlot hn hp => ?_, yend hkh⟩
          obtain ⟨n, rfl⟩ : ∃ m, n = m + 1 := ⟨n - 1, by omega⟩
          refine br_f hi48 (br_f hne ⟨vq, ?_⟩)
          rw [cq, hrk]
          exact br_t (nI_lt hkh (by omega)) hp
        · have hnlt : ¬ nI h < nI (ky q) := nI_nlt (by omega) (by omega)
          by_cases hl : a_recState q = 1
          · obtain ⟨rc, rk, rv, c', g1, g2, g3, g4, g5⟩ := zz_scanL hS hD ht hh l' (A ++ [q]) q' (i + 1) (ky q + 1) (c + 1) (upd a_rowCount t (nI (c + 1))) (upd a_rowKeys (t * 48 + c) (nI (ky q))) (upd a_rowValues (t * 48 + c) (a_recValue q)) (by rw [e1]; simp) (fun a ha => by
              simp only [List.mem_append, List.mem_cons] at ha
              rcases ha with z | z | z
              · have := ho.1 a z; omega
              · rw [z]; omega
              · simp at z) (by omega) pk_us (by omega) (by omega)
            refine ⟨rc, rk, rv, c', g1, g2, fun u hu => by rw [g3 u hu, pk_un hu], fun post n a_gapReaders a_readers a_pathPage a_pathSlot hn hp => ?_, fun post n b_reads hn hp => ?_⟩
            · obtain ⟨n, rfl⟩ : ∃ m, n = m + 1 := ⟨n - 1, by omega⟩
              rw [List.length_cons] at hn
              refine br_f hi48 (br_f hne ⟨vq, ?_⟩)
              rw [cq, hrk]
              refine br_f hnlt ⟨vq, br_t hl (xw_addRow ht hq49.1 hc (by omega) ⟨vq, ?_⟩)⟩
              rw [hrk, hnx]
              exact nm_e (nm_r (nI_1 i) (g4 post n _ _ _ _ (by omega) hp))
            · refine yw_skip (y := ky q) (Fu := h + 1 - ky q) (by omega) (by omega) ht hh (fun n hn => ?_) (ky q - x) x n (by omega) (by omega) (fun z z1 z2 => Or.inl (habs z z1 z2))
              obtain ⟨n, rfl⟩ : ∃ m, n = m + 1 := ⟨n - 1, by omega⟩
              refine yw_row (most := 48) ht (by omega) hh (hE.2.1.trans hl) hc (by omega) (by omega) ?_
              rw [hE.2.2.1]
              exact g5 post n _ (by omega) hp
          · obtain ⟨rc, rk, rv, c', g1, g2, g3, g4, g5⟩ := zz_scanL hS hD ht hh l' (A ++ [q]) q' (i + 1) (ky q + 1) c a_rowCount a_rowKeys a_rowValues (by rw [e1]; simp) (fun a ha => by
              simp only [List.mem_append, List.mem_cons] at ha
              rcases ha with z | z | z
              · have := ho.1 a z; omega
              · rw [z]; omega
              · simp at z) (by omega) hc (by omega) (by omega)
            refine ⟨rc, rk, rv, c', g1, g2, g3, fun post n a_gapReaders a_readers a_pathPage a_pathSlot hn hp => ?_, fun post n b_reads hn hp => ?_⟩
            · obtain ⟨n, rfl⟩ : ∃ m, n = m + 1 := ⟨n - 1, by omega⟩
              rw [List.length_cons] at hn
              refine br_f hi48 (br_f hne ⟨vq, ?_⟩)
              rw [cq, hrk, hnx]
              exact br_f hnlt ⟨vq, br_f hl ⟨vq, nm_e (nm_r (nI_1 i) (g4 post n _ _ _ _ (by omega) hp))⟩⟩
            · refine yw_skip (y := ky q + 1) (Fu := h + 1 - (ky q + 1)) (by omega) (by omega) ht hh (fun n hn => g5 post n _ (by omega) hp) (ky q + 1 - x) x n (by omega) (by omega) (fun z z1 z2 => Or.inl ?_)
              by_cases ez : z = ky q
              · rw [ez, hE.2.1]; exact hl
              · exact habs z z1 (by omega)
  termination_by l => l.length
  decreasing_by all_goals simp_wf <;> omega
theorem zz_exC {s c t k h : Nat} {L : List Nat} {ky : Nat → Nat} (h1 : f_slots = nI s) (h2 : 2 ≤ s) (h3 : s ≤ 5) (h4 : f_capacity = nI c) (h5 : c ≤ 48) (hT : dd_T s a_phaseOf a_opKind a_opFirst a_opSecond a_used a_rowCount) (hS : rg_S L ky a_recKey a_next a_prev a_recFree f_freeRecs f_entryCount) (hR : rg_T a_pageFill a_pageSlot a_pageTop a_pageFree f_freePages f_root f_height L ky) (hD : dd_D L ky a_phaseOf a_recState a_recValue a_readers a_writers a_gapReaders a_owner a_baseState a_baseValue b_states b_values b_reads b_writes b_touched b_beforeStates b_beforeValues) (ht : t < s) (p2 : a_phaseOf t = 2) (hf : a_opFirst t = nI k) (hk : k < 1000) (hrc : a_rowCount t = 0) (hkd : a_opKind t = 5) (hse : a_opSecond t = nI h) (hkh : k ≤ h) (hh : h < 1000) : zz_Ex (f_END, f_NOBODY, f_FAN, f_FILL, f_STRIDE, f_DEPTH, f_PAGES, f_ROWS, f_slots, f_capacity, f_entryCount, f_freeRecs, f_freePages, f_root, f_height, f_clock, a_recKey, a_recState, a_recValue, a_next, a_prev, a_readers, a_writers, a_gapReaders, a_owner, a_baseState, a_baseValue, a_recFree, a_pageFill, a_pageSlot, a_pageTop, a_pageFree, a_pathPage, a_pathSlot, a_phaseOf, a_outcomeOf, a_used, a_beganAt, a_opKind, a_opFirst, a_opSecond, a_acceptedAt, a_rowCount, a_rowKeys, a_rowValues, a_reach) (f_slots, f_capacity, f_clock, b_states, b_values, b_reads, b_writes, b_touched, b_beforeStates, b_beforeValues, a_phaseOf, a_outcomeOf, a_used, a_opKind, a_opFirst, a_opSecond, a_beganAt, a_acceptedAt, a_rowCount, a_rowKeys, a_rowValues) t (upd a_phaseOf t 1) := by
  have ht5 : t < 5 := by omega
  have vt : vp_in (nI t) 5 := vp_in_nI ht5 (by omega)
  have ct : (nI t).toNatClampNeg = t := nI_clamp (by omega)
  have hp0 : a_phaseOf t ≠ 0 := by rw [p2]; decide
  obtain ⟨A, r, B, e1, hA, hr⟩ := rg_find hS (k := k) (by omega)
  have hidr : upd a_rowCount t 0 = a_rowCount := dd_upd_id hrc
  have hrc0 : a_rowCount t = nI 0 := hrc
  have hk1 : ¬ a_opKind t = 1 := by rw [hkd]; decide
  have hk2 : ¬ a_opKind t = 2 := by rw [hkd]; decide
  have hk3 : ¬ a_opKind t = 3 := by rw [hkd]; decide
  have hk4 : ¬ a_opKind t = 4 := by rw [hkd]; decide
  have hk5 : a_opKind t = 5 → ∃ h, a_opSecond t = nI h ∧ k ≤ h ∧ h < 1000 := fun z => ⟨h, hse, hkh, hh⟩
  have hw : ¬ wf_wr b_states a_opKind t k := by
    rintro (z | z)
    · exact hk1 z
    · exact hk2 z.1
  have h1k : ¬ wf_one b_states a_opKind t k := by
    rintro (z | ⟨z | z, _⟩)
    · exact hk1 z
    · exact hk2 z
    · exact hk3 z
  obtain ⟨lo, hi, hh2, hin, hYr⟩ := yw_execR (g_slots := f_slots) (g_capacity := f_capacity) (g_clock := f_clock) (b_states := b_states) (b_values := b_values) (b_reads := b_reads) (b_writes := b_writes) (b_touched := b_touched) (b_beforeStates := b_beforeStates) (b_beforeValues := b_beforeValues) (b_phases := a_phaseOf) (b_outcomes := a_outcomeOf) (b_used := a_used) (b_begun := a_beganAt) (b_accepted := a_acceptedAt) (b_rowCounts := a_rowCount) (b_rowKeys := a_rowKeys) (b_rowValues := a_rowValues) ht5 hk hf hk5 hw
  obtain ⟨S, e, B', q1, q2, q3, q4, q5, q6, q7⟩ := rg_str hS a_recState a_opKind a_opSecond t e1 hA hr hk
  have hlL := (rg_len hS).1
  have hBl : B.length ≤ 48 := by
    have := congrArg List.length e1
    simp at this
    omega
  obtain ⟨rc, rk, rv, c', g1, g2, g3, g4, g5⟩ := zz_scanL (f_END := f_END) (f_NOBODY := f_NOBODY) (f_FAN := f_FAN) (f_FILL := f_FILL) (f_STRIDE := f_STRIDE) (f_DEPTH := f_DEPTH) (f_PAGES := f_PAGES) (f_ROWS := f_ROWS) (f_slots := f_slots) (f_capacity := f_capacity) (f_freePages := f_freePages) (f_root := f_root) (f_height := f_height) (f_clock := f_clock) (a_pageFill := a_pageFill) (a_pageSlot := a_pageSlot) (a_pageTop := a_pageTop) (a_pageFree := a_pageFree) (a_outcomeOf := a_outcomeOf) (a_used := a_used) (a_beganAt := a_beganAt) (a_opKind := a_opKind) (a_opFirst := a_opFirst) (a_opSecond := a_opSecond) (a_acceptedAt := a_acceptedAt) (a_reach := a_reach) hS hD ht5 hh B A r 0 k 0 a_rowCount a_rowKeys a_rowValues e1 hA hr hrc0 (by omega) (by omega)
  have hT1 := dd_Tx (t := t) (rc' := rc) hT ht g3 ⟨c', g2, g1⟩
  refine ⟨(f_slots, f_capacity, f_clock, b_states, b_values, dd_fill t lo hi b_reads, b_writes, b_touched, b_beforeStates, b_beforeValues, upd a_phaseOf t 1, upd a_outcomeOf t (if c' = 0 then 3 else 2), a_used, upd a_opKind t 0, upd a_opFirst t 0, upd a_opSecond t 0, a_beganAt, a_acceptedAt, rc, rk, rv), ⟨rfl, rfl⟩, fun post hp => hYr post ⟨vt, ?_⟩, fun post hp => ?_⟩
  · rw [ct, hidr, hse]
    exact nm_e (br_f hk1 (br_f hk2 (br_f hk3 (br_f hk4 (br_t hkd ⟨h + 1 - k + 1, g5 post _ _ (by omega) (yw_348 ht5 g1 g2 hp)⟩)))))
  · refine ⟨vt, nm_r (e' := 5) (by rw [ct]; exact hkd) (br_f (by decide) (br_f (by decide) (br_f (by decide) (br_f (by decide) ⟨vt, ?_⟩))))⟩
    rw [ct, hf]
    refine nm_r hse ⟨vt, xw_locate hS hR (by omega) e1 hA hr fun pp sl => xw_cs hS ht5 q4 q2 q1.symm q3 fun gr rd hgr hrd => ⟨B.length + 1, g4 _ _ _ _ _ _ (by omega) (xw_80 ht5 g1 g2 (xw_69 ht5 (hp _ ?_)))⟩⟩
    refine zz_in h1 h2 h3 h4 h5 hT1 hS hR (dd_ph dd_ph1 (dd_cs hS hD ht5 hp0 hh2 (fun x q hx hF => ?_) hgr hrd))
    rw [← hin x]
    exact wf_WI hS hD hk h1k hk5 q2 hA q5 q3 q4 hx hF
end
/-- execution, all kinds -/
theorem zz_exec {u : SX} {v : SY} {t : Nat} (I : zz_R u v) : ∀ (hp : zz_ph v t = 2) (hub : match v with | (g_slots, g_capacity, g_clock, b_states, b_values, b_reads, b_writes, b_touched, b_beforeStates, b_beforeValues, b_phases, b_outcomes, b_used, b_kinds, b_firsts, b_seconds, b_begun, b_accepted, b_rowCounts, b_rowKeys, b_rowValues) => ∀ o, ¬ wf b_phases b_states b_kinds b_firsts b_seconds b_reads b_writes t o), zz_Ex u v t (upd (zz_ph v) t 1) := by
  refine zz_el (P := fun u v => ∀ (hp : zz_ph v t = 2) (hub : match v with | (g_slots, g_capacity, g_clock, b_states, b_values, b_reads, b_writes, b_touched, b_beforeStates, b_beforeValues, b_phases, b_outcomes, b_used, b_kinds, b_firsts, b_seconds, b_begun, b_accepted, b_rowCounts, b_rowKeys, b_rowValues) => ∀ o, ¬ wf b_phases b_states b_kinds b_firsts b_seconds b_reads b_writes t o), zz_Ex u v t (upd (zz_ph v) t 1)) ?_ I
  intro f_END f_NOBODY f_FAN f_FILL f_STRIDE f_DEPTH f_PAGES f_ROWS f_slots f_capacity f_entryCount f_freeRecs f_freePages f_root f_height f_clock a_recKey a_recState a_recValue a_next a_prev a_readers a_writers a_gapReaders a_owner a_baseState a_baseValue a_recFree a_pageFill a_pageSlot a_pageTop a_pageFree a_pathPage a_pathSlot a_phaseOf a_outcomeOf a_used a_beganAt a_opKind a_opFirst a_opSecond a_acceptedAt a_rowCount a_rowKeys a_rowValues a_reach b_states b_values b_reads b_writes b_touched b_beforeStates b_beforeValues s c L ky h1 h2 h3 h4 h5 hT hS hR hD hp hub
  have p2 : a_phaseOf t = 2 := hp
  have hub' : ∀ o, ¬ wf a_phaseOf b_states a_opKind a_opFirst a_opSecond b_reads b_writes t o := hub
  have ht : t < s := by
    rcases (hT t).1 with z | z
    · rw [p2] at z; exact absurd z (by decide)
    · exact z.1
  obtain ⟨hrc, k, hk, hf, hkd⟩ := (hT t).2.2.1 p2
  rcases hkd with e | e | e | e | ⟨e, h, g1, g2, g3⟩
  · exact zz_exI h1 h2 h3 h4 h5 hT hS hR hD ht p2 hub' hf hk hrc e
  · exact zz_exD h1 h2 h3 h4 h5 hT hS hR hD ht p2 hub' hf hk hrc e
  · exact zz_exF h1 h2 h3 h4 h5 hT hS hR hD ht p2 hf hk hrc e
  · exact zz_exS h1 h2 h3 h4 h5 hT hS hR hD ht p2 hf hk hrc e
  · exact zz_exC h1 h2 h3 h4 h5 hT hS hR hD ht p2 hf hk hrc e g1 g2 g3
end
section
/-! settling -/
def zz_xS (post : SX → Prop) (n : Nat) (x1 : Int32) (u : SX) : Prop := match u with
  | (f_END, f_NOBODY, f_FAN, f_FILL, f_STRIDE, f_DEPTH, f_PAGES, f_ROWS, f_slots, f_capacity, f_entryCount, f_freeRecs, f_freePages, f_root, f_height, f_clock, a_recKey, a_recState, a_recValue, a_next, a_prev, a_readers, a_writers, a_gapReaders, a_owner, a_baseState, a_baseValue, a_recFree, a_pageFill, a_pageSlot, a_pageTop, a_pageFree, a_pathPage, a_pathSlot, a_phaseOf, a_outcomeOf, a_used, a_beganAt, a_opKind, a_opFirst, a_opSecond, a_acceptedAt, a_rowCount, a_rowKeys, a_rowValues, a_reach) => wX_settle_2 post n x1 f_END f_NOBODY f_FAN f_FILL f_STRIDE f_DEPTH f_PAGES f_ROWS f_slots f_capacity f_entryCount f_freeRecs f_freePages f_root f_height f_clock a_recKey a_recState a_recValue a_next a_prev a_readers a_writers a_gapReaders a_owner a_baseState a_baseValue a_recFree a_pageFill a_pageSlot a_pageTop a_pageFree a_pathPage a_pathSlot a_phaseOf a_outcomeOf a_used a_beganAt a_opKind a_opFirst a_opSecond a_acceptedAt a_rowCount a_rowKeys a_rowValues a_reach
def zz_yS (post : SY → Prop) (n : Nat) (x1 : Int32) (v : SY) : Prop := match v with
  | (g_slots, g_capacity, g_clock, b_states, b_values, b_reads, b_writes, b_touched, b_beforeStates, b_beforeValues, b_phases, b_outcomes, b_used, b_kinds, b_firsts, b_seconds, b_begun, b_accepted, b_rowCounts, b_rowKeys, b_rowValues) => wY_settle_2 post n x1 g_slots g_capacity g_clock b_states b_values b_reads b_writes b_touched b_beforeStates b_beforeValues b_phases b_outcomes b_used b_kinds b_firsts b_seconds b_begun b_accepted b_rowCounts b_rowKeys b_rowValues
def zz_W (s : Nat) (ph : Nat → Int32) : Nat := (List.range s).countP (fun t => decide (ph t = 2))
theorem zz_Wd {s t : Nat} {ph : Nat → Int32} {x : Int32} (ht : t < s) (hp : ph t = 2) (hx : x ≠ 2) : zz_W s (upd ph t x) < zz_W s ph := by
  refine cy_cnt' (fun a _ ha => ?_) ⟨t, List.mem_range.mpr ht, decide_eq_true hp, decide_eq_false (by rw [pk_us]; exact hx)⟩
  have h := of_decide_eq_true ha
  by_cases e : a = t
  · subst e; rw [pk_us] at h; exact absurd h hx
  · rw [pk_un e] at h; exact decide_eq_true h
theorem zz_Wle (s : Nat) (ph : Nat → Int32) : zz_W s ph ≤ s := by
  have := List.countP_le_length (p := fun t => decide (ph t = 2)) (l := List.range s)
  rw [List.length_range] at this
  exact this
theorem dd_Te {s t : Nat} {ph kd fi se us rc : Nat → Int32} (hT : dd_T s ph kd fi se us rc) : dd_T s (upd ph t 0) (upd kd t 0) (upd fi t 0) (upd se t 0) (upd us t 0) (upd rc t 0) := by
  intro u
  by_cases e : u = t
  · subst e
    rw [pk_us, pk_us, pk_us, pk_us, pk_us, pk_us]
    exact ⟨Or.inl rfl, fun _ => ⟨rfl, rfl, rfl⟩, fun z => absurd z (by decide), fun _ => ⟨rfl, rfl⟩, ⟨0, by omega, rfl⟩⟩
  · rw [pk_un e, pk_un e, pk_un e, pk_un e, pk_un e, pk_un e]
    exact hT u
theorem cy_first {w : Nat → Nat → Prop} {a b : Nat} (h : Relation.TransGen w a b) : ∃ c, w a c := by
  induction h with
  | single h => exact ⟨_, h⟩
  | tail _ _ ih => exact ih
def zz_SP (s w : Nat) : Prop := ∀ (i : Nat) (u : SX) (v : SY), zz_R u v → zz_sl v = nI s → zz_W s (zz_ph v) ≤ w → w + i ≤ s → ∀ (post : SX → Prop) (n : Nat), w < n → (∀ u' v', zz_R u' v' → (∀ (q : SY → Prop) (m : Nat), w < m → q v' → zz_yS q m (nI i) v) → post u') → zz_xS post n (nI i) u
theorem zz_settleStep {s w : Nat} (hs5 : s ≤ 5) (IH : ∀ w', w' < w → zz_SP s w') : zz_SP s w := by
  intro i u v I hsl hW hwi post n hn h
  refine zz_el (P := fun u v => zz_sl v = nI s → zz_W s (zz_ph v) ≤ w → ∀ (post : SX → Prop) (n : Nat), w < n → (∀ u' v', zz_R u' v' → (∀ (q : SY → Prop) (m : Nat), w < m → q v' → zz_yS q m (nI i) v) → post u') → zz_xS post n (nI i) u) ?_ I hsl hW post n hn h
  clear hsl hW post n hn h I
  intro f_END f_NOBODY f_FAN f_FILL f_STRIDE f_DEPTH f_PAGES f_ROWS f_slots f_capacity f_entryCount f_freeRecs f_freePages f_root f_height f_clock a_recKey a_recState a_recValue a_next a_prev a_readers a_writers a_gapReaders a_owner a_baseState a_baseValue a_recFree a_pageFill a_pageSlot a_pageTop a_pageFree a_pathPage a_pathSlot a_phaseOf a_outcomeOf a_used a_beganAt a_opKind a_opFirst a_opSecond a_acceptedAt a_rowCount a_rowKeys a_rowValues a_reach b_states b_values b_reads b_writes b_touched b_beforeStates b_beforeValues s' c L ky h1 h2 h3 h4 h5 hT hS hR hD hsl hW post n hn h
  have es : s' = s := by
    have h6 : f_slots = nI s := hsl
    exact (nI_eq (by omega) (by omega)).mp (h1.symm.trans h6)
  subst es
  have hW' : zz_W s' a_phaseOf ≤ w := hW
  obtain ⟨n, rfl⟩ : ∃ m, n = m + 1 := ⟨n - 1, by omega⟩
  obtain ⟨r, g1, g2, g3⟩ := zz_old (a_pathPage := a_pathPage) (a_pathSlot := a_pathSlot) h1 hs5 hT hS hR hD s' 0 (-1) (by omega) (Or.inl rfl)
  have hle : f_slots ≤ nI s' := by rw [h1]; exact nI_le (Nat.le_refl _) (by omega)
  have h6 : ¬ (6 : Int32) ≤ nI i := nI_ge (b := 6) (by omega) (by omega)
  have hnlt : ¬ f_slots < nI i := by rw [h1]; exact nI_nlt (by omega) (by omega)
  refine br_f hnlt ⟨s' + 1, g2 _ _ _ _ (by omega) (fun pp sl => ?_)⟩
  rcases g1 with e | ⟨b, hb, e, hp, hu⟩
  · subst e
    refine br_t (by decide) ⟨s' + 1, xw_y2 h1 hs5 hT hS hR hD s' 0 _ _ _ _ (by omega) (by omega) (fun a ha => by omega) (fun rc pp sl hrc => ⟨s' + 1, xw_y46 (w := wf a_phaseOf b_states a_opKind a_opFirst a_opSecond b_reads b_writes) h1 hs5 s' 0 _ rc (by omega) (by omega) hrc (fun rc2 hrc2 => ?_)⟩)⟩
    obtain ⟨r2, k1, k2, k3⟩ := zz_young (a_reach := rc2) h1 hs5 hT (fun a ha => by rw [hrc2 a ha a]; exact cy_iff (wf_s hT)) s' 0 (-1) (by omega) (Or.inl rfl)
    refine ⟨s' + 1, k2 _ _ (by omega) ?_⟩
    rcases k1 with e | ⟨b, hb, e, htg⟩
    · subst e
      refine br_f (by decide) (h _ (f_slots, f_capacity, f_clock, b_states, b_values, b_reads, b_writes, b_touched, b_beforeStates, b_beforeValues, a_phaseOf, a_outcomeOf, a_used, a_opKind, a_opFirst, a_opSecond, a_beganAt, a_acceptedAt, a_rowCount, a_rowKeys, a_rowValues) (zz_in h1 h2 h3 h4 h5 hT hS hR hD) (fun q m hm hq => ?_))
      obtain ⟨m, rfl⟩ : ∃ m', m = m' + 1 := ⟨m - 1, by omega⟩
      exact br_f h6 ⟨s' + 1, g3 _ _ _ _ (by omega) (fun n' => br_t hle (br_t (by decide) ⟨s' + 1, k3 _ _ _ _ (by omega) (fun n'' => br_t hle (br_f (by decide) hq))⟩))⟩
    · subst e
      have hb5 : b < 5 := by omega
      obtain ⟨d, hd⟩ := cy_first htg
      have hWd := zz_Wd (x := 0) hb hd.1 (by decide)
      have hge : (0 : Int32) ≤ nI b := nI_pos' (by omega)
      refine br_t hge (xw_roll hS hD hb5 (fun st va rd wr gr ow hD2 => nm_r (nI_1 i) ?_))
      refine IH (w - 1) (by omega) (i + 1) (f_END, f_NOBODY, f_FAN, f_FILL, f_STRIDE, f_DEPTH, f_PAGES, f_ROWS, f_slots, f_capacity, f_entryCount, f_freeRecs, f_freePages, f_root, f_height, f_clock, a_recKey, st, va, a_next, a_prev, rd, wr, gr, ow, a_baseState, a_baseValue, a_recFree, a_pageFill, a_pageSlot, a_pageTop, a_pageFree, pp, sl, upd a_phaseOf b 0, upd a_outcomeOf b 7, upd a_used b 0, a_beganAt, upd a_opKind b 0, upd a_opFirst b 0, upd a_opSecond b 0, a_acceptedAt, upd a_rowCount b 0, a_rowKeys, a_rowValues, rc2) (f_slots, f_capacity, f_clock, dd_rs b b_touched b_beforeStates b_states, dd_rv b b_touched b_beforeStates b_beforeValues b_values, dd_clr b b_reads, dd_clr b b_writes, dd_clr b b_touched, b_beforeStates, b_beforeValues, upd a_phaseOf b 0, upd a_outcomeOf b 7, upd a_used b 0, upd a_opKind b 0, upd a_opFirst b 0, upd a_opSecond b 0, a_beganAt, a_acceptedAt, upd a_rowCount b 0, a_rowKeys, a_rowValues) (zz_in h1 h2 h3 h4 h5 (dd_Te hT) hS hR hD2) h1 (by show zz_W s' (upd a_phaseOf b 0) ≤ w - 1; omega) (by omega) post n (by omega) (fun u' v' hR' hY => h u' v' hR' (fun q m hm hq => ?_))
      obtain ⟨m, rfl⟩ : ∃ m', m = m' + 1 := ⟨m - 1, by omega⟩
      refine br_f h6 ⟨s' + 1, g3 _ _ _ _ (by omega) (fun n' => br_t hle (br_t (by decide) ⟨s' + 1, k3 _ _ _ _ (by omega) (fun n'' => br_t hle (br_t hge (yw_roll hb5 ⟨vp_in_nI hb5 (by omega), ?_⟩)))⟩))⟩
      rw [nI_clamp (n := b) (by omega)]
      exact nm_e (nm_r (nI_1 i) (hY q m (by omega) hq))
  · subst e
    have hWd := zz_Wd (x := 1) hb hp (by decide)
    have hge : ¬ nI b < 0 := nI_pos (by omega)
    refine br_f hge ?_
    have hR0 : zz_R (f_END, f_NOBODY, f_FAN, f_FILL, f_STRIDE, f_DEPTH, f_PAGES, f_ROWS, f_slots, f_capacity, f_entryCount, f_freeRecs, f_freePages, f_root, f_height, f_clock, a_recKey, a_recState, a_recValue, a_next, a_prev, a_readers, a_writers, a_gapReaders, a_owner, a_baseState, a_baseValue, a_recFree, a_pageFill, a_pageSlot, a_pageTop, a_pageFree, pp, sl, a_phaseOf, a_outcomeOf, a_used, a_beganAt, a_opKind, a_opFirst, a_opSecond, a_acceptedAt, a_rowCount, a_rowKeys, a_rowValues, a_reach) (f_slots, f_capacity, f_clock, b_states, b_values, b_reads, b_writes, b_touched, b_beforeStates, b_beforeValues, a_phaseOf, a_outcomeOf, a_used, a_opKind, a_opFirst, a_opSecond, a_beganAt, a_acceptedAt, a_rowCount, a_rowKeys, a_rowValues) := zz_in h1 h2 h3 h4 h5 hT hS hR hD
    obtain ⟨v', ⟨k1, k2⟩, kY, kX⟩ := zz_exec hR0 hp hu
    refine kX _ (fun u1 hR1 => ?_)
    obtain ⟨x1, x2, x3, x4, x5, x6, x7, x8, x9, x10, x11, x12, x13, x14, x15, x16, x17, x18, x19, x20, x21, x22, x23, x24, x25, x26, x27, x28, x29, x30, x31, x32, x33, x34, x35, x36, x37, x38, x39, x40, x41, x42, x43, x44, x45, x46⟩ := u1
    obtain ⟨y1, y2, y3, y4, y5, y6, y7, y8, y9, y10, y11, y12, y13, y14, y15, y16, y17, y18, y19, y20, y21⟩ := v'
    refine nm_r (nI_1 i) (IH (w - 1) (by omega) (i + 1) _ _ hR1 (by rw [k2]; exact h1) (by rw [k1]; show zz_W s' (upd a_phaseOf b 1) ≤ w - 1; omega) (by omega) post n (by omega) (fun u' v' hR' hY => h u' v' hR' (fun q m hm hq => ?_)))
    obtain ⟨m, rfl⟩ : ∃ m', m = m' + 1 := ⟨m - 1, by omega⟩
    exact br_f h6 ⟨s' + 1, g3 _ _ _ _ (by omega) (fun n' => br_t hle (br_f hge (kY _ (nm_r (nI_1 i) (hY q m (by omega) hq)))))⟩
theorem zz_settleAll {s : Nat} (hs5 : s ≤ 5) (w : Nat) : zz_SP s w := by
  induction w using Nat.strongRecOn with
  | _ w ih => exact zz_settleStep hs5 ih
theorem zz_settle {u : SX} {v : SY} (I : zz_R u v) (post : SX → Prop) (h : ∀ u' v', zz_R u' v' → (∀ q : SY → Prop, q v' → wpY_settle q v) → post u') : wpX_settle post u := by
  refine zz_el (P := fun u v => zz_R u v → ∀ post : SX → Prop, (∀ u' v', zz_R u' v' → (∀ q : SY → Prop, q v' → wpY_settle q v) → post u') → wpX_settle post u) ?_ I I post h
  clear I post h
  intro f_END f_NOBODY f_FAN f_FILL f_STRIDE f_DEPTH f_PAGES f_ROWS f_slots f_capacity f_entryCount f_freeRecs f_freePages f_root f_height f_clock a_recKey a_recState a_recValue a_next a_prev a_readers a_writers a_gapReaders a_owner a_baseState a_baseValue a_recFree a_pageFill a_pageSlot a_pageTop a_pageFree a_pathPage a_pathSlot a_phaseOf a_outcomeOf a_used a_beganAt a_opKind a_opFirst a_opSecond a_acceptedAt a_rowCount a_rowKeys a_rowValues a_reach b_states b_values b_reads b_writes b_touched b_beforeStates b_beforeValues s c L ky h1 h2 h3 h4 h5 hT hS hR hD I post h
  refine ⟨s + 1, zz_settleAll h3 s 0 _ _ I h1 (zz_Wle _ _) (by omega) post (s + 1) (by omega) (fun u' v' hR' hY => h u' v' hR' (fun q hq => ⟨s + 1, hY q (s + 1) (by omega) hq⟩))⟩
end
section
/-! which ghosts may go -/
theorem dd_cnt_0 {f : Nat → Int32} : ∀ {d : Nat}, dd_cnt f d = 0 ↔ ∀ j, j < d → f j = 0
  | 0 => ⟨fun _ j h => by omega, fun _ => rfl⟩
  | d + 1 => by
    have ih := dd_cnt_0 (f := f) (d := d)
    rw [dd_cnt_s]
    constructor
    · intro h j hj
      by_cases e : f d = 0
      · rw [if_pos e] at h
        by_cases ej : j = d
        · rw [ej]; exact e
        · exact ih.mp (by omega) j (by omega)
      · rw [if_neg e] at h; omega
    · intro h
      rw [if_pos (h d (by omega)), ih.mpr (fun j hj => h j (by omega))]
theorem dd_cnt_a {f : Nat → Int32} : ∀ {d : Nat}, dd_cnt f d = d ↔ ∀ j, j < d → f j ≠ 0
  | 0 => ⟨fun _ j h => by omega, fun _ => rfl⟩
  | d + 1 => by
    have ih := dd_cnt_a (f := f) (d := d)
    have hl := dd_cnt_le f d
    rw [dd_cnt_s]
    constructor
    · intro h j hj
      by_cases e : f d = 0
      · rw [if_pos e] at h; omega
      · rw [if_neg e] at h
        by_cases ej : j = d
        · rw [ej]; exact e
        · exact ih.mp (by omega) j (by omega)
    · intro h
      rw [if_neg (h d (by omega)), ih.mpr (fun j hj => h j (by omega))]
def dd_rc (s : Nat) (ph Yrd Ywr : Nat → Int32) (g lo hi : Nat) : Prop := ∀ t, t < s → ph t ≠ 0 → Ywr (t * 1000 + g) = 0 ∧ ((∀ v, lo ≤ v → v < hi → Yrd (t * 1000 + v) = 0) ∨ (∀ v, lo ≤ v → v < hi → Yrd (t * 1000 + v) ≠ 0))
section
variable {g_slots g_capacity : Int32} {g_clock : Int64} {b_states b_values b_reads b_writes b_touched b_beforeStates b_beforeValues b_phases b_outcomes b_used b_kinds b_firsts b_seconds : Nat → Int32} {b_begun b_accepted : Nat → Int64} {b_rowCounts b_rowKeys b_rowValues : Nat → Int32}
theorem yw_rm88 {post : Int32 → Prop} {J : Int32 → Prop} {x1 : Int32} {t lo hi : Nat} (ht : t < 5) (hlo : lo ≤ hi) (hhi : hi ≤ 1000) (hJ : (dd_cnt (fun j => b_reads (t * 1000 + (lo + j))) (hi - lo) = 0 ∨ dd_cnt (fun j => b_reads (t * 1000 + (lo + j))) (hi - lo) = hi - lo) → J (nI (t + 1))) (h0 : ¬ (dd_cnt (fun j => b_reads (t * 1000 + (lo + j))) (hi - lo) = 0 ∨ dd_cnt (fun j => b_reads (t * 1000 + (lo + j))) (hi - lo) = hi - lo) → post 0) : ∀ (d i n : Nat), i + d = hi - lo → d < n → wY_removable_88 post J x1 (nI lo - 1) (nI hi) (nI t) g_slots g_capacity g_clock b_states b_values b_reads b_writes b_touched b_beforeStates b_beforeValues b_phases b_outcomes b_used b_kinds b_firsts b_seconds b_begun b_accepted b_rowCounts b_rowKeys b_rowValues n (nI (dd_cnt (fun j => b_reads (t * 1000 + (lo + j))) i)) (nI (lo + i))
  | 0, i, n + 1, h1, h2 => by
    have e : i = hi - lo := by omega
    subst e
    have hl := dd_cnt_le (fun j => b_reads (t * 1000 + (lo + j))) (hi - lo)
    have es : nI hi - (nI lo - 1) - 1 = nI (hi - lo) := by
      rw [← pk_sub hlo]
      grind
    refine br_t (nI_le (by omega) (by omega)) ?_
    rw [es]
    refine pk_eq (dd_cnt (fun j => b_reads (t * 1000 + (lo + j))) (hi - lo)) 0 (fun z => nm_r (nI_1 t) (hJ (Or.inl z))) (fun z => pk_eq (dd_cnt (fun j => b_reads (t * 1000 + (lo + j))) (hi - lo)) (hi - lo) (fun z2 => nm_r (nI_1 t) (hJ (Or.inr z2))) (fun z2 => h0 (fun c => ?_)))
    rcases c with c | c
    · exact z c
    · exact z2 c
  | d + 1, i, n + 1, h1, h2 => by
    have ih := yw_rm88 (x1 := x1) ht hlo hhi hJ h0 d (i + 1) n (by omega) (by omega)
    rw [dd_cnt_s] at ih
    refine br_f (nI_ge (by omega) (by omega)) ?_
    rw [yw_ix, nI_clamp (by omega)]
    refine ⟨vp_in_nI (by omega) (by omega), br_c (fun z => nm_r (nI_1 _) ?_) (fun z => nm_r (nI_1 _) (nm_r (nI_1 _) ?_))⟩
    · rw [if_pos z] at ih; exact ih
    · rw [if_neg z] at ih; exact ih
theorem yw_rm43 {post : Int32 → Prop} {s g lo hi : Nat} (hs : g_slots = nI s) (hs5 : s ≤ 5) (hlo : lo ≤ g) (hg : g < hi) (hhi : hi ≤ 1000) (h1 : dd_rc s b_phases b_reads b_writes g lo hi → post 1) (h0 : ¬ dd_rc s b_phases b_reads b_writes g lo hi → post 0) : ∀ (d i n : Nat), i + d = s → d < n → (∀ t, t < i → b_phases t ≠ 0 → b_writes (t * 1000 + g) = 0 ∧ ((∀ v, lo ≤ v → v < hi → b_reads (t * 1000 + v) = 0) ∨ (∀ v, lo ≤ v → v < hi → b_reads (t * 1000 + v) ≠ 0))) → wY_removable_43 post (nI g) (nI lo - 1) (nI hi) g_slots g_capacity g_clock b_states b_values b_reads b_writes b_touched b_beforeStates b_beforeValues b_phases b_outcomes b_used b_kinds b_firsts b_seconds b_begun b_accepted b_rowCounts b_rowKeys b_rowValues n (nI i)
  | 0, i, n + 1, hi2, hn, hd => by
    have e : i = s := by omega
    subst e
    exact br_t (by rw [hs]; exact nI_le (by omega) (by omega)) (h1 hd)
  | d + 1, i, n + 1, hi2, hn, hd => by
    have vi : vp_in (nI i) 5 := vp_in_nI (by omega) (by omega)
    have ci : (nI i).toNatClampNeg = i := nI_clamp (by omega)
    have ih := fun hx => yw_rm43 hs hs5 hlo hg hhi h1 h0 d (i + 1) n (by omega) (by omega) hx
    refine br_f (by rw [hs]; exact nI_ge (by omega) (by omega)) ⟨vi, ?_⟩
    rw [ci, yw_ix, nI_clamp (n := i * 1000 + g) (by omega)]
    refine br_c (fun z => nm_r (nI_1 i) (ih (fun t ht hp => ?_))) (fun z => ⟨vp_in_nI (by omega) (by omega), br_c (fun w => nm_r (e' := nI lo) (Int32.sub_add_cancel _ _) ⟨hi - lo + 1, ?_⟩) (fun w => h0 (fun c => w (c i (by omega) z).1))⟩)
    · by_cases e : t = i
      · rw [e] at hp; exact absurd z hp
      · exact hd t (by omega) hp
    · have hcv : ∀ v, lo ≤ v → v < hi → ∃ j, j < hi - lo ∧ v = lo + j := fun v a b => ⟨v - lo, by omega, by omega⟩
      refine yw_rm88 (lo := lo) (hi := hi) (by omega) (by omega) hhi (fun c => ih (fun t ht hp => ?_)) (fun c => h0 (fun c2 => c ?_)) (hi - lo) 0 _ (by omega) (by omega)
      · by_cases e : t = i
        · subst e
          refine ⟨w, ?_⟩
          rcases c with c | c
          · refine Or.inl (fun v a b => ?_)
            obtain ⟨j, hj, rfl⟩ := hcv v a b
            exact dd_cnt_0.mp c j hj
          · refine Or.inr (fun v a b => ?_)
            obtain ⟨j, hj, rfl⟩ := hcv v a b
            exact dd_cnt_a.mp c j hj
        · exact hd t (by omega) hp
      · rcases (c2 i (by omega) z).2 with c3 | c3
        · exact Or.inl (dd_cnt_0.mpr (fun j hj => c3 (lo + j) (by omega) (by omega)))
        · exact Or.inr (dd_cnt_a.mpr (fun j hj => c3 (lo + j) (by omega) (by omega)))
theorem yw_rm15 {post : Int32 → Prop} {x2 : Int32} {g hi : Nat} (hg : g < hi) (hhi : hi ≤ 1000) (hz : ∀ y, g < y → y < hi → b_states y = 0) (hn : hi = 1000 ∨ b_states hi ≠ 0) (hK : ∃ n43 : Nat, wY_removable_43 post (nI g) x2 (nI hi) g_slots g_capacity g_clock b_states b_values b_reads b_writes b_touched b_beforeStates b_beforeValues b_phases b_outcomes b_used b_kinds b_firsts b_seconds b_begun b_accepted b_rowCounts b_rowKeys b_rowValues n43 0) : ∀ (d n cur : Nat), g + d ≤ 999 → d < n → (∀ y, g + d < y → y < 1000 → b_states y ≠ 0 → cur ≤ y) → (cur = 1000 ∨ (g + d < cur ∧ cur < 1000 ∧ b_states cur ≠ 0)) → wY_removable_15 post (nI g) x2 g_slots g_capacity g_clock b_states b_values b_reads b_writes b_touched b_beforeStates b_beforeValues b_phases b_outcomes b_used b_kinds b_firsts b_seconds b_begun b_accepted b_rowCounts b_rowKeys b_rowValues n (nI cur) (nI (g + d))
  | 0, n + 1, cur, h1, h2, h3, h4 => by
    have e : cur = hi := by
      rw [Nat.add_zero] at h3 h4
      have h5 : hi < 1000 → b_states hi ≠ 0 := fun z => by
        rcases hn with c | c
        · omega
        · exact c
      have h6 : hi < 1000 → cur ≤ hi := fun z => h3 hi hg z (h5 z)
      rcases h4 with c | c
      · by_cases hc : hi < 1000
        · have := h6 hc; omega
        · omega
      · by_cases hlt : cur < hi
        · exact absurd (hz cur c.1 hlt) c.2.2
        · by_cases hc : hi < 1000
          · have := h6 hc; omega
          · omega
    subst e
    exact br_t (nI_le (by omega) (by omega)) hK
  | d + 1, n + 1, cur, h1, h2, h3, h4 => by
    refine br_f (nI_ge (by omega) (by omega)) ⟨vp_in_nI (by omega) (by omega), ?_⟩
    rw [nI_clamp (by omega)]
    refine br_c (fun z => nm_r (pk_m1 (g + d)) (yw_rm15 hg hhi hz hn hK d n cur (by omega) (by omega) (fun y a b c => ?_) ?_)) (fun z => nm_r (pk_m1 (g + d)) (yw_rm15 hg hhi hz hn hK d n (g + (d + 1)) (by omega) (by omega) (fun y a b c => by omega) (Or.inr ⟨by omega, by omega, z⟩)))
    · by_cases ey : y = g + (d + 1)
      · rw [ey] at c; exact absurd z c
      · exact h3 y (by omega) b c
    · rcases h4 with c | c
      · exact Or.inl c
      · exact Or.inr ⟨by omega, c.2⟩
theorem yw_rem {post : Int32 → Prop} {s g lo hi : Nat} (hs : g_slots = nI s) (hs5 : s ≤ 5) (hlo : lo ≤ g) (hl1 : ∀ y, lo ≤ y → y < g → b_states y = 0) (hl2 : lo = 0 ∨ b_states (lo - 1) ≠ 0) (hg : g < hi) (hhi : hi ≤ 1000) (hz : ∀ y, g < y → y < hi → b_states y = 0) (hn : hi = 1000 ∨ b_states hi ≠ 0) (h1 : dd_rc s b_phases b_reads b_writes g lo hi → post 1) (h0 : ¬ dd_rc s b_phases b_reads b_writes g lo hi → post 0) : wpY_removable post (g_slots, g_capacity, g_clock, b_states, b_values, b_reads, b_writes, b_touched, b_beforeStates, b_beforeValues, b_phases, b_outcomes, b_used, b_kinds, b_firsts, b_seconds, b_begun, b_accepted, b_rowCounts, b_rowKeys, b_rowValues) (nI g) := by
  unfold wpY_removable
  refine yw_prev (by omega) hlo hl1 hl2 ⟨999 - g + 1, ?_⟩
  have := yw_rm15 (post := post) (x2 := nI lo - 1) (g_slots := g_slots) (g_capacity := g_capacity) (g_clock := g_clock) (b_values := b_values) (b_reads := b_reads) (b_writes := b_writes) (b_touched := b_touched) (b_beforeStates := b_beforeStates) (b_beforeValues := b_beforeValues) (b_phases := b_phases) (b_outcomes := b_outcomes) (b_used := b_used) (b_kinds := b_kinds) (b_firsts := b_firsts) (b_seconds := b_seconds) (b_begun := b_begun) (b_accepted := b_accepted) (b_rowCounts := b_rowCounts) (b_rowKeys := b_rowKeys) (b_rowValues := b_rowValues) hg hhi hz hn ⟨s + 1, yw_rm43 hs hs5 hlo hg hhi h1 h0 s 0 _ (by omega) (by omega) (fun t ht => by omega)⟩ (999 - g) (999 - g + 1) 1000 (by omega) (by omega) (fun y a b => by omega) (Or.inl rfl)
  rw [show g + (999 - g) = 999 by omega] at this
  exact this
end
section
variable {L : List Nat} {ky : Nat → Nat} {rk nx pv rf : Nat → Int32} {fr ec : Int32} {ph st va rd wr gr ow bs bv Yst Yva Yrd Ywr Yto Ybs Ybv kd fi se us rc : Nat → Int32}
/-- the two tests agree -/
theorem dd_rciff (hS : rg_S L ky rk nx pv rf fr ec) (hD : dd_D L ky ph st va rd wr gr ow bs bv Yst Yva Yrd Ywr Yto Ybs Ybv) {s q a lo : Nat} (hs5 : s ≤ 5) (hT : dd_T s ph kd fi se us rc) (hq : q ∈ L) (ha : rg_F L ky (ky q + 1) a) (hlo : lo ≤ ky q) (hl1 : ∀ y, lo ≤ y → y < ky q → Yst y = 0) (hl2 : lo = 0 ∨ Yst (lo - 1) ≠ 0) : dd_rc s ph Yrd Ywr (ky q) lo (ky a) ↔ wr q = 0 ∧ (∀ x, x < ky q → rg_F L ky x q → gr q = rd q) ∧ (∀ x, ky q < x → x < ky a → gr a = rd q) := by
  have hql := rg_lt hS hq
  have hqR : q ∈ L ++ [48] := by simp [hq]
  have hE := hD.1 q hq
  have ha2 := ha.2.1
  have hal := rg_le hS ha.1
  have hps : ∀ t, ph t ≠ 0 → t < s := fun t hp => by
    rcases (hT t).1 with z | z
    · exact absurd z hp
    · exact z.1
  have F1 : ∀ v, lo ≤ v → v < ky q → rg_F L ky v q := by
    intro v a1 a2
    refine ⟨hqR, by omega, fun p hp => ?_⟩
    apply Classical.byContradiction
    intro hc
    have hpL : p ∈ L := rg_L hS hp (by omega)
    exact (dd_stE hD hpL).2.2 (hl1 (ky p) (by omega) (by omega))
  have F1' : ∀ v, v < ky q → rg_F L ky v q → lo ≤ v := by
    intro v a1 hF
    apply Classical.byContradiction
    intro hc
    rcases hl2 with c | c
    · omega
    · obtain ⟨p, hp, ep⟩ := dd_st hS hD (by omega) c
      have := hF.2.2 p (by simp [hp])
      omega
  have F2 : ∀ v, ky q < v → v < ky a → rg_F L ky v a := by
    intro v a1 a2
    refine ⟨ha.1, by omega, fun p hp => ?_⟩
    have := ha.2.2 p hp
    omega
  constructor
  · intro hc
    refine ⟨?_, ?_, ?_⟩
    · rw [bk_z]
      intro t
      cases hb : bt (wr q) t
      · rfl
      · have hp := hD.2.2.2.1 q hq t (Or.inr hb)
        have ht := hps t hp
        have := (hc t ht hp).1
        rw [(hE.2.2.2.1 t (by omega)).2.1, hb] at this
        exact absurd this (by decide)
    · intro x hx hF
      refine b_ext (fun t _ => ?_)
      have hxlo := F1' x hx hF
      apply Classical.byContradiction
      intro hne
      have hp : ph t ≠ 0 := by
        cases hb : bt (gr q) t
        · cases hb2 : bt (rd q) t
          · rw [hb, hb2] at hne; exact absurd rfl hne
          · exact hD.2.2.2.1 q hq t (Or.inl hb2)
        · exact hD.2.2.2.2.1 q hqR t hb
      have ht := hps t hp
      have e1 := hD.2.2.1 q x hF (by omega) t (by omega)
      have e2 := (hE.2.2.2.1 t (by omega)).1
      rcases (hc t ht hp).2 with c | c
      · have c1 := c x hxlo (by omega)
        have c2 := c (ky q) hlo (by omega)
        rw [e1, dd_b0] at c1
        rw [e2, dd_b0] at c2
        rw [c1, c2] at hne
        exact hne rfl
      · have c1 := c x hxlo (by omega)
        have c2 := c (ky q) hlo (by omega)
        rw [e1, dd_b1] at c1
        rw [e2, dd_b1] at c2
        rw [c1, c2] at hne
        exact hne rfl
    · intro x hx1 hx2
      have hF := F2 x hx1 hx2
      refine b_ext (fun t _ => ?_)
      apply Classical.byContradiction
      intro hne
      have hp : ph t ≠ 0 := by
        cases hb : bt (gr a) t
        · cases hb2 : bt (rd q) t
          · rw [hb, hb2] at hne; exact absurd rfl hne
          · exact hD.2.2.2.1 q hq t (Or.inl hb2)
        · exact hD.2.2.2.2.1 a ha.1 t hb
      have ht := hps t hp
      have e1 := hD.2.2.1 a x hF (by omega) t (by omega)
      have e2 := (hE.2.2.2.1 t (by omega)).1
      rcases (hc t ht hp).2 with c | c
      · have c1 := c x (by omega) hx2
        have c2 := c (ky q) hlo (by omega)
        rw [e1, dd_b0] at c1
        rw [e2, dd_b0] at c2
        rw [c1, c2] at hne
        exact hne rfl
      · have c1 := c x (by omega) hx2
        have c2 := c (ky q) hlo (by omega)
        rw [e1, dd_b1] at c1
        rw [e2, dd_b1] at c2
        rw [c1, c2] at hne
        exact hne rfl
  · rintro ⟨c1, c2, c3⟩ t ht hp
    have hv : ∀ v, lo ≤ v → v < ky a → Yrd (t * 1000 + v) = dd_b (bt (rd q) t) := by
      intro v a1 a2
      rcases Nat.lt_trichotomy v (ky q) with b | b | b
      · have hF := F1 v a1 b
        rw [hD.2.2.1 q v hF (by omega) t (by omega), c2 v b hF]
      · rw [b]; exact (hE.2.2.2.1 t (by omega)).1
      · rw [hD.2.2.1 a v (F2 v b a2) (by omega) t (by omega), c3 v b a2]
    refine ⟨?_, ?_⟩
    · rw [(hE.2.2.2.1 t (by omega)).2.1, c1, b_0]; rfl
    · cases hb : bt (rd q) t
      · refine Or.inl (fun v a1 a2 => ?_)
        rw [hv v a1 a2, hb]; rfl
      · refine Or.inr (fun v a1 a2 => ?_)
        rw [hv v a1 a2, hb]; decide
end
end
section
/-! cleaning, in lockstep -/
section
variable {g_slots g_capacity : Int32} {g_clock : Int64} {b_states b_values b_reads b_writes b_touched b_beforeStates b_beforeValues b_phases b_outcomes b_used b_kinds b_firsts b_seconds : Nat → Int32} {b_begun b_accepted : Nat → Int64} {b_rowCounts b_rowKeys b_rowValues : Nat → Int32}
theorem yw_cskip {post : Int32 → SY → Prop} {h y : Nat} {m : Int32} {Fu : Nat} (hh : h < 1000) (hy : y ≤ h + 1) (hK : ∀ n, Fu < n → wY_clean_28 post (nI h) g_slots g_capacity g_clock n m (nI y) b_states b_values b_reads b_writes b_touched b_beforeStates b_beforeValues b_phases b_outcomes b_used b_kinds b_firsts b_seconds b_begun b_accepted b_rowCounts b_rowKeys b_rowValues) : ∀ (d x n : Nat), x + d = y → Fu + d < n → (∀ z, x ≤ z → z < y → b_states z ≠ 2) → wY_clean_28 post (nI h) g_slots g_capacity g_clock n m (nI x) b_states b_values b_reads b_writes b_touched b_beforeStates b_beforeValues b_phases b_outcomes b_used b_kinds b_firsts b_seconds b_begun b_accepted b_rowCounts b_rowKeys b_rowValues
  | 0, x, n, h1, h2, h3 => by
    have e : x = y := by omega
    subst e
    exact hK n (by omega)
  | d + 1, x, n + 1, h1, h2, h3 => by
    have ih := yw_cskip hh hy hK d (x + 1) n (by omega) (by omega) (fun z a b => h3 z (by omega) b)
    refine br_f (nI_nlt (by omega) (by omega)) ⟨vp_in_nI (by omega) (by omega), ?_⟩
    rw [nI_clamp (n := x) (by omega)]
    exact br_f (h3 x (Nat.le_refl _) (by omega)) (nm_r (nI_1 x) ih)
theorem yw_cend {post : Int32 → SY → Prop} {h x : Nat} {m : Int32} (hh : h < 1000) (hx : x ≤ 1000) (n : Nat) (hn : h + 1 - x < n) (h3 : ∀ z, x ≤ z → z ≤ h → b_states z ≠ 2) (hp : wpY_settle (fun w => post m w) (g_slots, g_capacity, g_clock, b_states, b_values, b_reads, b_writes, b_touched, b_beforeStates, b_beforeValues, b_phases, b_outcomes, b_used, b_kinds, b_firsts, b_seconds, b_begun, b_accepted, b_rowCounts, b_rowKeys, b_rowValues)) : wY_clean_28 post (nI h) g_slots g_capacity g_clock n m (nI x) b_states b_values b_reads b_writes b_touched b_beforeStates b_beforeValues b_phases b_outcomes b_used b_kinds b_firsts b_seconds b_begun b_accepted b_rowCounts b_rowKeys b_rowValues := by
  by_cases hxh : x ≤ h + 1
  · refine yw_cskip (y := h + 1) (Fu := 0) hh (by omega) (fun n hn => ?_) (h + 1 - x) x n (by omega) (by omega) (fun z a b => h3 z a (by omega))
    obtain ⟨n, rfl⟩ : ∃ m, n = m + 1 := ⟨n - 1, by omega⟩
    exact br_t (nI_lt (by omega) (by omega)) hp
  · obtain ⟨n, rfl⟩ : ∃ m, n = m + 1 := ⟨n - 1, by omega⟩
    exact br_t (nI_lt (by omega) (by omega)) hp
end
def zz_CL (h N : Nat) : Prop := ∀ (f_END f_NOBODY f_FAN f_FILL f_STRIDE f_DEPTH f_PAGES f_ROWS f_slots f_capacity f_entryCount f_freeRecs f_freePages f_root f_height : Int32) (f_clock : Int64) (a_recKey a_recState a_recValue a_next a_prev a_readers a_writers a_gapReaders a_owner a_baseState a_baseValue a_recFree a_pageFill a_pageSlot a_pageTop a_pageFree a_pathPage a_pathSlot a_phaseOf a_outcomeOf a_used : Nat → Int32) (a_beganAt : Nat → Int64) (a_opKind a_opFirst a_opSecond : Nat → Int32) (a_acceptedAt : Nat → Int64) (a_rowCount a_rowKeys a_rowValues a_reach : Nat → Int32) (b_states b_values b_reads b_writes b_touched b_beforeStates b_beforeValues : Nat → Int32) (s c : Nat) (L : List Nat) (ky : Nat → Nat) (l A : List Nat) (q i x m : Nat) (post : Int32 → SX → Prop) (n : Nat), f_slots = nI s → 2 ≤ s → s ≤ 5 → f_capacity = nI c → c ≤ 48 → dd_T s a_phaseOf a_opKind a_opFirst a_opSecond a_used a_rowCount → rg_S L ky a_recKey a_next a_prev a_recFree f_freeRecs f_entryCount → rg_T a_pageFill a_pageSlot a_pageTop a_pageFree f_freePages f_root f_height L ky → dd_D L ky a_phaseOf a_recState a_recValue a_readers a_writers a_gapReaders a_owner a_baseState a_baseValue b_states b_values b_reads b_writes b_touched b_beforeStates b_beforeValues → l.length ≤ N → L ++ [48] = A ++ q :: l → (∀ a ∈ A, ky a < x) → x ≤ ky q → i + l.length ≤ 48 → l.length < n →
  (∀ u' v' m', zz_R u' v' → (∀ (p : Int32 → SY → Prop) (k : Nat), h + 1 - x < k → wpY_settle (fun w => p m' w) v' → wY_clean_28 p (nI h) f_slots f_capacity f_clock k (nI m) (nI x) b_states b_values b_reads b_writes b_touched b_beforeStates b_beforeValues a_phaseOf a_outcomeOf a_used a_opKind a_opFirst a_opSecond a_beganAt a_acceptedAt a_rowCount a_rowKeys a_rowValues) → wpX_settle (fun u => post m' u) u') → wX_clean_35 post (nI h) n (nI m) (nI q) (nI i) f_END f_NOBODY f_FAN f_FILL f_STRIDE f_DEPTH f_PAGES f_ROWS f_slots f_capacity f_entryCount f_freeRecs f_freePages f_root f_height f_clock a_recKey a_recState a_recValue a_next a_prev a_readers a_writers a_gapReaders a_owner a_baseState a_baseValue a_recFree a_pageFill a_pageSlot a_pageTop a_pageFree a_pathPage a_pathSlot a_phaseOf a_outcomeOf a_used a_beganAt a_opKind a_opFirst a_opSecond a_acceptedAt a_rowCount a_rowKeys a_rowValues a_reach
theorem zz_cleanAll {h : Nat} (hh : h < 1000) : ∀ N, zz_CL h N := by
  intro N
  induction N with
  | zero =>
    intro f_END f_NOBODY f_FAN f_FILL f_STRIDE f_DEPTH f_PAGES f_ROWS f_slots f_capacity f_entryCount f_freeRecs f_freePages f_root f_height f_clock a_recKey a_recState a_recValue a_next a_prev a_readers a_writers a_gapReaders a_owner a_baseState a_baseValue a_recFree a_pageFill a_pageSlot a_pageTop a_pageFree a_pathPage a_pathSlot a_phaseOf a_outcomeOf a_used a_beganAt a_opKind a_opFirst a_opSecond a_acceptedAt a_rowCount a_rowKeys a_rowValues a_reach b_states b_values b_reads b_writes b_touched b_beforeStates b_beforeValues s c L ky l A q i x m post n h1 h2 h3 h4 h5 hT hS hR hD hN e1 hA hx hil hn hK
    have hl0 : l = [] := List.eq_nil_of_length_eq_zero (by omega)
    subst hl0
    have h48 : 48 = q := by
      have := (List.append_inj' e1 rfl).2
      simpa using this
    subst h48
    obtain ⟨n, rfl⟩ : ∃ m, n = m + 1 := ⟨n - 1, by omega⟩
    have h1000 := hS.2.1
    have hp : wX_clean_108 post (nI m) f_END f_NOBODY f_FAN f_FILL f_STRIDE f_DEPTH f_PAGES f_ROWS f_slots f_capacity f_entryCount f_freeRecs f_freePages f_root f_height f_clock a_recKey a_recState a_recValue a_next a_prev a_readers a_writers a_gapReaders a_owner a_baseState a_baseValue a_recFree a_pageFill a_pageSlot a_pageTop a_pageFree a_pathPage a_pathSlot a_phaseOf a_outcomeOf a_used a_beganAt a_opKind a_opFirst a_opSecond a_acceptedAt a_rowCount a_rowKeys a_rowValues a_reach := by
      refine hK (f_END, f_NOBODY, f_FAN, f_FILL, f_STRIDE, f_DEPTH, f_PAGES, f_ROWS, f_slots, f_capacity, f_entryCount, f_freeRecs, f_freePages, f_root, f_height, f_clock, a_recKey, a_recState, a_recValue, a_next, a_prev, a_readers, a_writers, a_gapReaders, a_owner, a_baseState, a_baseValue, a_recFree, a_pageFill, a_pageSlot, a_pageTop, a_pageFree, a_pathPage, a_pathSlot, a_phaseOf, a_outcomeOf, a_used, a_beganAt, a_opKind, a_opFirst, a_opSecond, a_acceptedAt, a_rowCount, a_rowKeys, a_rowValues, a_reach) (f_slots, f_capacity, f_clock, b_states, b_values, b_reads, b_writes, b_touched, b_beforeStates, b_beforeValues, a_phaseOf, a_outcomeOf, a_used, a_opKind, a_opFirst, a_opSecond, a_beganAt, a_acceptedAt, a_rowCount, a_rowKeys, a_rowValues) (nI m) (zz_in h1 h2 h3 h4 h5 hT hS hR hD) (fun p k hk hp => yw_cend hh (by omega) k hk (fun z a b z2 => ?_) hp)
      obtain ⟨r, hr, er⟩ := dd_st hS hD (by omega) (by rw [z2]; decide : b_states z ≠ 0)
      have hrA : r ∈ A := by
        have : r ∈ L ++ [48] := by simp [hr]
        rw [e1] at this
        rcases List.mem_append.mp this with d | d
        · exact d
        · rw [List.mem_singleton] at d
          have := (rg_lt hS hr).1; omega
      have := hA r hrA
      omega
    exact br_c (fun _ => hp) (fun _ => br_t rfl hp)
  | succ N ih =>
    intro f_END f_NOBODY f_FAN f_FILL f_STRIDE f_DEPTH f_PAGES f_ROWS f_slots f_capacity f_entryCount f_freeRecs f_freePages f_root f_height f_clock a_recKey a_recState a_recValue a_next a_prev a_readers a_writers a_gapReaders a_owner a_baseState a_baseValue a_recFree a_pageFill a_pageSlot a_pageTop a_pageFree a_pathPage a_pathSlot a_phaseOf a_outcomeOf a_used a_beganAt a_opKind a_opFirst a_opSecond a_acceptedAt a_rowCount a_rowKeys a_rowValues a_reach b_states b_values b_reads b_writes b_touched b_beforeStates b_beforeValues s c L ky l A q i x m post n h1 h2 h3 h4 h5 hT hS hR hD hN e1 hA hx hil hn hK
    match l, hN, e1, hil, hn with
    | [], hN, e1, hil, hn => exact ih _ _ _ _ _ _ _ _ _ _ _ _ _ _ _ _ _ _ _ _ _ _ _ _ _ _ _ _ _ _ _ _ _ _ _ _ _ _ _ _ _ _ _ _ _ _ _ _ _ _ _ _ _ s c L ky [] A q i x m post n h1 h2 h3 h4 h5 hT hS hR hD (by simp) e1 hA hx hil hn hK
    | q' :: l', hN, e1, hil, hn =>
      rw [List.length_cons] at hN hil hn
      obtain ⟨n, rfl⟩ : ∃ m, n = m + 1 := ⟨n - 1, by omega⟩
      have hqR : q ∈ L ++ [48] := by rw [e1]; simp
      have hq49 := rg_le hS hqR
      have ho := rg_ord hS e1
      have hqq := ho.2.1 q' (by simp)
      have hq'R : q' ∈ L ++ [48] := by rw [e1]; simp
      have hq'l := rg_le hS hq'R
      have hqL : q ∈ L := rg_L hS hqR (by omega)
      have hql := rg_lt hS hqL
      have vq : vp_in (nI q) 49 := vp_in_nI hq49.1 (by omega)
      have cq : (nI q).toNatClampNeg = q := nI_clamp (by omega)
      have hE := hD.1 q hqL
      have hrk := rg_k hS hqR
      have hnx : a_next q = nI q' := (rg_next hS e1).1
      have hne : ¬ nI q = 48 := by
        rw [show (48 : Int32) = nI 48 from rfl, nI_eq (by omega) (by omega)]; omega
      have hi48 : ¬ (48 : Int32) ≤ nI i := nI_ge (b := 48) (by omega) (by omega)
      have habs : ∀ z, x ≤ z → z < ky q → b_states z = 0 := by
        intro z z1 z2
        apply Classical.byContradiction
        intro z3
        obtain ⟨p, hp, ep⟩ := dd_st hS hD (by omega) z3
        have hpR : p ∈ L ++ [48] := by simp [hp]
        rw [e1] at hpR
        simp only [List.mem_append, List.mem_cons] at hpR
        rcases hpR with d | d | d
        · have := hA p d; omega
        · rw [d] at ep; omega
        · have := ho.2.1 p (by simpa using d); omega
      have habs2 : ∀ z, x ≤ z → z < ky q → b_states z ≠ 2 := fun z z1 z2 => by rw [habs z z1 z2]; decide
      have hAq : ∀ a ∈ A ++ [q], ky a < ky q + 1 := by
        intro a ha
        simp only [List.mem_append, List.mem_cons] at ha
        rcases ha with z | z | z
        · have := ho.1 a z; omega
        · rw [z]; omega
        · simp at z
      by_cases hkh : h < ky q
      · have hp : wX_clean_108 post (nI m) f_END f_NOBODY f_FAN f_FILL f_STRIDE f_DEPTH f_PAGES f_ROWS f_slots f_capacity f_entryCount f_freeRecs f_freePages f_root f_height f_clock a_recKey a_recState a_recValue a_next a_prev a_readers a_writers a_gapReaders a_owner a_baseState a_baseValue a_recFree a_pageFill a_pageSlot a_pageTop a_pageFree a_pathPage a_pathSlot a_phaseOf a_outcomeOf a_used a_beganAt a_opKind a_opFirst a_opSecond a_acceptedAt a_rowCount a_rowKeys a_rowValues a_reach :=
          hK (f_END, f_NOBODY, f_FAN, f_FILL, f_STRIDE, f_DEPTH, f_PAGES, f_ROWS, f_slots, f_capacity, f_entryCount, f_freeRecs, f_freePages, f_root, f_height, f_clock, a_recKey, a_recState, a_recValue, a_next, a_prev, a_readers, a_writers, a_gapReaders, a_owner, a_baseState, a_baseValue, a_recFree, a_pageFill, a_pageSlot, a_pageTop, a_pageFree, a_pathPage, a_pathSlot, a_phaseOf, a_outcomeOf, a_used, a_beganAt, a_opKind, a_opFirst, a_opSecond, a_acceptedAt, a_rowCount, a_rowKeys, a_rowValues, a_reach) (f_slots, f_capacity, f_clock, b_states, b_values, b_reads, b_writes, b_touched, b_beforeStates, b_beforeValues, a_phaseOf, a_outcomeOf, a_used, a_opKind, a_opFirst, a_opSecond, a_beganAt, a_acceptedAt, a_rowCount, a_rowKeys, a_rowValues) (nI m) (zz_in h1 h2 h3 h4 h5 hT hS hR hD) (fun p k hk hp => yw_cend hh (by omega) k hk (fun z a b => habs2 z a (by omega)) hp)
        refine br_f hi48 (br_f hne ⟨vq, ?_⟩)
        rw [cq, hrk]
        exact br_t (nI_lt hkh (by omega)) hp
      · have hnlt : ¬ nI h < nI (ky q) := nI_nlt (by omega) (by omega)
        refine br_f hi48 (br_f hne ⟨vq, ?_⟩)
        rw [cq, hrk, hnx]
        refine br_f hnlt ⟨vq, nm_e ⟨vq, ?_⟩⟩
        -- the next turn, with the entry kept
        have keep : (∀ (p : Int32 → SY → Prop) (k : Nat), h + 1 - x < k → (∀ k', h + 1 - (ky q + 1) < k' → wY_clean_28 p (nI h) f_slots f_capacity f_clock k' (nI m) (nI (ky q + 1)) b_states b_values b_reads b_writes b_touched b_beforeStates b_beforeValues a_phaseOf a_outcomeOf a_used a_opKind a_opFirst a_opSecond a_beganAt a_acceptedAt a_rowCount a_rowKeys a_rowValues) → wY_clean_28 p (nI h) f_slots f_capacity f_clock k (nI m) (nI x) b_states b_values b_reads b_writes b_touched b_beforeStates b_beforeValues a_phaseOf a_outcomeOf a_used a_opKind a_opFirst a_opSecond a_beganAt a_acceptedAt a_rowCount a_rowKeys a_rowValues) → wX_clean_35 post (nI h) n (nI m) (nI q') (nI (i + 1)) f_END f_NOBODY f_FAN f_FILL f_STRIDE f_DEPTH f_PAGES f_ROWS f_slots f_capacity f_entryCount f_freeRecs f_freePages f_root f_height f_clock a_recKey a_recState a_recValue a_next a_prev a_readers a_writers a_gapReaders a_owner a_baseState a_baseValue a_recFree a_pageFill a_pageSlot a_pageTop a_pageFree a_pathPage a_pathSlot a_phaseOf a_outcomeOf a_used a_beganAt a_opKind a_opFirst a_opSecond a_acceptedAt a_rowCount a_rowKeys a_rowValues a_reach := by
          intro hY
          exact ih _ _ _ _ _ _ _ _ _ _ _ _ _ _ _ _ _ _ _ _ _ _ _ _ _ _ _ _ _ _ _ _ _ _ _ _ _ _ _ _ _ _ _ _ _ _ _ _ _ _ _ _ _ s c L ky l' (A ++ [q]) q' (i + 1) (ky q + 1) m post n h1 h2 h3 h4 h5 hT hS hR hD (by omega) (by rw [e1]; simp) hAq (by omega) (by omega) (by omega) (fun u' v' m' hR' hY' => hK u' v' m' hR' (fun p k hk hp => hY p k hk (fun k' hk' => hY' p k' hk' hp)))
        by_cases hg : a_recState q = 2
        · have hg' : b_states (ky q) = 2 := hE.2.1.trans hg
          obtain ⟨lo, l1, l2, l3⟩ := wf_lo b_states (ky q)
          have hFa : rg_F L ky (ky q + 1) q' := rg_toF hS (A := A ++ [q]) (B := l') (by rw [e1]; simp) hAq (by omega)
          have hiff := dd_rciff hS hD h3 hT hqL hFa l1 l2 l3
          have hz : ∀ y, ky q < y → y < ky q' → b_states y = 0 := by
            intro y y1 y2
            apply Classical.byContradiction
            intro z3
            obtain ⟨p, hp, ep⟩ := dd_st hS hD (by omega) z3
            have := hFa.2.2 p (by simp [hp])
            omega
          have hn' : ky q' = 1000 ∨ b_states (ky q') ≠ 0 := by
            by_cases c : ky q' = 1000
            · exact Or.inl c
            · exact Or.inr (dd_stE hD (rg_L hS hq'R (by omega))).2.2
          have hYrem : ∀ (p : Int32 → SY → Prop) (k : Nat), h + 1 - x < k → (∀ k', h + 1 - (ky q + 1) < k' → ((¬ dd_rc s a_phaseOf b_reads b_writes (ky q) lo (ky q') → wY_clean_28 p (nI h) f_slots f_capacity f_clock k' (nI m) (nI (ky q + 1)) b_states b_values b_reads b_writes b_touched b_beforeStates b_beforeValues a_phaseOf a_outcomeOf a_used a_opKind a_opFirst a_opSecond a_beganAt a_acceptedAt a_rowCount a_rowKeys a_rowValues) ∧ (dd_rc s a_phaseOf b_reads b_writes (ky q) lo (ky q') → wY_clean_28 p (nI h) f_slots f_capacity f_clock k' (nI (m + 1)) (nI (ky q + 1)) (upd b_states (ky q) 0) (upd b_values (ky q) 0) b_reads b_writes b_touched b_beforeStates b_beforeValues a_phaseOf a_outcomeOf a_used a_opKind a_opFirst a_opSecond a_beganAt a_acceptedAt a_rowCount a_rowKeys a_rowValues))) → wY_clean_28 p (nI h) f_slots f_capacity f_clock k (nI m) (nI x) b_states b_values b_reads b_writes b_touched b_beforeStates b_beforeValues a_phaseOf a_outcomeOf a_used a_opKind a_opFirst a_opSecond a_beganAt a_acceptedAt a_rowCount a_rowKeys a_rowValues := by
            intro p k hk hY
            refine yw_cskip (y := ky q) (Fu := h + 1 - ky q) hh (by omega) (fun k hk => ?_) (ky q - x) x k (by omega) (by omega) habs2
            obtain ⟨k, rfl⟩ : ∃ m, k = m + 1 := ⟨k - 1, by omega⟩
            have vk : vp_in (nI (ky q)) 1000 := vp_in_nI (by omega) (by omega)
            refine br_f (nI_nlt (by omega) (by omega)) ⟨vk, ?_⟩
            rw [nI_clamp (n := ky q) (by omega)]
            refine br_t hg' (yw_rem h1 h3 l1 l2 l3 (by omega) hq'l.2 hz hn' (fun c => br_f (by decide) ⟨vk, nm_e ⟨vk, nm_e (nm_r (nI_1 m) (nm_r (nI_1 _) ((hY k (by omega)).2 c)))⟩⟩) (fun c => br_t rfl (nm_r (nI_1 _) ((hY k (by omega)).1 c))))
          refine br_t hg (xw_isRem hS e1 (fun c1 c2 c3 => br_f (by decide) ?_) (fun c => br_t rfl (nm_r (nI_1 i) (keep (fun p k hk hY => hYrem p k hk (fun k' hk' => ⟨fun _ => hY k' hk', fun d => absurd (hiff.mp d) c⟩))))))
          have hrc := hiff.mpr ⟨c1, c2, c3⟩
          refine xw_removeEntry hS hR e1 fun L' nx pv rf fr ec pf ps pt pe fp rt ht pp sl hL' eL' hS' hR' => nm_r (nI_1 m) (nm_r (nI_1 i) ?_)
          have hD' := dd_rem hS hD hqL hL' hFa c1 c2 c3
          exact ih _ _ _ _ _ _ _ _ _ _ _ _ _ _ _ _ _ _ _ _ _ _ _ _ _ _ _ _ _ _ _ _ _ _ _ _ _ _ _ _ _ _ _ _ _ _ _ _ _ _ _ _ _ s c L' ky l' A q' (i + 1) (ky q + 1) (m + 1) post n h1 h2 h3 h4 h5 hT hS' hR' hD' (by omega) eL' (fun a ha => by have := ho.1 a ha; omega) (by omega) (by omega) (by omega) (fun u' v' m' hR2 hY' => hK u' v' m' hR2 (fun p k hk hp => hYrem p k hk (fun k' hk' => ⟨fun d => absurd hrc d, fun _ => hY' p k' hk' hp⟩)))
        · refine br_f hg (nm_r (nI_1 i) (keep (fun p k hk hY => ?_)))
          refine yw_cskip (y := ky q + 1) (Fu := h + 1 - (ky q + 1)) hh (by omega) hY (ky q + 1 - x) x k (by omega) (by omega) (fun z a b => ?_)
          by_cases ez : z = ky q
          · rw [ez, hE.2.1]; exact hg
          · exact habs2 z a (by omega)
end
section
/-! the constructors -/
theorem in_FS {f : Nat → Int32} {M : Nat} (h : ∀ j, j < M → f j = nI (M - 1 - j)) : ∀ (n a : Nat), a + n = M → tr_FS f (List.range' a n)
  | 0, a, _ => trivial
  | n + 1, a, e => by
    rw [List.range'_succ]
    refine ⟨?_, in_FS h n (a + 1) (by omega)⟩
    rw [List.length_range', h n (by omega)]
    exact congrArg nI (by omega)
theorem in_FS1 {f : Nat → Int32} {M : Nat} (h : ∀ j, j < M → f j = nI (M - j)) : ∀ (n a : Nat), a + n = M + 1 → 0 < a → tr_FS f (List.range' a n)
  | 0, a, _, _ => trivial
  | n + 1, a, e, h0 => by
    rw [List.range'_succ]
    refine ⟨?_, in_FS1 h n (a + 1) (by omega) (by omega)⟩
    rw [List.length_range', h n (by omega)]
    exact congrArg nI (by omega)
def in_C (p : Nat) : List (Nat × Nat) := if p = 0 then [(48, 1000)] else []
theorem in_rel {s c : Nat} {rf ow pe : Nat → Int32} (hs2 : 2 ≤ s) (hs5 : s ≤ 5) (hc : c ≤ 48) (hrf : ∀ j, j < 48 → rf j = nI (47 - j)) (hpe : ∀ j, j < 63 → pe j = nI (63 - j)) : zz_R (48, -1, 4, 2, 5, 8, 64, 48, nI s, nI c, 0, 48, 63, 0, 1, 0, upd (fun _ => 0) 48 1000, (fun _ => 0), (fun _ => 0), upd (fun _ => 0) 48 48, upd (fun _ => 0) 48 48, (fun _ => 0), (fun _ => 0), (fun _ => 0), ow, (fun _ => 0), (fun _ => 0), rf, upd (fun _ => 0) 0 1, upd (fun _ => 0) 0 48, upd (fun _ => 0) 0 1000, pe, (fun _ => 0), (fun _ => 0), (fun _ => 0), (fun _ => 0), (fun _ => 0), (fun _ => 0), (fun _ => 0), (fun _ => 0), (fun _ => 0), (fun _ => 0), (fun _ => 0), (fun _ => 0), (fun _ => 0), (fun _ => 0)) (nI s, nI c, 0, (fun _ => 0), (fun _ => 0), (fun _ => 0), (fun _ => 0), (fun _ => 0), (fun _ => 0), (fun _ => 0), (fun _ => 0), (fun _ => 0), (fun _ => 0), (fun _ => 0), (fun _ => 0), (fun _ => 0), (fun _ => 0), (fun _ => 0), (fun _ => 0), (fun _ => 0), (fun _ => 0)) := by
  have hT : dd_T s (fun _ => 0) (fun _ => 0) (fun _ => 0) (fun _ => 0) (fun _ => 0) (fun _ => 0) := by
    intro t
    exact ⟨Or.inl rfl, fun _ => ⟨rfl, rfl, rfl⟩, fun z => absurd (show (0 : Int32) = 2 from z) (by decide), fun _ => ⟨rfl, rfl⟩, ⟨0, by omega, rfl⟩⟩
  have hS : rg_S [] (fun _ => 1000) (upd (fun _ => 0) 48 1000) (upd (fun _ => 0) 48 48) (upd (fun _ => 0) 48 48) rf 48 0 := by
    refine ⟨fun r hr => by simp at hr, rfl, fun r hr => ?_, ?_, ?_, ⟨List.range' 0 48, in_FS (M := 48) (fun j hj => by rw [hrf j hj]) 48 0 rfl, by rw [List.length_range']; rfl, ?_⟩, rfl⟩
    · have e : r = 48 := by simpa using hr
      subst e
      rw [pk_us]; rfl
    · exact List.pairwise_cons.mpr ⟨fun a ha => by simp at ha, List.Pairwise.nil⟩
    · refine ⟨fun q l' e => ?_, ⟨fun q l' e => by simp at e, trivial⟩⟩
      have := (List.cons.inj e).1
      subst this
      rw [pk_us]
      exact ⟨rfl, rfl⟩
    · rw [List.nil_append, List.range_eq_range']
  have hR : rg_T (upd (fun _ => 0) 0 1) (upd (fun _ => 0) 0 48) (upd (fun _ => 0) 0 1000) pe 63 0 1 [] (fun _ => 1000) := by
    refine ⟨in_C, [[0]], List.range' 1 63, 0, 1000, ?_, in_FS1 (M := 63) hpe 63 1 rfl (by omega), by rw [List.length_range']; rfl, rfl, rfl, by simp, ?_, ?_, ?_⟩
    · intro p hp
      by_cases e : p = 0
      · subst e
        refine ⟨rfl, by decide, fun i x hx => ?_⟩
        have hx2 : ([(48, 1000)] : List (Nat × Nat))[i]? = some x := hx
        have hi := (List.getElem?_eq_some_iff.mp hx2).1
        have e : i = 0 := by simpa using hi
        subst e
        have ex : (48, 1000) = x := by simpa using hx2
        subst ex
        exact ⟨by decide, by decide, rfl, rfl⟩
      · have ec : in_C p = [] := if_neg e
        rw [ec, pk_un e]
        exact ⟨rfl, by decide, fun i x hx => by simp at hx⟩
    · refine ⟨rfl, rfl⟩
    · intro p hp
      have e : p = 0 := by simpa using hp
      subst e
      exact ⟨by decide, by decide, fun z => absurd z (by decide)⟩
    · have : ([[0]] : List (List Nat)).flatten ++ List.range' 1 63 = List.range 64 := by
        rw [List.range_eq_range']; rfl
      rw [this]
  have hD : dd_D [] (fun _ => 1000) (fun _ => 0) (fun _ => 0) (fun _ => 0) (fun _ => 0) (fun _ => 0) (fun _ => 0) ow (fun _ => 0) (fun _ => 0) (fun _ => 0) (fun _ => 0) (fun _ => 0) (fun _ => 0) (fun _ => 0) (fun _ => 0) (fun _ => 0) := by
    refine ⟨fun r hr => by simp at hr, fun k hk hn => ⟨rfl, rfl, fun t ht => ⟨rfl, rfl⟩⟩, fun r k hF hne t ht => ?_, fun r hr => by simp at hr, fun r hr t hb => ?_, rfl⟩
    · rw [b_0]; rfl
    · rw [b_0] at hb; exact absurd hb (by decide)
  exact zz_in rfl hs2 hs5 rfl hc hT hS hR hD
section
variable {f_END f_NOBODY f_FAN f_FILL f_STRIDE f_DEPTH f_PAGES f_ROWS f_slots f_capacity f_entryCount f_freeRecs f_freePages f_root f_height : Int32} {f_clock : Int64} {a_recKey a_recState a_recValue a_next a_prev a_readers a_writers a_gapReaders a_owner a_baseState a_baseValue a_recFree a_pageFill a_pageSlot a_pageTop a_pageFree a_pathPage a_pathSlot a_phaseOf a_outcomeOf a_used : Nat → Int32} {a_beganAt : Nat → Int64} {a_opKind a_opFirst a_opSecond : Nat → Int32} {a_acceptedAt : Nat → Int64} {a_rowCount a_rowKeys a_rowValues a_reach : Nat → Int32}
theorem in_395 {post : SX → Prop} : ∀ (d i n : Nat) (a_pageFree : Nat → Int32), i + d = 63 → d < n → (∀ j, j < i → a_pageFree j = nI (63 - j)) → (∀ pe, (∀ j, j < 63 → pe j = nI (63 - j)) → post (f_END, f_NOBODY, f_FAN, f_FILL, f_STRIDE, f_DEPTH, f_PAGES, f_ROWS, f_slots, f_capacity, f_entryCount, f_freeRecs, 63, 0, 1, f_clock, upd a_recKey 48 1000, a_recState, a_recValue, upd a_next 48 48, upd a_prev 48 48, a_readers, a_writers, a_gapReaders, a_owner, a_baseState, a_baseValue, a_recFree, upd a_pageFill 0 1, upd a_pageSlot 0 48, upd a_pageTop 0 1000, pe, a_pathPage, a_pathSlot, a_phaseOf, a_outcomeOf, a_used, a_beganAt, a_opKind, a_opFirst, a_opSecond, a_acceptedAt, a_rowCount, a_rowKeys, a_rowValues, a_reach)) → wX_init_395 post f_END f_NOBODY f_FAN f_FILL f_STRIDE f_DEPTH f_PAGES f_ROWS f_slots f_capacity f_entryCount f_freeRecs f_freePages f_root f_height f_clock n (nI i) a_recKey a_recState a_recValue a_next a_prev a_readers a_writers a_gapReaders a_owner a_baseState a_baseValue a_recFree a_pageFill a_pageSlot a_pageTop a_pageFree a_pathPage a_pathSlot a_phaseOf a_outcomeOf a_used a_beganAt a_opKind a_opFirst a_opSecond a_acceptedAt a_rowCount a_rowKeys a_rowValues a_reach
  | 0, i, n + 1, a_pageFree, h1, h2, h3, h => by
    have e : i = 63 := by omega
    subst e
    exact br_t (by decide) (nm_e (nm_e (nm_e (nm_e (nm_e (nm_e (h a_pageFree h3)))))))
  | d + 1, i, n + 1, a_pageFree, h1, h2, h3, h => by
    refine br_f (nI_ge (b := 63) (by omega) (by omega)) ⟨vp_in_nI (by omega) (by omega), ?_⟩
    rw [nI_clamp (by omega), show (63 : Int32) - nI i = nI (63 - i) from pk_sub (a := 63) (by omega)]
    refine nm_e (nm_r (nI_1 i) (in_395 d (i + 1) n _ (by omega) (by omega) (fun j hj => ?_) h))
    by_cases e : j = i
    · subst e; exact pk_us
    · rw [pk_un e]; exact h3 j (by omega)
theorem in_371 {post : SX → Prop} : ∀ (d i n : Nat) (a_owner : Nat → Int32), i + d = 49 → d < n → (∀ ow, ∃ n395 : Nat, wX_init_395 post f_END f_NOBODY f_FAN f_FILL f_STRIDE f_DEPTH f_PAGES f_ROWS f_slots f_capacity f_entryCount f_freeRecs f_freePages f_root f_height f_clock n395 0 a_recKey a_recState a_recValue a_next a_prev a_readers a_writers a_gapReaders ow a_baseState a_baseValue a_recFree a_pageFill a_pageSlot a_pageTop a_pageFree a_pathPage a_pathSlot a_phaseOf a_outcomeOf a_used a_beganAt a_opKind a_opFirst a_opSecond a_acceptedAt a_rowCount a_rowKeys a_rowValues a_reach) → wX_init_371 post f_END f_NOBODY f_FAN f_FILL f_STRIDE f_DEPTH f_PAGES f_ROWS f_slots f_capacity f_entryCount f_freeRecs f_freePages f_root f_height f_clock n (nI i) a_recKey a_recState a_recValue a_next a_prev a_readers a_writers a_gapReaders a_owner a_baseState a_baseValue a_recFree a_pageFill a_pageSlot a_pageTop a_pageFree a_pathPage a_pathSlot a_phaseOf a_outcomeOf a_used a_beganAt a_opKind a_opFirst a_opSecond a_acceptedAt a_rowCount a_rowKeys a_rowValues a_reach
  | 0, i, n + 1, a_owner, h1, h2, h => by
    have e : i = 49 := by omega
    subst e
    exact br_t (by decide) (h a_owner)
  | d + 1, i, n + 1, a_owner, h1, h2, h => by
    refine br_f (nI_nlt (a := 48) (by omega) (by omega)) ⟨vp_in_nI (by omega) (by omega), ?_⟩
    exact nm_e (nm_r (nI_1 i) (in_371 d (i + 1) n _ (by omega) (by omega) h))
theorem in_337 {post : SX → Prop} : ∀ (d i n : Nat) (a_recFree : Nat → Int32), i + d = 48 → d < n → (∀ j, j < i → a_recFree j = nI (47 - j)) → (∀ rf, (∀ j, j < 48 → rf j = nI (47 - j)) → ∃ n371 : Nat, wX_init_371 post f_END f_NOBODY f_FAN f_FILL f_STRIDE f_DEPTH f_PAGES f_ROWS f_slots f_capacity f_entryCount 48 f_freePages f_root f_height f_clock n371 0 a_recKey a_recState a_recValue a_next a_prev a_readers a_writers a_gapReaders a_owner a_baseState a_baseValue rf a_pageFill a_pageSlot a_pageTop a_pageFree a_pathPage a_pathSlot a_phaseOf a_outcomeOf a_used a_beganAt a_opKind a_opFirst a_opSecond a_acceptedAt a_rowCount a_rowKeys a_rowValues a_reach) → wX_init_337 post f_END f_NOBODY f_FAN f_FILL f_STRIDE f_DEPTH f_PAGES f_ROWS f_slots f_capacity f_entryCount f_freeRecs f_freePages f_root f_height f_clock n (nI i) a_recKey a_recState a_recValue a_next a_prev a_readers a_writers a_gapReaders a_owner a_baseState a_baseValue a_recFree a_pageFill a_pageSlot a_pageTop a_pageFree a_pathPage a_pathSlot a_phaseOf a_outcomeOf a_used a_beganAt a_opKind a_opFirst a_opSecond a_acceptedAt a_rowCount a_rowKeys a_rowValues a_reach
  | 0, i, n + 1, a_recFree, h1, h2, h3, h => by
    have e : i = 48 := by omega
    subst e
    exact br_t (by decide) (h a_recFree h3)
  | d + 1, i, n + 1, a_recFree, h1, h2, h3, h => by
    refine br_f (nI_ge (b := 48) (by omega) (by omega)) ⟨vp_in_nI (by omega) (by omega), ?_⟩
    rw [nI_clamp (by omega), show (47 : Int32) - nI i = nI (47 - i) from pk_sub (a := 47) (by omega)]
    refine nm_e (nm_r (nI_1 i) (in_337 d (i + 1) n _ (by omega) (by omega) (fun j hj => ?_) h))
    by_cases e : j = i
    · subst e; exact pk_us
    · rw [pk_un e]; exact h3 j (by omega)
end
theorem in_clamp (x a b : Int32) {m M : Nat} (ha : a = nI m) (hb : b = nI M) (hm : m ≤ M) (hM : M < 1000) : ∃ r, m ≤ r ∧ r ≤ M ∧ (∀ P : Int32 → Prop, P (nI r) → ((a ≤ x → ((x ≤ b → P x) ∧ (¬ x ≤ b → P b))) ∧ (¬ a ≤ x → P a))) := by
  subst ha hb
  by_cases h1 : nI m ≤ x
  · have h0 : ¬ x < 0 := by
      intro h
      have h2 := nI_pos' (n := m) (by omega)
      rw [Int32.le_iff_toInt_le] at h1 h2
      rw [Int32.lt_iff_toInt_lt] at h
      omega
    obtain ⟨j, hj, rfl⟩ := nI_of h0
    rw [nI_leI (by omega) hj] at h1
    by_cases h2 : j ≤ M
    · exact ⟨j, h1, h2, fun P hP => ⟨fun _ => ⟨fun _ => hP, fun c => absurd (nI_le h2 (by omega)) c⟩, fun c => absurd (nI_le h1 hj) c⟩⟩
    · exact ⟨M, hm, Nat.le_refl _, fun P hP => ⟨fun _ => ⟨fun c => absurd ((nI_leI hj (by omega)).mp c) h2, fun _ => hP⟩, fun c => absurd (nI_le h1 hj) c⟩⟩
  · exact ⟨m, Nat.le_refl _, hm, fun P hP => ⟨fun c => absurd c h1, fun _ => hP⟩⟩
theorem i_vc0 (k0 : Int32) (k1 : Int32) : wpX_init (fun u => wpY_init (fun v => i_Rel 2 u v) k0 k1) k0 k1 := by
  obtain ⟨s, s1, s2, hs⟩ := in_clamp k0 2 5 (m := 2) (M := 5) rfl rfl (by omega) (by omega)
  obtain ⟨c, c1, c2, hc⟩ := in_clamp k1 8 48 (m := 8) (M := 48) rfl rfl (by omega) (by omega)
  have hY : ∀ post : SY → Prop, post (nI s, nI c, 0, (fun _ => 0), (fun _ => 0), (fun _ => 0), (fun _ => 0), (fun _ => 0), (fun _ => 0), (fun _ => 0), (fun _ => 0), (fun _ => 0), (fun _ => 0), (fun _ => 0), (fun _ => 0), (fun _ => 0), (fun _ => 0), (fun _ => 0), (fun _ => 0), (fun _ => 0), (fun _ => 0)) → wpY_init post k0 k1 := by
    intro post h
    refine hs (fun S => wY_init_168 post k1 S 0 0 0 (fun _ => 0) (fun _ => 0) (fun _ => 0) (fun _ => 0) (fun _ => 0) (fun _ => 0) (fun _ => 0) (fun _ => 0) (fun _ => 0) (fun _ => 0) (fun _ => 0) (fun _ => 0) (fun _ => 0) (fun _ => 0) (fun _ => 0) (fun _ => 0) (fun _ => 0) (fun _ => 0)) ?_
    exact hc (fun D => post (nI s, D, 0, (fun _ => 0), (fun _ => 0), (fun _ => 0), (fun _ => 0), (fun _ => 0), (fun _ => 0), (fun _ => 0), (fun _ => 0), (fun _ => 0), (fun _ => 0), (fun _ => 0), (fun _ => 0), (fun _ => 0), (fun _ => 0), (fun _ => 0), (fun _ => 0), (fun _ => 0), (fun _ => 0))) h
  have hX : ∀ post : SX → Prop, wX_init_323 post (nI s) (nI c) 48 (-1) 4 2 5 8 64 48 0 0 0 0 0 0 0 0 (fun _ => 0) (fun _ => 0) (fun _ => 0) (fun _ => 0) (fun _ => 0) (fun _ => 0) (fun _ => 0) (fun _ => 0) (fun _ => 0) (fun _ => 0) (fun _ => 0) (fun _ => 0) (fun _ => 0) (fun _ => 0) (fun _ => 0) (fun _ => 0) (fun _ => 0) (fun _ => 0) (fun _ => 0) (fun _ => 0) (fun _ => 0) (fun _ => 0) (fun _ => 0) (fun _ => 0) (fun _ => 0) (fun _ => 0) (fun _ => 0) (fun _ => 0) (fun _ => 0) (fun _ => 0) → wpX_init post k0 k1 := by
    intro post h
    have hC := hc (fun D => wX_init_323 post (nI s) D 48 (-1) 4 2 5 8 64 48 0 0 0 0 0 0 0 0 (fun _ => 0) (fun _ => 0) (fun _ => 0) (fun _ => 0) (fun _ => 0) (fun _ => 0) (fun _ => 0) (fun _ => 0) (fun _ => 0) (fun _ => 0) (fun _ => 0) (fun _ => 0) (fun _ => 0) (fun _ => 0) (fun _ => 0) (fun _ => 0) (fun _ => 0) (fun _ => 0) (fun _ => 0) (fun _ => 0) (fun _ => 0) (fun _ => 0) (fun _ => 0) (fun _ => 0) (fun _ => 0) (fun _ => 0) (fun _ => 0) (fun _ => 0) (fun _ => 0) (fun _ => 0)) h
    have h298 : wX_init_298 post k1 (nI s) 48 (-1) 4 2 5 8 64 48 0 0 0 0 0 0 0 0 (fun _ => 0) (fun _ => 0) (fun _ => 0) (fun _ => 0) (fun _ => 0) (fun _ => 0) (fun _ => 0) (fun _ => 0) (fun _ => 0) (fun _ => 0) (fun _ => 0) (fun _ => 0) (fun _ => 0) (fun _ => 0) (fun _ => 0) (fun _ => 0) (fun _ => 0) (fun _ => 0) (fun _ => 0) (fun _ => 0) (fun _ => 0) (fun _ => 0) (fun _ => 0) (fun _ => 0) (fun _ => 0) (fun _ => 0) (fun _ => 0) (fun _ => 0) (fun _ => 0) (fun _ => 0) :=
      br_c (fun z => hC.1 z) (fun z => br_t (by decide) (hC.2 z))
    have hS := hs (fun S => wX_init_298 post k1 S 48 (-1) 4 2 5 8 64 48 0 0 0 0 0 0 0 0 (fun _ => 0) (fun _ => 0) (fun _ => 0) (fun _ => 0) (fun _ => 0) (fun _ => 0) (fun _ => 0) (fun _ => 0) (fun _ => 0) (fun _ => 0) (fun _ => 0) (fun _ => 0) (fun _ => 0) (fun _ => 0) (fun _ => 0) (fun _ => 0) (fun _ => 0) (fun _ => 0) (fun _ => 0) (fun _ => 0) (fun _ => 0) (fun _ => 0) (fun _ => 0) (fun _ => 0) (fun _ => 0) (fun _ => 0) (fun _ => 0) (fun _ => 0) (fun _ => 0) (fun _ => 0)) h298
    exact br_c (fun z => hS.1 z) (fun z => br_t (by decide) (hS.2 z))
  refine hX _ ⟨49, ?_⟩
  refine in_337 48 0 49 _ (by omega) (by omega) (fun j hj => by omega) (fun rf hrf => ⟨50, ?_⟩)
  refine in_371 49 0 50 _ (by omega) (by omega) (fun ow => ⟨64, ?_⟩)
  refine in_395 63 0 64 _ (by omega) (by omega) (fun j hj => by omega) (fun pe hpe => ?_)
  exact hY _ (in_rel s1 s2 c2 hrf hpe)
end
section
/-! the calls that change -/
section
variable {f_END f_NOBODY f_FAN f_FILL f_STRIDE f_DEPTH f_PAGES f_ROWS f_slots f_capacity f_entryCount f_freeRecs f_freePages f_root f_height : Int32} {f_clock : Int64} {a_recKey a_recState a_recValue a_next a_prev a_readers a_writers a_gapReaders a_owner a_baseState a_baseValue a_recFree a_pageFill a_pageSlot a_pageTop a_pageFree a_pathPage a_pathSlot a_phaseOf a_outcomeOf a_used : Nat → Int32} {a_beganAt : Nat → Int64} {a_opKind a_opFirst a_opSecond : Nat → Int32} {a_acceptedAt : Nat → Int64} {a_rowCount a_rowKeys a_rowValues a_reach : Nat → Int32}
theorem xw_slot1 {post : Int32 → Prop} {s t : Nat} (hs : f_slots = nI s) (hs5 : s ≤ 5) (ht : t < s) (h : post 1) : wpX_isSlot post (f_END, f_NOBODY, f_FAN, f_FILL, f_STRIDE, f_DEPTH, f_PAGES, f_ROWS, f_slots, f_capacity, f_entryCount, f_freeRecs, f_freePages, f_root, f_height, f_clock, a_recKey, a_recState, a_recValue, a_next, a_prev, a_readers, a_writers, a_gapReaders, a_owner, a_baseState, a_baseValue, a_recFree, a_pageFill, a_pageSlot, a_pageTop, a_pageFree, a_pathPage, a_pathSlot, a_phaseOf, a_outcomeOf, a_used, a_beganAt, a_opKind, a_opFirst, a_opSecond, a_acceptedAt, a_rowCount, a_rowKeys, a_rowValues, a_reach) (nI t) := by
  subst hs
  exact br_f (nI_pos (by omega)) (br_f (nI_ge ht (by omega)) h)
theorem xw_slot0 {post : Int32 → Prop} {x : Int32} (hx : x < 0 ∨ f_slots ≤ x) (h : post 0) : wpX_isSlot post (f_END, f_NOBODY, f_FAN, f_FILL, f_STRIDE, f_DEPTH, f_PAGES, f_ROWS, f_slots, f_capacity, f_entryCount, f_freeRecs, f_freePages, f_root, f_height, f_clock, a_recKey, a_recState, a_recValue, a_next, a_prev, a_readers, a_writers, a_gapReaders, a_owner, a_baseState, a_baseValue, a_recFree, a_pageFill, a_pageSlot, a_pageTop, a_pageFree, a_pathPage, a_pathSlot, a_phaseOf, a_outcomeOf, a_used, a_beganAt, a_opKind, a_opFirst, a_opSecond, a_acceptedAt, a_rowCount, a_rowKeys, a_rowValues, a_reach) x :=
  br_c (fun _ => h) (fun z => br_t (hx.resolve_left z) h)
theorem xw_key1 {post : Int32 → Prop} {k : Nat} (hk : k < 1000) (h : post 1) : wpX_isKey post (f_END, f_NOBODY, f_FAN, f_FILL, f_STRIDE, f_DEPTH, f_PAGES, f_ROWS, f_slots, f_capacity, f_entryCount, f_freeRecs, f_freePages, f_root, f_height, f_clock, a_recKey, a_recState, a_recValue, a_next, a_prev, a_readers, a_writers, a_gapReaders, a_owner, a_baseState, a_baseValue, a_recFree, a_pageFill, a_pageSlot, a_pageTop, a_pageFree, a_pathPage, a_pathSlot, a_phaseOf, a_outcomeOf, a_used, a_beganAt, a_opKind, a_opFirst, a_opSecond, a_acceptedAt, a_rowCount, a_rowKeys, a_rowValues, a_reach) (nI k) :=
  br_f (nI_pos (by omega)) (br_f (nI_ge (b := 1000) hk (by omega)) h)
theorem xw_key0 {post : Int32 → Prop} {x : Int32} (hx : x < 0 ∨ 1000 ≤ x) (h : post 0) : wpX_isKey post (f_END, f_NOBODY, f_FAN, f_FILL, f_STRIDE, f_DEPTH, f_PAGES, f_ROWS, f_slots, f_capacity, f_entryCount, f_freeRecs, f_freePages, f_root, f_height, f_clock, a_recKey, a_recState, a_recValue, a_next, a_prev, a_readers, a_writers, a_gapReaders, a_owner, a_baseState, a_baseValue, a_recFree, a_pageFill, a_pageSlot, a_pageTop, a_pageFree, a_pathPage, a_pathSlot, a_phaseOf, a_outcomeOf, a_used, a_beganAt, a_opKind, a_opFirst, a_opSecond, a_acceptedAt, a_rowCount, a_rowKeys, a_rowValues, a_reach) x :=
  br_c (fun _ => h) (fun z => br_t (hx.resolve_left z) h)
end
section
variable {g_slots g_capacity : Int32} {g_clock : Int64} {b_states b_values b_reads b_writes b_touched b_beforeStates b_beforeValues b_phases b_outcomes b_used b_kinds b_firsts b_seconds : Nat → Int32} {b_begun b_accepted : Nat → Int64} {b_rowCounts b_rowKeys b_rowValues : Nat → Int32}
theorem yw_slot0 {post : Int32 → Prop} {x : Int32} (hx : x < 0 ∨ g_slots ≤ x) (h : post 0) : wpY_isSlot post (g_slots, g_capacity, g_clock, b_states, b_values, b_reads, b_writes, b_touched, b_beforeStates, b_beforeValues, b_phases, b_outcomes, b_used, b_kinds, b_firsts, b_seconds, b_begun, b_accepted, b_rowCounts, b_rowKeys, b_rowValues) x :=
  br_c (fun _ => h) (fun z => br_t (hx.resolve_left z) h)
theorem yw_key1 {post : Int32 → Prop} {k : Nat} (hk : k < 1000) (h : post 1) : wpY_isKey post (g_slots, g_capacity, g_clock, b_states, b_values, b_reads, b_writes, b_touched, b_beforeStates, b_beforeValues, b_phases, b_outcomes, b_used, b_kinds, b_firsts, b_seconds, b_begun, b_accepted, b_rowCounts, b_rowKeys, b_rowValues) (nI k) :=
  br_f (nI_pos (by omega)) (br_f (nI_ge (b := 1000) hk (by omega)) h)
theorem yw_key0 {post : Int32 → Prop} {x : Int32} (hx : x < 0 ∨ 1000 ≤ x) (h : post 0) : wpY_isKey post (g_slots, g_capacity, g_clock, b_states, b_values, b_reads, b_writes, b_touched, b_beforeStates, b_beforeValues, b_phases, b_outcomes, b_used, b_kinds, b_firsts, b_seconds, b_begun, b_accepted, b_rowCounts, b_rowKeys, b_rowValues) x :=
  br_c (fun _ => h) (fun z => br_t (hx.resolve_left z) h)
end
theorem zz_slot (x F : Int32) {s : Nat} (hs : F = nI s) (hs5 : s ≤ 5) : (x < 0 ∨ F ≤ x) ∨ ∃ t, t < s ∧ x = nI t := by
  rcases pk_ix x (n := s) (by omega) with h | h | h
  · exact Or.inl (Or.inl h)
  · exact Or.inl (Or.inr (by rw [hs]; exact h))
  · exact Or.inr h
theorem zz_key (x : Int32) : (x < 0 ∨ 1000 ≤ x) ∨ ∃ k, k < 1000 ∧ x = nI k := by
  rcases pk_ix x (n := 1000) (by omega) with h | h | h
  · exact Or.inl (Or.inl h)
  · exact Or.inl (Or.inr h)
  · exact Or.inr h
theorem dd_Ts {s t k : Nat} {ph kd fi se us rc : Nat → Int32} {K SE x : Int32} (hT : dd_T s ph kd fi se us rc) (ht : t < s) (hk : k < 1000) (hK : K = 1 ∨ K = 2 ∨ K = 3 ∨ K = 4 ∨ (K = 5 ∧ ∃ h, SE = nI h ∧ k ≤ h ∧ h < 1000)) : dd_T s (upd ph t 2) (upd kd t K) (upd fi t (nI k)) (upd se t SE) (upd us t x) (upd rc t 0) := by
  intro u
  by_cases e : u = t
  · subst e
    rw [pk_us, pk_us, pk_us, pk_us, pk_us, pk_us]
    exact ⟨Or.inr ⟨ht, Or.inr rfl⟩, fun z => absurd rfl z, fun _ => ⟨rfl, k, hk, rfl, hK⟩, fun z => absurd z (by decide), ⟨0, by omega, rfl⟩⟩
  · rw [pk_un e, pk_un e, pk_un e, pk_un e, pk_un e, pk_un e]
    exact hT u
theorem dd_ph2 {ph : Nat → Int32} {t : Nat} : ∀ u, ph u ≠ 0 → upd ph t 2 u ≠ 0 := by
  intro u hu
  by_cases e : u = t
  · subst e; rw [pk_us]; decide
  · rw [pk_un e]; exact hu
theorem dd_Tb {s t : Nat} {ph kd fi se us rc : Nat → Int32} (hT : dd_T s ph kd fi se us rc) (ht : t < s) (h0 : ph t = 0) : dd_T s (upd ph t 1) kd fi se (upd us t 0) (upd rc t 0) := by
  intro u
  by_cases e : u = t
  · subst e
    rw [pk_us, pk_us, pk_us]
    refine ⟨Or.inr ⟨ht, Or.inl rfl⟩, fun _ => (hT u).2.1 (by rw [h0]; decide), fun z => absurd z (by decide), fun z => absurd z (by decide), ⟨0, by omega, rfl⟩⟩
  · rw [pk_un e, pk_un e, pk_un e]
    exact hT u
theorem zz_settleN {u : SX} {v : SY} (I : zz_R u v) (post : SX → Prop) (h : ∀ (f_END f_NOBODY f_FAN f_FILL f_STRIDE f_DEPTH f_PAGES f_ROWS f_slots f_capacity f_entryCount f_freeRecs f_freePages f_root f_height : Int32) (f_clock : Int64) (a_recKey a_recState a_recValue a_next a_prev a_readers a_writers a_gapReaders a_owner a_baseState a_baseValue a_recFree a_pageFill a_pageSlot a_pageTop a_pageFree a_pathPage a_pathSlot a_phaseOf a_outcomeOf a_used : Nat → Int32) (a_beganAt : Nat → Int64) (a_opKind a_opFirst a_opSecond : Nat → Int32) (a_acceptedAt : Nat → Int64) (a_rowCount a_rowKeys a_rowValues a_reach : Nat → Int32) (b_states b_values b_reads b_writes b_touched b_beforeStates b_beforeValues : Nat → Int32), zz_R (f_END, f_NOBODY, f_FAN, f_FILL, f_STRIDE, f_DEPTH, f_PAGES, f_ROWS, f_slots, f_capacity, f_entryCount, f_freeRecs, f_freePages, f_root, f_height, f_clock, a_recKey, a_recState, a_recValue, a_next, a_prev, a_readers, a_writers, a_gapReaders, a_owner, a_baseState, a_baseValue, a_recFree, a_pageFill, a_pageSlot, a_pageTop, a_pageFree, a_pathPage, a_pathSlot, a_phaseOf, a_outcomeOf, a_used, a_beganAt, a_opKind, a_opFirst, a_opSecond, a_acceptedAt, a_rowCount, a_rowKeys, a_rowValues, a_reach) (f_slots, f_capacity, f_clock, b_states, b_values, b_reads, b_writes, b_touched, b_beforeStates, b_beforeValues, a_phaseOf, a_outcomeOf, a_used, a_opKind, a_opFirst, a_opSecond, a_beganAt, a_acceptedAt, a_rowCount, a_rowKeys, a_rowValues) → (∀ q : SY → Prop, q (f_slots, f_capacity, f_clock, b_states, b_values, b_reads, b_writes, b_touched, b_beforeStates, b_beforeValues, a_phaseOf, a_outcomeOf, a_used, a_opKind, a_opFirst, a_opSecond, a_beganAt, a_acceptedAt, a_rowCount, a_rowKeys, a_rowValues) → wpY_settle q v) → post (f_END, f_NOBODY, f_FAN, f_FILL, f_STRIDE, f_DEPTH, f_PAGES, f_ROWS, f_slots, f_capacity, f_entryCount, f_freeRecs, f_freePages, f_root, f_height, f_clock, a_recKey, a_recState, a_recValue, a_next, a_prev, a_readers, a_writers, a_gapReaders, a_owner, a_baseState, a_baseValue, a_recFree, a_pageFill, a_pageSlot, a_pageTop, a_pageFree, a_pathPage, a_pathSlot, a_phaseOf, a_outcomeOf, a_used, a_beganAt, a_opKind, a_opFirst, a_opSecond, a_acceptedAt, a_rowCount, a_rowKeys, a_rowValues, a_reach)) : wpX_settle post u := by
  refine zz_settle I post (fun u' v' hR hY => ?_)
  refine zz_el (P := fun u' v' => zz_R u' v' → (∀ q : SY → Prop, q v' → wpY_settle q v) → post u') ?_ hR hR hY
  intro f_END f_NOBODY f_FAN f_FILL f_STRIDE f_DEPTH f_PAGES f_ROWS f_slots f_capacity f_entryCount f_freeRecs f_freePages f_root f_height f_clock a_recKey a_recState a_recValue a_next a_prev a_readers a_writers a_gapReaders a_owner a_baseState a_baseValue a_recFree a_pageFill a_pageSlot a_pageTop a_pageFree a_pathPage a_pathSlot a_phaseOf a_outcomeOf a_used a_beganAt a_opKind a_opFirst a_opSecond a_acceptedAt a_rowCount a_rowKeys a_rowValues a_reach b_states b_values b_reads b_writes b_touched b_beforeStates b_beforeValues s c L ky h1 h2 h3 h4 h5 hT hS hR hD hR hY
  exact h _ _ _ _ _ _ _ _ _ _ _ _ _ _ _ _ _ _ _ _ _ _ _ _ _ _ _ _ _ _ _ _ _ _ _ _ _ _ _ _ _ _ _ _ _ _ _ _ _ _ _ _ _ hR hY
theorem i_vc_begin {k : Nat} {u : SX} {v : SY} (I : i_Rel k u v) (hk : k + 4 ≤ 2050) (v1 : Int32) : wpX_begin (fun r u' => wpY_begin (fun r' v' => r' = r ∧ i_Rel (k + 4) u' v') v v1) u v1 := by
  refine zz_el (P := fun u v => wpX_begin (fun r u' => wpY_begin (fun r' v' => r' = r ∧ zz_R u' v') v v1) u v1) ?_ I
  intro f_END f_NOBODY f_FAN f_FILL f_STRIDE f_DEPTH f_PAGES f_ROWS f_slots f_capacity f_entryCount f_freeRecs f_freePages f_root f_height f_clock a_recKey a_recState a_recValue a_next a_prev a_readers a_writers a_gapReaders a_owner a_baseState a_baseValue a_recFree a_pageFill a_pageSlot a_pageTop a_pageFree a_pathPage a_pathSlot a_phaseOf a_outcomeOf a_used a_beganAt a_opKind a_opFirst a_opSecond a_acceptedAt a_rowCount a_rowKeys a_rowValues a_reach b_states b_values b_reads b_writes b_touched b_beforeStates b_beforeValues s c L ky h1 h2 h3 h4 h5 hT hS hR hD
  have I' : zz_R (f_END, f_NOBODY, f_FAN, f_FILL, f_STRIDE, f_DEPTH, f_PAGES, f_ROWS, f_slots, f_capacity, f_entryCount, f_freeRecs, f_freePages, f_root, f_height, f_clock, a_recKey, a_recState, a_recValue, a_next, a_prev, a_readers, a_writers, a_gapReaders, a_owner, a_baseState, a_baseValue, a_recFree, a_pageFill, a_pageSlot, a_pageTop, a_pageFree, a_pathPage, a_pathSlot, a_phaseOf, a_outcomeOf, a_used, a_beganAt, a_opKind, a_opFirst, a_opSecond, a_acceptedAt, a_rowCount, a_rowKeys, a_rowValues, a_reach) (f_slots, f_capacity, f_clock, b_states, b_values, b_reads, b_writes, b_touched, b_beforeStates, b_beforeValues, a_phaseOf, a_outcomeOf, a_used, a_opKind, a_opFirst, a_opSecond, a_beganAt, a_acceptedAt, a_rowCount, a_rowKeys, a_rowValues) := zz_in h1 h2 h3 h4 h5 hT hS hR hD
  rcases zz_slot v1 f_slots h1 h3 with hb | ⟨t, ht, rfl⟩
  · unfold wpX_begin
    refine xw_slot0 hb (br_t rfl ?_)
    unfold wpY_begin
    exact yw_slot0 hb (br_t rfl ⟨rfl, I'⟩)
  · have ht5 : t < 5 := by omega
    have vt : vp_in (nI t) 5 := vp_in_nI ht5 (by omega)
    have ct : (nI t).toNatClampNeg = t := nI_clamp (by omega)
    unfold wpX_begin
    refine xw_slot1 h1 h3 ht (br_f (by decide) ⟨vt, ?_⟩)
    rw [ct]
    by_cases p0 : a_phaseOf t = 0
    · refine br_t p0 ⟨vt, nm_e ⟨vt, nm_e ⟨vt, nm_e ⟨vt, nm_e (nm_e ⟨vt, nm_e ?_⟩)⟩⟩⟩⟩
      unfold wpY_begin
      refine yw_isSlot h1 h3 ht (br_f (by decide) ⟨vt, ?_⟩)
      rw [ct]
      refine br_t p0 (yw_end ht5 ⟨vt, ?_⟩)
      have h0 := (hT t).2.1 (by rw [p0]; decide)
      rw [dd_uu, dd_upd_id h0.1, dd_upd_id h0.2.1, dd_upd_id h0.2.2]
      refine nm_e ⟨vt, nm_e (nm_e ⟨vt, nm_e ⟨rfl, ?_⟩⟩)⟩
      have hbt : ∀ (x : Int32), bt x t = false → x = x &&& (((1 : Int32) <<< (nI t &&& 31)) ^^^ (-1)) := by
        intro x hx
        refine b_ext (fun i _ => ?_)
        rw [bk_keep (by omega)]
        by_cases e : i = t
        · subst e; rw [hx]; rfl
        · simp [e]
      have hrw : ∀ r ∈ L, bt (a_readers r) t = false ∧ bt (a_writers r) t = false := by
        intro r hr
        refine ⟨?_, ?_⟩
        · cases hb : bt (a_readers r) t
          · rfl
          · exact absurd p0 (hD.2.2.2.1 r hr t (Or.inl hb))
        · cases hb : bt (a_writers r) t
          · rfl
          · exact absurd p0 (hD.2.2.2.1 r hr t (Or.inr hb))
      refine zz_in h1 h2 h3 h4 h5 (dd_Tb hT ht p0) hS hR (dd_end hS hD ht5 (fun r hr => hbt _ (hrw r hr).1) (fun r hr => hbt _ (hrw r hr).2) rfl (fun r hr => hbt _ ?_) (fun r hr => ?_) (fun u hu => pk_un hu))
      · cases hb : bt (a_gapReaders r) t
        · rfl
        · exact absurd p0 (hD.2.2.2.2.1 r hr t hb)
      · rw [if_neg]
        intro z
        have := ((hD.1 r hr).2.2.2.1 t ht5).2.2.2 z
        rw [(hrw r hr).2] at this
        exact absurd this.1 (by decide)
    · refine br_f p0 ?_
      unfold wpY_begin
      refine yw_isSlot h1 h3 ht (br_f (by decide) ⟨vt, ?_⟩)
      rw [ct]
      exact br_f p0 ⟨rfl, I'⟩
section
variable {f_END f_NOBODY f_FAN f_FILL f_STRIDE f_DEPTH f_PAGES f_ROWS f_slots f_capacity f_entryCount f_freeRecs f_freePages f_root f_height : Int32} {f_clock : Int64} {a_recKey a_recState a_recValue a_next a_prev a_readers a_writers a_gapReaders a_owner a_baseState a_baseValue a_recFree a_pageFill a_pageSlot a_pageTop a_pageFree a_pathPage a_pathSlot a_phaseOf a_outcomeOf a_used : Nat → Int32} {a_beganAt : Nat → Int64} {a_opKind a_opFirst a_opSecond : Nat → Int32} {a_acceptedAt : Nat → Int64} {a_rowCount a_rowKeys a_rowValues a_reach : Nat → Int32} {b_states b_values b_reads b_writes b_touched b_beforeStates b_beforeValues : Nat → Int32}
theorem zz_sub {post : Int32 → SX → Prop} {s c t k : Nat} {L : List Nat} {ky : Nat → Nat} {K SE : Int32} (h1 : f_slots = nI s) (h2 : 2 ≤ s) (h3 : s ≤ 5) (h4 : f_capacity = nI c) (h5 : c ≤ 48) (hT : dd_T s a_phaseOf a_opKind a_opFirst a_opSecond a_used a_rowCount) (hS : rg_S L ky a_recKey a_next a_prev a_recFree f_freeRecs f_entryCount) (hR : rg_T a_pageFill a_pageSlot a_pageTop a_pageFree f_freePages f_root f_height L ky) (hD : dd_D L ky a_phaseOf a_recState a_recValue a_readers a_writers a_gapReaders a_owner a_baseState a_baseValue b_states b_values b_reads b_writes b_touched b_beforeStates b_beforeValues) (ht : t < s) (hk : k < 1000) (hK : K = 1 ∨ K = 2 ∨ K = 3 ∨ K = 4 ∨ (K = 5 ∧ ∃ h, SE = nI h ∧ k ≤ h ∧ h < 1000)) (h : ∀ r u' v', zz_R u' v' → (∀ q : Int32 → SY → Prop, q r v' → wpY_operate q (f_slots, f_capacity, f_clock, b_states, b_values, b_reads, b_writes, b_touched, b_beforeStates, b_beforeValues, a_phaseOf, a_outcomeOf, a_used, a_opKind, a_opFirst, a_opSecond, a_beganAt, a_acceptedAt, a_rowCount, a_rowKeys, a_rowValues) (nI t) K (nI k) SE) → post r u') : wpX_submit post (f_END, f_NOBODY, f_FAN, f_FILL, f_STRIDE, f_DEPTH, f_PAGES, f_ROWS, f_slots, f_capacity, f_entryCount, f_freeRecs, f_freePages, f_root, f_height, f_clock, a_recKey, a_recState, a_recValue, a_next, a_prev, a_readers, a_writers, a_gapReaders, a_owner, a_baseState, a_baseValue, a_recFree, a_pageFill, a_pageSlot, a_pageTop, a_pageFree, a_pathPage, a_pathSlot, a_phaseOf, a_outcomeOf, a_used, a_beganAt, a_opKind, a_opFirst, a_opSecond, a_acceptedAt, a_rowCount, a_rowKeys, a_rowValues, a_reach) (nI t) K (nI k) SE := by
  have ht5 : t < 5 := by omega
  have vt : vp_in (nI t) 5 := vp_in_nI ht5 (by omega)
  have ct : (nI t).toNatClampNeg = t := nI_clamp (by omega)
  have I' : zz_R (f_END, f_NOBODY, f_FAN, f_FILL, f_STRIDE, f_DEPTH, f_PAGES, f_ROWS, f_slots, f_capacity, f_entryCount, f_freeRecs, f_freePages, f_root, f_height, f_clock, a_recKey, a_recState, a_recValue, a_next, a_prev, a_readers, a_writers, a_gapReaders, a_owner, a_baseState, a_baseValue, a_recFree, a_pageFill, a_pageSlot, a_pageTop, a_pageFree, a_pathPage, a_pathSlot, a_phaseOf, a_outcomeOf, a_used, a_beganAt, a_opKind, a_opFirst, a_opSecond, a_acceptedAt, a_rowCount, a_rowKeys, a_rowValues, a_reach) (f_slots, f_capacity, f_clock, b_states, b_values, b_reads, b_writes, b_touched, b_beforeStates, b_beforeValues, a_phaseOf, a_outcomeOf, a_used, a_opKind, a_opFirst, a_opSecond, a_beganAt, a_acceptedAt, a_rowCount, a_rowKeys, a_rowValues) := zz_in h1 h2 h3 h4 h5 hT hS hR hD
  refine ⟨vt, ?_⟩
  rw [ct]
  refine br_c (fun p0 => h 9 _ _ I' (fun q hq => ⟨vt, ?_⟩)) (fun p0 => ⟨vt, br_c (fun p2 => h 8 _ _ I' (fun q hq => ⟨vt, ?_⟩)) (fun p2 => ⟨vt, br_c (fun hu => ⟨vt, vt, nm_e ⟨vt, nm_e ⟨vt, nm_e ⟨vt, nm_e ⟨vt, nm_e (nm_e ⟨vt, nm_e ⟨vt, nm_e ⟨vt, nm_e ?_⟩⟩⟩)⟩⟩⟩⟩⟩) (fun hu => h 10 _ _ I' (fun q hq => ⟨vt, ?_⟩))⟩)⟩)
  · rw [ct]; exact br_t p0 hq
  · rw [ct]; exact br_f p0 ⟨vt, br_t p2 hq⟩
  · have I2 : zz_R (f_END, f_NOBODY, f_FAN, f_FILL, f_STRIDE, f_DEPTH, f_PAGES, f_ROWS, f_slots, f_capacity, f_entryCount, f_freeRecs, f_freePages, f_root, f_height, f_clock + 1, a_recKey, a_recState, a_recValue, a_next, a_prev, a_readers, a_writers, a_gapReaders, a_owner, a_baseState, a_baseValue, a_recFree, a_pageFill, a_pageSlot, a_pageTop, a_pageFree, a_pathPage, a_pathSlot, upd a_phaseOf t 2, upd a_outcomeOf t 6, upd a_used t (a_used t + 1), a_beganAt, upd a_opKind t K, upd a_opFirst t (nI k), upd a_opSecond t SE, vp_updL a_acceptedAt t (f_clock + 1), upd a_rowCount t 0, a_rowKeys, a_rowValues, a_reach) (f_slots, f_capacity, f_clock + 1, b_states, b_values, b_reads, b_writes, b_touched, b_beforeStates, b_beforeValues, upd a_phaseOf t 2, upd a_outcomeOf t 6, upd a_used t (a_used t + 1), upd a_opKind t K, upd a_opFirst t (nI k), upd a_opSecond t SE, a_beganAt, vp_updL a_acceptedAt t (f_clock + 1), upd a_rowCount t 0, a_rowKeys, a_rowValues) := zz_in h1 h2 h3 h4 h5 (dd_Ts hT ht hk hK) hS hR (dd_ph dd_ph2 hD)
    refine zz_settleN I2 _ ?_
    intro e_END e_NOBODY e_FAN e_FILL e_STRIDE e_DEPTH e_PAGES e_ROWS e_slots e_capacity e_entryCount e_freeRecs e_freePages e_root e_height e_clock c_recKey c_recState c_recValue c_next c_prev c_readers c_writers c_gapReaders c_owner c_baseState c_baseValue c_recFree c_pageFill c_pageSlot c_pageTop c_pageFree c_pathPage c_pathSlot c_phaseOf c_outcomeOf c_used c_beganAt c_opKind c_opFirst c_opSecond c_acceptedAt c_rowCount c_rowKeys c_rowValues c_reach d_states d_values d_reads d_writes d_touched d_beforeStates d_beforeValues hR2 hY
    refine ⟨vt, h _ _ _ hR2 (fun q hq => ⟨vt, ?_⟩)⟩
    rw [ct]
    refine br_f p0 ⟨vt, br_f p2 ⟨vt, br_t hu ⟨vt, vt, nm_e ⟨vt, nm_e ⟨vt, nm_e ⟨vt, nm_e ⟨vt, nm_e (nm_e ⟨vt, nm_e ⟨vt, nm_e ⟨vt, nm_e (hY _ ⟨vt, ?_⟩)⟩⟩⟩)⟩⟩⟩⟩⟩⟩⟩
    exact hq
  · rw [ct]; exact br_f p0 ⟨vt, br_f p2 ⟨vt, br_f hu hq⟩⟩
end
theorem i_vc_insert {k : Nat} {u : SX} {v : SY} (I : i_Rel k u v) (hk : k + 4 ≤ 2050) (v1 : Int32) (v2 : Int32) (v3 : Int32) : wpX_insert (fun r u' => wpY_insert (fun r' v' => r' = r ∧ i_Rel (k + 4) u' v') v v1 v2 v3) u v1 v2 v3 := by
  refine zz_el (P := fun u v => wpX_insert (fun r u' => wpY_insert (fun r' v' => r' = r ∧ zz_R u' v') v v1 v2 v3) u v1 v2 v3) ?_ I
  intro f_END f_NOBODY f_FAN f_FILL f_STRIDE f_DEPTH f_PAGES f_ROWS f_slots f_capacity f_entryCount f_freeRecs f_freePages f_root f_height f_clock a_recKey a_recState a_recValue a_next a_prev a_readers a_writers a_gapReaders a_owner a_baseState a_baseValue a_recFree a_pageFill a_pageSlot a_pageTop a_pageFree a_pathPage a_pathSlot a_phaseOf a_outcomeOf a_used a_beganAt a_opKind a_opFirst a_opSecond a_acceptedAt a_rowCount a_rowKeys a_rowValues a_reach b_states b_values b_reads b_writes b_touched b_beforeStates b_beforeValues s c L ky h1 h2 h3 h4 h5 hT hS hR hD
  have I' : zz_R (f_END, f_NOBODY, f_FAN, f_FILL, f_STRIDE, f_DEPTH, f_PAGES, f_ROWS, f_slots, f_capacity, f_entryCount, f_freeRecs, f_freePages, f_root, f_height, f_clock, a_recKey, a_recState, a_recValue, a_next, a_prev, a_readers, a_writers, a_gapReaders, a_owner, a_baseState, a_baseValue, a_recFree, a_pageFill, a_pageSlot, a_pageTop, a_pageFree, a_pathPage, a_pathSlot, a_phaseOf, a_outcomeOf, a_used, a_beganAt, a_opKind, a_opFirst, a_opSecond, a_acceptedAt, a_rowCount, a_rowKeys, a_rowValues, a_reach) (f_slots, f_capacity, f_clock, b_states, b_values, b_reads, b_writes, b_touched, b_beforeStates, b_beforeValues, a_phaseOf, a_outcomeOf, a_used, a_opKind, a_opFirst, a_opSecond, a_beganAt, a_acceptedAt, a_rowCount, a_rowKeys, a_rowValues) := zz_in h1 h2 h3 h4 h5 hT hS hR hD
  unfold wpX_insert
  rcases zz_slot v1 f_slots h1 h3 with hb | ⟨t, ht, rfl⟩
  · refine xw_slot0 hb (br_t rfl ?_)
    unfold wpY_insert
    exact yw_slot0 hb (br_t rfl ⟨rfl, I'⟩)
  · refine xw_slot1 h1 h3 ht (br_f (by decide) ?_)
    rcases zz_key v2 with hb | ⟨j, hj, rfl⟩
    · refine xw_key0 hb (br_t rfl ?_)
      unfold wpY_insert
      exact yw_isSlot h1 h3 ht (br_f (by decide) (yw_key0 hb (br_t rfl ⟨rfl, I'⟩)))
    · refine xw_key1 hj (br_f (by decide) (zz_sub h1 h2 h3 h4 h5 hT hS hR hD ht hj (Or.inl rfl) (fun r u' v' hR2 hY => ?_)))
      have K2 : wpY_insert (fun r' v' => r' = r ∧ zz_R u' v') (f_slots, f_capacity, f_clock, b_states, b_values, b_reads, b_writes, b_touched, b_beforeStates, b_beforeValues, a_phaseOf, a_outcomeOf, a_used, a_opKind, a_opFirst, a_opSecond, a_beganAt, a_acceptedAt, a_rowCount, a_rowKeys, a_rowValues) (nI t) (nI j) v3 := by
        unfold wpY_insert
        exact yw_isSlot h1 h3 ht (br_f (by decide) (yw_key1 hj (br_f (by decide) (hY (fun r' v' => r' = r ∧ zz_R u' v') ⟨rfl, hR2⟩))))
      exact K2
theorem i_vc_delete {k : Nat} {u : SX} {v : SY} (I : i_Rel k u v) (hk : k + 4 ≤ 2050) (v1 : Int32) (v2 : Int32) : wpX_delete (fun r u' => wpY_delete (fun r' v' => r' = r ∧ i_Rel (k + 4) u' v') v v1 v2) u v1 v2 := by
  refine zz_el (P := fun u v => wpX_delete (fun r u' => wpY_delete (fun r' v' => r' = r ∧ zz_R u' v') v v1 v2) u v1 v2) ?_ I
  intro f_END f_NOBODY f_FAN f_FILL f_STRIDE f_DEPTH f_PAGES f_ROWS f_slots f_capacity f_entryCount f_freeRecs f_freePages f_root f_height f_clock a_recKey a_recState a_recValue a_next a_prev a_readers a_writers a_gapReaders a_owner a_baseState a_baseValue a_recFree a_pageFill a_pageSlot a_pageTop a_pageFree a_pathPage a_pathSlot a_phaseOf a_outcomeOf a_used a_beganAt a_opKind a_opFirst a_opSecond a_acceptedAt a_rowCount a_rowKeys a_rowValues a_reach b_states b_values b_reads b_writes b_touched b_beforeStates b_beforeValues s c L ky h1 h2 h3 h4 h5 hT hS hR hD
  have I' : zz_R (f_END, f_NOBODY, f_FAN, f_FILL, f_STRIDE, f_DEPTH, f_PAGES, f_ROWS, f_slots, f_capacity, f_entryCount, f_freeRecs, f_freePages, f_root, f_height, f_clock, a_recKey, a_recState, a_recValue, a_next, a_prev, a_readers, a_writers, a_gapReaders, a_owner, a_baseState, a_baseValue, a_recFree, a_pageFill, a_pageSlot, a_pageTop, a_pageFree, a_pathPage, a_pathSlot, a_phaseOf, a_outcomeOf, a_used, a_beganAt, a_opKind, a_opFirst, a_opSecond, a_acceptedAt, a_rowCount, a_rowKeys, a_rowValues, a_reach) (f_slots, f_capacity, f_clock, b_states, b_values, b_reads, b_writes, b_touched, b_beforeStates, b_beforeValues, a_phaseOf, a_outcomeOf, a_used, a_opKind, a_opFirst, a_opSecond, a_beganAt, a_acceptedAt, a_rowCount, a_rowKeys, a_rowValues) := zz_in h1 h2 h3 h4 h5 hT hS hR hD
  unfold wpX_delete
  rcases zz_slot v1 f_slots h1 h3 with hb | ⟨t, ht, rfl⟩
  · refine xw_slot0 hb (br_t rfl ?_)
    unfold wpY_delete
    exact yw_slot0 hb (br_t rfl ⟨rfl, I'⟩)
  · refine xw_slot1 h1 h3 ht (br_f (by decide) ?_)
    rcases zz_key v2 with hb | ⟨j, hj, rfl⟩
    · refine xw_key0 hb (br_t rfl ?_)
      unfold wpY_delete
      exact yw_isSlot h1 h3 ht (br_f (by decide) (yw_key0 hb (br_t rfl ⟨rfl, I'⟩)))
    · refine xw_key1 hj (br_f (by decide) (zz_sub h1 h2 h3 h4 h5 hT hS hR hD ht hj (Or.inr (Or.inl rfl)) (fun r u' v' hR2 hY => ?_)))
      have K2 : wpY_delete (fun r' v' => r' = r ∧ zz_R u' v') (f_slots, f_capacity, f_clock, b_states, b_values, b_reads, b_writes, b_touched, b_beforeStates, b_beforeValues, a_phaseOf, a_outcomeOf, a_used, a_opKind, a_opFirst, a_opSecond, a_beganAt, a_acceptedAt, a_rowCount, a_rowKeys, a_rowValues) (nI t) (nI j) := by
        unfold wpY_delete
        exact yw_isSlot h1 h3 ht (br_f (by decide) (yw_key1 hj (br_f (by decide) (hY (fun r' v' => r' = r ∧ zz_R u' v') ⟨rfl, hR2⟩))))
      exact K2
theorem i_vc_fetch {k : Nat} {u : SX} {v : SY} (I : i_Rel k u v) (hk : k + 4 ≤ 2050) (v1 : Int32) (v2 : Int32) : wpX_fetch (fun r u' => wpY_fetch (fun r' v' => r' = r ∧ i_Rel (k + 4) u' v') v v1 v2) u v1 v2 := by
  refine zz_el (P := fun u v => wpX_fetch (fun r u' => wpY_fetch (fun r' v' => r' = r ∧ zz_R u' v') v v1 v2) u v1 v2) ?_ I
  intro f_END f_NOBODY f_FAN f_FILL f_STRIDE f_DEPTH f_PAGES f_ROWS f_slots f_capacity f_entryCount f_freeRecs f_freePages f_root f_height f_clock a_recKey a_recState a_recValue a_next a_prev a_readers a_writers a_gapReaders a_owner a_baseState a_baseValue a_recFree a_pageFill a_pageSlot a_pageTop a_pageFree a_pathPage a_pathSlot a_phaseOf a_outcomeOf a_used a_beganAt a_opKind a_opFirst a_opSecond a_acceptedAt a_rowCount a_rowKeys a_rowValues a_reach b_states b_values b_reads b_writes b_touched b_beforeStates b_beforeValues s c L ky h1 h2 h3 h4 h5 hT hS hR hD
  have I' : zz_R (f_END, f_NOBODY, f_FAN, f_FILL, f_STRIDE, f_DEPTH, f_PAGES, f_ROWS, f_slots, f_capacity, f_entryCount, f_freeRecs, f_freePages, f_root, f_height, f_clock, a_recKey, a_recState, a_recValue, a_next, a_prev, a_readers, a_writers, a_gapReaders, a_owner, a_baseState, a_baseValue, a_recFree, a_pageFill, a_pageSlot, a_pageTop, a_pageFree, a_pathPage, a_pathSlot, a_phaseOf, a_outcomeOf, a_used, a_beganAt, a_opKind, a_opFirst, a_opSecond, a_acceptedAt, a_rowCount, a_rowKeys, a_rowValues, a_reach) (f_slots, f_capacity, f_clock, b_states, b_values, b_reads, b_writes, b_touched, b_beforeStates, b_beforeValues, a_phaseOf, a_outcomeOf, a_used, a_opKind, a_opFirst, a_opSecond, a_beganAt, a_acceptedAt, a_rowCount, a_rowKeys, a_rowValues) := zz_in h1 h2 h3 h4 h5 hT hS hR hD
  unfold wpX_fetch
  rcases zz_slot v1 f_slots h1 h3 with hb | ⟨t, ht, rfl⟩
  · refine xw_slot0 hb (br_t rfl ?_)
    unfold wpY_fetch
    exact yw_slot0 hb (br_t rfl ⟨rfl, I'⟩)
  · refine xw_slot1 h1 h3 ht (br_f (by decide) ?_)
    rcases zz_key v2 with hb | ⟨j, hj, rfl⟩
    · refine xw_key0 hb (br_t rfl ?_)
      unfold wpY_fetch
      exact yw_isSlot h1 h3 ht (br_f (by decide) (yw_key0 hb (br_t rfl ⟨rfl, I'⟩)))
    · refine xw_key1 hj (br_f (by decide) (zz_sub h1 h2 h3 h4 h5 hT hS hR hD ht hj (Or.inr (Or.inr (Or.inl rfl))) (fun r u' v' hR2 hY => ?_)))
      have K2 : wpY_fetch (fun r' v' => r' = r ∧ zz_R u' v') (f_slots, f_capacity, f_clock, b_states, b_values, b_reads, b_writes, b_touched, b_beforeStates, b_beforeValues, a_phaseOf, a_outcomeOf, a_used, a_opKind, a_opFirst, a_opSecond, a_beganAt, a_acceptedAt, a_rowCount, a_rowKeys, a_rowValues) (nI t) (nI j) := by
        unfold wpY_fetch
        exact yw_isSlot h1 h3 ht (br_f (by decide) (yw_key1 hj (br_f (by decide) (hY (fun r' v' => r' = r ∧ zz_R u' v') ⟨rfl, hR2⟩))))
      exact K2
theorem i_vc_seek {k : Nat} {u : SX} {v : SY} (I : i_Rel k u v) (hk : k + 4 ≤ 2050) (v1 : Int32) (v2 : Int32) : wpX_seek (fun r u' => wpY_seek (fun r' v' => r' = r ∧ i_Rel (k + 4) u' v') v v1 v2) u v1 v2 := by
  refine zz_el (P := fun u v => wpX_seek (fun r u' => wpY_seek (fun r' v' => r' = r ∧ zz_R u' v') v v1 v2) u v1 v2) ?_ I
  intro f_END f_NOBODY f_FAN f_FILL f_STRIDE f_DEPTH f_PAGES f_ROWS f_slots f_capacity f_entryCount f_freeRecs f_freePages f_root f_height f_clock a_recKey a_recState a_recValue a_next a_prev a_readers a_writers a_gapReaders a_owner a_baseState a_baseValue a_recFree a_pageFill a_pageSlot a_pageTop a_pageFree a_pathPage a_pathSlot a_phaseOf a_outcomeOf a_used a_beganAt a_opKind a_opFirst a_opSecond a_acceptedAt a_rowCount a_rowKeys a_rowValues a_reach b_states b_values b_reads b_writes b_touched b_beforeStates b_beforeValues s c L ky h1 h2 h3 h4 h5 hT hS hR hD
  have I' : zz_R (f_END, f_NOBODY, f_FAN, f_FILL, f_STRIDE, f_DEPTH, f_PAGES, f_ROWS, f_slots, f_capacity, f_entryCount, f_freeRecs, f_freePages, f_root, f_height, f_clock, a_recKey, a_recState, a_recValue, a_next, a_prev, a_readers, a_writers, a_gapReaders, a_owner, a_baseState, a_baseValue, a_recFree, a_pageFill, a_pageSlot, a_pageTop, a_pageFree, a_pathPage, a_pathSlot, a_phaseOf, a_outcomeOf, a_used, a_beganAt, a_opKind, a_opFirst, a_opSecond, a_acceptedAt, a_rowCount, a_rowKeys, a_rowValues, a_reach) (f_slots, f_capacity, f_clock, b_states, b_values, b_reads, b_writes, b_touched, b_beforeStates, b_beforeValues, a_phaseOf, a_outcomeOf, a_used, a_opKind, a_opFirst, a_opSecond, a_beganAt, a_acceptedAt, a_rowCount, a_rowKeys, a_rowValues) := zz_in h1 h2 h3 h4 h5 hT hS hR hD
  unfold wpX_seek
  rcases zz_slot v1 f_slots h1 h3 with hb | ⟨t, ht, rfl⟩
  · refine xw_slot0 hb (br_t rfl ?_)
    unfold wpY_seek
    exact yw_slot0 hb (br_t rfl ⟨rfl, I'⟩)
  · refine xw_slot1 h1 h3 ht (br_f (by decide) ?_)
    rcases zz_key v2 with hb | ⟨j, hj, rfl⟩
    · refine xw_key0 hb (br_t rfl ?_)
      unfold wpY_seek
      exact yw_isSlot h1 h3 ht (br_f (by decide) (yw_key0 hb (br_t rfl ⟨rfl, I'⟩)))
    · refine xw_key1 hj (br_f (by decide) (zz_sub h1 h2 h3 h4 h5 hT hS hR hD ht hj (Or.inr (Or.inr (Or.inr (Or.inl rfl)))) (fun r u' v' hR2 hY => ?_)))
      have K2 : wpY_seek (fun r' v' => r' = r ∧ zz_R u' v') (f_slots, f_capacity, f_clock, b_states, b_values, b_reads, b_writes, b_touched, b_beforeStates, b_beforeValues, a_phaseOf, a_outcomeOf, a_used, a_opKind, a_opFirst, a_opSecond, a_beganAt, a_acceptedAt, a_rowCount, a_rowKeys, a_rowValues) (nI t) (nI j) := by
        unfold wpY_seek
        exact yw_isSlot h1 h3 ht (br_f (by decide) (yw_key1 hj (br_f (by decide) (hY (fun r' v' => r' = r ∧ zz_R u' v') ⟨rfl, hR2⟩))))
      exact K2
end
section
/-! scan, commit, abort, clean -/
theorem i_vc_scan {k : Nat} {u : SX} {v : SY} (I : i_Rel k u v) (hk : k + 4 ≤ 2050) (v1 : Int32) (v2 : Int32) (v3 : Int32) : wpX_scan (fun r u' => wpY_scan (fun r' v' => r' = r ∧ i_Rel (k + 4) u' v') v v1 v2 v3) u v1 v2 v3 := by
  refine zz_el (P := fun u v => wpX_scan (fun r u' => wpY_scan (fun r' v' => r' = r ∧ zz_R u' v') v v1 v2 v3) u v1 v2 v3) ?_ I
  intro f_END f_NOBODY f_FAN f_FILL f_STRIDE f_DEPTH f_PAGES f_ROWS f_slots f_capacity f_entryCount f_freeRecs f_freePages f_root f_height f_clock a_recKey a_recState a_recValue a_next a_prev a_readers a_writers a_gapReaders a_owner a_baseState a_baseValue a_recFree a_pageFill a_pageSlot a_pageTop a_pageFree a_pathPage a_pathSlot a_phaseOf a_outcomeOf a_used a_beganAt a_opKind a_opFirst a_opSecond a_acceptedAt a_rowCount a_rowKeys a_rowValues a_reach b_states b_values b_reads b_writes b_touched b_beforeStates b_beforeValues s c L ky h1 h2 h3 h4 h5 hT hS hR hD
  have I' : zz_R (f_END, f_NOBODY, f_FAN, f_FILL, f_STRIDE, f_DEPTH, f_PAGES, f_ROWS, f_slots, f_capacity, f_entryCount, f_freeRecs, f_freePages, f_root, f_height, f_clock, a_recKey, a_recState, a_recValue, a_next, a_prev, a_readers, a_writers, a_gapReaders, a_owner, a_baseState, a_baseValue, a_recFree, a_pageFill, a_pageSlot, a_pageTop, a_pageFree, a_pathPage, a_pathSlot, a_phaseOf, a_outcomeOf, a_used, a_beganAt, a_opKind, a_opFirst, a_opSecond, a_acceptedAt, a_rowCount, a_rowKeys, a_rowValues, a_reach) (f_slots, f_capacity, f_clock, b_states, b_values, b_reads, b_writes, b_touched, b_beforeStates, b_beforeValues, a_phaseOf, a_outcomeOf, a_used, a_opKind, a_opFirst, a_opSecond, a_beganAt, a_acceptedAt, a_rowCount, a_rowKeys, a_rowValues) := zz_in h1 h2 h3 h4 h5 hT hS hR hD
  unfold wpX_scan
  rcases zz_slot v1 f_slots h1 h3 with hb | ⟨t, ht, rfl⟩
  · refine xw_slot0 hb (br_t rfl ?_)
    unfold wpY_scan
    exact yw_slot0 hb (br_t rfl ⟨rfl, I'⟩)
  · refine xw_slot1 h1 h3 ht (br_f (by decide) ?_)
    rcases zz_key v2 with hb | ⟨j, hj, rfl⟩
    · refine xw_key0 hb (br_t rfl ?_)
      unfold wpY_scan
      exact yw_isSlot h1 h3 ht (br_f (by decide) (yw_key0 hb (br_t rfl ⟨rfl, I'⟩)))
    · refine xw_key1 hj (br_f (by decide) ?_)
      rcases zz_key v3 with hb | ⟨j2, hj2, rfl⟩
      · refine xw_key0 hb (br_t rfl ?_)
        unfold wpY_scan
        exact yw_isSlot h1 h3 ht (br_f (by decide) (yw_key1 hj (br_f (by decide) (yw_key0 hb (br_t rfl ⟨rfl, I'⟩)))))
      · refine xw_key1 hj2 (br_f (by decide) ?_)
        by_cases hle : j ≤ j2
        · have hle' : nI j ≤ nI j2 := nI_le hle (by omega)
          refine br_t hle' (zz_sub h1 h2 h3 h4 h5 hT hS hR hD ht hj (Or.inr (Or.inr (Or.inr (Or.inr ⟨rfl, j2, rfl, hle, hj2⟩)))) (fun r u' v' hR2 hY => ?_))
          have K2 : wpY_scan (fun r' v' => r' = r ∧ zz_R u' v') (f_slots, f_capacity, f_clock, b_states, b_values, b_reads, b_writes, b_touched, b_beforeStates, b_beforeValues, a_phaseOf, a_outcomeOf, a_used, a_opKind, a_opFirst, a_opSecond, a_beganAt, a_acceptedAt, a_rowCount, a_rowKeys, a_rowValues) (nI t) (nI j) (nI j2) := by
            unfold wpY_scan
            exact yw_isSlot h1 h3 ht (br_f (by decide) (yw_key1 hj (br_f (by decide) (yw_key1 hj2 (br_f (by decide) (br_t hle' (hY (fun r' v' => r' = r ∧ zz_R u' v') ⟨rfl, hR2⟩)))))))
          exact K2
        · have hle' : ¬ nI j ≤ nI j2 := nI_ge (by omega) (by omega)
          refine br_f hle' ?_
          unfold wpY_scan
          exact yw_isSlot h1 h3 ht (br_f (by decide) (yw_key1 hj (br_f (by decide) (yw_key1 hj2 (br_f (by decide) (br_f hle' ⟨rfl, I'⟩))))))
theorem i_vc_commit {k : Nat} {u : SX} {v : SY} (I : i_Rel k u v) (hk : k + 4 ≤ 2050) (v1 : Int32) : wpX_commit (fun r u' => wpY_commit (fun r' v' => r' = r ∧ i_Rel (k + 4) u' v') v v1) u v1 := by
  refine zz_el (P := fun u v => wpX_commit (fun r u' => wpY_commit (fun r' v' => r' = r ∧ zz_R u' v') v v1) u v1) ?_ I
  intro f_END f_NOBODY f_FAN f_FILL f_STRIDE f_DEPTH f_PAGES f_ROWS f_slots f_capacity f_entryCount f_freeRecs f_freePages f_root f_height f_clock a_recKey a_recState a_recValue a_next a_prev a_readers a_writers a_gapReaders a_owner a_baseState a_baseValue a_recFree a_pageFill a_pageSlot a_pageTop a_pageFree a_pathPage a_pathSlot a_phaseOf a_outcomeOf a_used a_beganAt a_opKind a_opFirst a_opSecond a_acceptedAt a_rowCount a_rowKeys a_rowValues a_reach b_states b_values b_reads b_writes b_touched b_beforeStates b_beforeValues s c L ky h1 h2 h3 h4 h5 hT hS hR hD
  have I' : zz_R (f_END, f_NOBODY, f_FAN, f_FILL, f_STRIDE, f_DEPTH, f_PAGES, f_ROWS, f_slots, f_capacity, f_entryCount, f_freeRecs, f_freePages, f_root, f_height, f_clock, a_recKey, a_recState, a_recValue, a_next, a_prev, a_readers, a_writers, a_gapReaders, a_owner, a_baseState, a_baseValue, a_recFree, a_pageFill, a_pageSlot, a_pageTop, a_pageFree, a_pathPage, a_pathSlot, a_phaseOf, a_outcomeOf, a_used, a_beganAt, a_opKind, a_opFirst, a_opSecond, a_acceptedAt, a_rowCount, a_rowKeys, a_rowValues, a_reach) (f_slots, f_capacity, f_clock, b_states, b_values, b_reads, b_writes, b_touched, b_beforeStates, b_beforeValues, a_phaseOf, a_outcomeOf, a_used, a_opKind, a_opFirst, a_opSecond, a_beganAt, a_acceptedAt, a_rowCount, a_rowKeys, a_rowValues) := zz_in h1 h2 h3 h4 h5 hT hS hR hD
  unfold wpX_commit
  rcases zz_slot v1 f_slots h1 h3 with hb | ⟨t, ht, rfl⟩
  · refine xw_slot0 hb (br_t rfl ?_)
    unfold wpY_commit
    exact yw_slot0 hb (br_t rfl ⟨rfl, I'⟩)
  · have ht5 : t < 5 := by omega
    have vt : vp_in (nI t) 5 := vp_in_nI ht5 (by omega)
    have ct : (nI t).toNatClampNeg = t := nI_clamp (by omega)
    refine xw_slot1 h1 h3 ht (br_f (by decide) ⟨vt, ?_⟩)
    rw [ct]
    by_cases p0 : a_phaseOf t = 0
    · refine br_t p0 ?_
      unfold wpY_commit
      refine yw_isSlot h1 h3 ht (br_f (by decide) ⟨vt, ?_⟩)
      rw [ct]
      exact br_t p0 ⟨rfl, I'⟩
    · refine br_f p0 ⟨vt, ?_⟩
      by_cases p2 : a_phaseOf t = 2
      · refine br_t p2 ?_
        unfold wpY_commit
        refine yw_isSlot h1 h3 ht (br_f (by decide) ⟨vt, ?_⟩)
        rw [ct]
        exact br_f p0 ⟨vt, br_t p2 ⟨rfl, I'⟩⟩
      · refine br_f p2 (xw_end hS hD ht5 (fun rd wr gr ow hD2 => ?_))
        have I2 : zz_R (f_END, f_NOBODY, f_FAN, f_FILL, f_STRIDE, f_DEPTH, f_PAGES, f_ROWS, f_slots, f_capacity, f_entryCount, f_freeRecs, f_freePages, f_root, f_height, f_clock, a_recKey, a_recState, a_recValue, a_next, a_prev, rd, wr, gr, ow, a_baseState, a_baseValue, a_recFree, a_pageFill, a_pageSlot, a_pageTop, a_pageFree, a_pathPage, a_pathSlot, upd a_phaseOf t 0, upd a_outcomeOf t 11, upd a_used t 0, a_beganAt, upd a_opKind t 0, upd a_opFirst t 0, upd a_opSecond t 0, a_acceptedAt, upd a_rowCount t 0, a_rowKeys, a_rowValues, a_reach) (f_slots, f_capacity, f_clock, b_states, b_values, dd_clr t b_reads, dd_clr t b_writes, dd_clr t b_touched, b_beforeStates, b_beforeValues, upd a_phaseOf t 0, upd a_outcomeOf t 11, upd a_used t 0, upd a_opKind t 0, upd a_opFirst t 0, upd a_opSecond t 0, a_beganAt, a_acceptedAt, upd a_rowCount t 0, a_rowKeys, a_rowValues) := zz_in h1 h2 h3 h4 h5 (dd_Te hT) hS hR hD2
        refine zz_settleN I2 _ ?_
        intro e_END e_NOBODY e_FAN e_FILL e_STRIDE e_DEPTH e_PAGES e_ROWS e_slots e_capacity e_entryCount e_freeRecs e_freePages e_root e_height e_clock c_recKey c_recState c_recValue c_next c_prev c_readers c_writers c_gapReaders c_owner c_baseState c_baseValue c_recFree c_pageFill c_pageSlot c_pageTop c_pageFree c_pathPage c_pathSlot c_phaseOf c_outcomeOf c_used c_beganAt c_opKind c_opFirst c_opSecond c_acceptedAt c_rowCount c_rowKeys c_rowValues c_reach d_states d_values d_reads d_writes d_touched d_beforeStates d_beforeValues hR2 hY
        have K2 : wpY_commit (fun r' v' => r' = 11 ∧ zz_R (e_END, e_NOBODY, e_FAN, e_FILL, e_STRIDE, e_DEPTH, e_PAGES, e_ROWS, e_slots, e_capacity, e_entryCount, e_freeRecs, e_freePages, e_root, e_height, e_clock, c_recKey, c_recState, c_recValue, c_next, c_prev, c_readers, c_writers, c_gapReaders, c_owner, c_baseState, c_baseValue, c_recFree, c_pageFill, c_pageSlot, c_pageTop, c_pageFree, c_pathPage, c_pathSlot, c_phaseOf, c_outcomeOf, c_used, c_beganAt, c_opKind, c_opFirst, c_opSecond, c_acceptedAt, c_rowCount, c_rowKeys, c_rowValues, c_reach) v') (f_slots, f_capacity, f_clock, b_states, b_values, b_reads, b_writes, b_touched, b_beforeStates, b_beforeValues, a_phaseOf, a_outcomeOf, a_used, a_opKind, a_opFirst, a_opSecond, a_beganAt, a_acceptedAt, a_rowCount, a_rowKeys, a_rowValues) (nI t) := by
          unfold wpY_commit
          refine yw_isSlot h1 h3 ht (br_f (by decide) ⟨vt, ?_⟩)
          rw [ct]
          refine br_f p0 ⟨vt, br_f p2 (yw_end ht5 ⟨vt, ?_⟩)⟩
          exact nm_e (hY _ ⟨rfl, hR2⟩)
        exact K2
theorem i_vc_abort {k : Nat} {u : SX} {v : SY} (I : i_Rel k u v) (hk : k + 4 ≤ 2050) (v1 : Int32) : wpX_abort (fun r u' => wpY_abort (fun r' v' => r' = r ∧ i_Rel (k + 4) u' v') v v1) u v1 := by
  refine zz_el (P := fun u v => wpX_abort (fun r u' => wpY_abort (fun r' v' => r' = r ∧ zz_R u' v') v v1) u v1) ?_ I
  intro f_END f_NOBODY f_FAN f_FILL f_STRIDE f_DEPTH f_PAGES f_ROWS f_slots f_capacity f_entryCount f_freeRecs f_freePages f_root f_height f_clock a_recKey a_recState a_recValue a_next a_prev a_readers a_writers a_gapReaders a_owner a_baseState a_baseValue a_recFree a_pageFill a_pageSlot a_pageTop a_pageFree a_pathPage a_pathSlot a_phaseOf a_outcomeOf a_used a_beganAt a_opKind a_opFirst a_opSecond a_acceptedAt a_rowCount a_rowKeys a_rowValues a_reach b_states b_values b_reads b_writes b_touched b_beforeStates b_beforeValues s c L ky h1 h2 h3 h4 h5 hT hS hR hD
  have I' : zz_R (f_END, f_NOBODY, f_FAN, f_FILL, f_STRIDE, f_DEPTH, f_PAGES, f_ROWS, f_slots, f_capacity, f_entryCount, f_freeRecs, f_freePages, f_root, f_height, f_clock, a_recKey, a_recState, a_recValue, a_next, a_prev, a_readers, a_writers, a_gapReaders, a_owner, a_baseState, a_baseValue, a_recFree, a_pageFill, a_pageSlot, a_pageTop, a_pageFree, a_pathPage, a_pathSlot, a_phaseOf, a_outcomeOf, a_used, a_beganAt, a_opKind, a_opFirst, a_opSecond, a_acceptedAt, a_rowCount, a_rowKeys, a_rowValues, a_reach) (f_slots, f_capacity, f_clock, b_states, b_values, b_reads, b_writes, b_touched, b_beforeStates, b_beforeValues, a_phaseOf, a_outcomeOf, a_used, a_opKind, a_opFirst, a_opSecond, a_beganAt, a_acceptedAt, a_rowCount, a_rowKeys, a_rowValues) := zz_in h1 h2 h3 h4 h5 hT hS hR hD
  unfold wpX_abort
  rcases zz_slot v1 f_slots h1 h3 with hb | ⟨t, ht, rfl⟩
  · refine xw_slot0 hb (br_t rfl ?_)
    unfold wpY_abort
    exact yw_slot0 hb (br_t rfl ⟨rfl, I'⟩)
  · have ht5 : t < 5 := by omega
    have vt : vp_in (nI t) 5 := vp_in_nI ht5 (by omega)
    have ct : (nI t).toNatClampNeg = t := nI_clamp (by omega)
    refine xw_slot1 h1 h3 ht (br_f (by decide) ⟨vt, ?_⟩)
    rw [ct]
    by_cases p0 : a_phaseOf t = 0
    · refine br_t p0 ?_
      unfold wpY_abort
      refine yw_isSlot h1 h3 ht (br_f (by decide) ⟨vt, ?_⟩)
      rw [ct]
      exact br_t p0 ⟨rfl, I'⟩
    · refine br_f p0 (xw_roll hS hD ht5 (fun st va rd wr gr ow hD2 => ?_))
      have I2 : zz_R (f_END, f_NOBODY, f_FAN, f_FILL, f_STRIDE, f_DEPTH, f_PAGES, f_ROWS, f_slots, f_capacity, f_entryCount, f_freeRecs, f_freePages, f_root, f_height, f_clock, a_recKey, st, va, a_next, a_prev, rd, wr, gr, ow, a_baseState, a_baseValue, a_recFree, a_pageFill, a_pageSlot, a_pageTop, a_pageFree, a_pathPage, a_pathSlot, upd a_phaseOf t 0, upd a_outcomeOf t 12, upd a_used t 0, a_beganAt, upd a_opKind t 0, upd a_opFirst t 0, upd a_opSecond t 0, a_acceptedAt, upd a_rowCount t 0, a_rowKeys, a_rowValues, a_reach) (f_slots, f_capacity, f_clock, dd_rs t b_touched b_beforeStates b_states, dd_rv t b_touched b_beforeStates b_beforeValues b_values, dd_clr t b_reads, dd_clr t b_writes, dd_clr t b_touched, b_beforeStates, b_beforeValues, upd a_phaseOf t 0, upd a_outcomeOf t 12, upd a_used t 0, upd a_opKind t 0, upd a_opFirst t 0, upd a_opSecond t 0, a_beganAt, a_acceptedAt, upd a_rowCount t 0, a_rowKeys, a_rowValues) := zz_in h1 h2 h3 h4 h5 (dd_Te hT) hS hR hD2
      refine zz_settleN I2 _ ?_
      intro e_END e_NOBODY e_FAN e_FILL e_STRIDE e_DEPTH e_PAGES e_ROWS e_slots e_capacity e_entryCount e_freeRecs e_freePages e_root e_height e_clock c_recKey c_recState c_recValue c_next c_prev c_readers c_writers c_gapReaders c_owner c_baseState c_baseValue c_recFree c_pageFill c_pageSlot c_pageTop c_pageFree c_pathPage c_pathSlot c_phaseOf c_outcomeOf c_used c_beganAt c_opKind c_opFirst c_opSecond c_acceptedAt c_rowCount c_rowKeys c_rowValues c_reach d_states d_values d_reads d_writes d_touched d_beforeStates d_beforeValues hR2 hY
      have K2 : wpY_abort (fun r' v' => r' = 12 ∧ zz_R (e_END, e_NOBODY, e_FAN, e_FILL, e_STRIDE, e_DEPTH, e_PAGES, e_ROWS, e_slots, e_capacity, e_entryCount, e_freeRecs, e_freePages, e_root, e_height, e_clock, c_recKey, c_recState, c_recValue, c_next, c_prev, c_readers, c_writers, c_gapReaders, c_owner, c_baseState, c_baseValue, c_recFree, c_pageFill, c_pageSlot, c_pageTop, c_pageFree, c_pathPage, c_pathSlot, c_phaseOf, c_outcomeOf, c_used, c_beganAt, c_opKind, c_opFirst, c_opSecond, c_acceptedAt, c_rowCount, c_rowKeys, c_rowValues, c_reach) v') (f_slots, f_capacity, f_clock, b_states, b_values, b_reads, b_writes, b_touched, b_beforeStates, b_beforeValues, a_phaseOf, a_outcomeOf, a_used, a_opKind, a_opFirst, a_opSecond, a_beganAt, a_acceptedAt, a_rowCount, a_rowKeys, a_rowValues) (nI t) := by
        unfold wpY_abort
        refine yw_isSlot h1 h3 ht (br_f (by decide) ⟨vt, ?_⟩)
        rw [ct]
        refine br_f p0 (yw_roll ht5 ⟨vt, ?_⟩)
        exact nm_e (hY _ ⟨rfl, hR2⟩)
      exact K2
theorem i_vc_clean {k : Nat} {u : SX} {v : SY} (I : i_Rel k u v) (hk : k + 4 ≤ 2050) (v1 : Int32) (v2 : Int32) : wpX_clean (fun r u' => wpY_clean (fun r' v' => r' = r ∧ i_Rel (k + 4) u' v') v v1 v2) u v1 v2 := by
  refine zz_el (P := fun u v => wpX_clean (fun r u' => wpY_clean (fun r' v' => r' = r ∧ zz_R u' v') v v1 v2) u v1 v2) ?_ I
  intro f_END f_NOBODY f_FAN f_FILL f_STRIDE f_DEPTH f_PAGES f_ROWS f_slots f_capacity f_entryCount f_freeRecs f_freePages f_root f_height f_clock a_recKey a_recState a_recValue a_next a_prev a_readers a_writers a_gapReaders a_owner a_baseState a_baseValue a_recFree a_pageFill a_pageSlot a_pageTop a_pageFree a_pathPage a_pathSlot a_phaseOf a_outcomeOf a_used a_beganAt a_opKind a_opFirst a_opSecond a_acceptedAt a_rowCount a_rowKeys a_rowValues a_reach b_states b_values b_reads b_writes b_touched b_beforeStates b_beforeValues s c L ky h1 h2 h3 h4 h5 hT hS hR hD
  have I' : zz_R (f_END, f_NOBODY, f_FAN, f_FILL, f_STRIDE, f_DEPTH, f_PAGES, f_ROWS, f_slots, f_capacity, f_entryCount, f_freeRecs, f_freePages, f_root, f_height, f_clock, a_recKey, a_recState, a_recValue, a_next, a_prev, a_readers, a_writers, a_gapReaders, a_owner, a_baseState, a_baseValue, a_recFree, a_pageFill, a_pageSlot, a_pageTop, a_pageFree, a_pathPage, a_pathSlot, a_phaseOf, a_outcomeOf, a_used, a_beganAt, a_opKind, a_opFirst, a_opSecond, a_acceptedAt, a_rowCount, a_rowKeys, a_rowValues, a_reach) (f_slots, f_capacity, f_clock, b_states, b_values, b_reads, b_writes, b_touched, b_beforeStates, b_beforeValues, a_phaseOf, a_outcomeOf, a_used, a_opKind, a_opFirst, a_opSecond, a_beganAt, a_acceptedAt, a_rowCount, a_rowKeys, a_rowValues) := zz_in h1 h2 h3 h4 h5 hT hS hR hD
  unfold wpX_clean
  rcases zz_key v1 with hb | ⟨j, hj, rfl⟩
  · refine xw_key0 hb (br_t rfl ?_)
    unfold wpY_clean
    exact yw_key0 hb (br_t rfl ⟨rfl, I'⟩)
  · refine xw_key1 hj (br_f (by decide) ?_)
    rcases zz_key v2 with hb | ⟨j2, hj2, rfl⟩
    · refine xw_key0 hb (br_t rfl ?_)
      unfold wpY_clean
      exact yw_key1 hj (br_f (by decide) (yw_key0 hb (br_t rfl ⟨rfl, I'⟩)))
    · refine xw_key1 hj2 (br_f (by decide) ?_)
      by_cases hle : j ≤ j2
      · have hle' : nI j ≤ nI j2 := nI_le hle (by omega)
        obtain ⟨A, r, B, e1, hA, hr⟩ := rg_find hS (k := j) (by omega)
        have hBl : B.length ≤ 48 := by
          have h6 := congrArg List.length e1
          have h7 := (rg_len hS).1
          simp at h6
          omega
        refine br_t hle' (xw_locate hS hR (by omega) e1 hA hr fun pp sl => ⟨B.length + 1, ?_⟩)
        refine zz_cleanAll hj2 48 _ _ _ _ _ _ _ _ _ _ _ _ _ _ _ _ _ _ _ _ _ _ _ _ _ _ _ _ _ _ _ _ _ _ _ _ _ _ _ _ _ _ _ _ _ _ _ _ _ _ _ _ _ s c L ky B A r 0 j 0 _ _ h1 h2 h3 h4 h5 hT hS hR hD hBl e1 hA hr (by omega) (by omega) (fun u' v' m' hR2 hY => ?_)
        refine zz_settle hR2 _ (fun u2 v2 hR3 hY2 => ?_)
        have K2 : wpY_clean (fun r' v' => r' = m' ∧ zz_R u2 v') (f_slots, f_capacity, f_clock, b_states, b_values, b_reads, b_writes, b_touched, b_beforeStates, b_beforeValues, a_phaseOf, a_outcomeOf, a_used, a_opKind, a_opFirst, a_opSecond, a_beganAt, a_acceptedAt, a_rowCount, a_rowKeys, a_rowValues) (nI j) (nI j2) := by
          unfold wpY_clean
          exact yw_key1 hj (br_f (by decide) (yw_key1 hj2 (br_f (by decide) (br_t hle' ⟨j2 + 1 - j + 1, hY (fun r' v' => r' = m' ∧ zz_R u2 v') _ (by omega) (hY2 _ ⟨rfl, hR3⟩)⟩))))
        exact K2
      · have hle' : ¬ nI j ≤ nI j2 := nI_ge (by omega) (by omega)
        refine br_f hle' ?_
        unfold wpY_clean
        exact yw_key1 hj (br_f (by decide) (yw_key1 hj2 (br_f (by decide) (br_f hle' ⟨rfl, I'⟩))))
end
section
/-! the calls that read -/
theorem i_vc_phase {k : Nat} {u : SX} {v : SY} (I : i_Rel k u v) (hk : k + 4 ≤ 2050) (v1 : Int32) : wpX_phase (fun r => wpY_phase (fun r' => r' = r ∧ i_Rel (k + 4) u v) v v1) u v1 := by
  refine zz_el (P := fun u v => wpX_phase (fun r => wpY_phase (fun r' => r' = r ∧ zz_R u v) v v1) u v1) ?_ I
  intro f_END f_NOBODY f_FAN f_FILL f_STRIDE f_DEPTH f_PAGES f_ROWS f_slots f_capacity f_entryCount f_freeRecs f_freePages f_root f_height f_clock a_recKey a_recState a_recValue a_next a_prev a_readers a_writers a_gapReaders a_owner a_baseState a_baseValue a_recFree a_pageFill a_pageSlot a_pageTop a_pageFree a_pathPage a_pathSlot a_phaseOf a_outcomeOf a_used a_beganAt a_opKind a_opFirst a_opSecond a_acceptedAt a_rowCount a_rowKeys a_rowValues a_reach b_states b_values b_reads b_writes b_touched b_beforeStates b_beforeValues s c L ky h1 h2 h3 h4 h5 hT hS hR hD
  have I' : zz_R (f_END, f_NOBODY, f_FAN, f_FILL, f_STRIDE, f_DEPTH, f_PAGES, f_ROWS, f_slots, f_capacity, f_entryCount, f_freeRecs, f_freePages, f_root, f_height, f_clock, a_recKey, a_recState, a_recValue, a_next, a_prev, a_readers, a_writers, a_gapReaders, a_owner, a_baseState, a_baseValue, a_recFree, a_pageFill, a_pageSlot, a_pageTop, a_pageFree, a_pathPage, a_pathSlot, a_phaseOf, a_outcomeOf, a_used, a_beganAt, a_opKind, a_opFirst, a_opSecond, a_acceptedAt, a_rowCount, a_rowKeys, a_rowValues, a_reach) (f_slots, f_capacity, f_clock, b_states, b_values, b_reads, b_writes, b_touched, b_beforeStates, b_beforeValues, a_phaseOf, a_outcomeOf, a_used, a_opKind, a_opFirst, a_opSecond, a_beganAt, a_acceptedAt, a_rowCount, a_rowKeys, a_rowValues) := zz_in h1 h2 h3 h4 h5 hT hS hR hD
  unfold wpX_phase
  rcases zz_slot v1 f_slots h1 h3 with hb | ⟨t, ht, rfl⟩
  · refine xw_slot0 hb (br_t rfl ?_)
    unfold wpY_phase
    exact yw_slot0 hb (br_t rfl ⟨rfl, I'⟩)
  · have vt : vp_in (nI t) 5 := vp_in_nI (by omega) (by omega)
    refine xw_slot1 h1 h3 ht (br_f (by decide) ⟨vt, ?_⟩)
    unfold wpY_phase
    exact yw_isSlot h1 h3 ht (br_f (by decide) ⟨vt, rfl, I'⟩)
theorem i_vc_outcome {k : Nat} {u : SX} {v : SY} (I : i_Rel k u v) (hk : k + 4 ≤ 2050) (v1 : Int32) : wpX_outcome (fun r => wpY_outcome (fun r' => r' = r ∧ i_Rel (k + 4) u v) v v1) u v1 := by
  refine zz_el (P := fun u v => wpX_outcome (fun r => wpY_outcome (fun r' => r' = r ∧ zz_R u v) v v1) u v1) ?_ I
  intro f_END f_NOBODY f_FAN f_FILL f_STRIDE f_DEPTH f_PAGES f_ROWS f_slots f_capacity f_entryCount f_freeRecs f_freePages f_root f_height f_clock a_recKey a_recState a_recValue a_next a_prev a_readers a_writers a_gapReaders a_owner a_baseState a_baseValue a_recFree a_pageFill a_pageSlot a_pageTop a_pageFree a_pathPage a_pathSlot a_phaseOf a_outcomeOf a_used a_beganAt a_opKind a_opFirst a_opSecond a_acceptedAt a_rowCount a_rowKeys a_rowValues a_reach b_states b_values b_reads b_writes b_touched b_beforeStates b_beforeValues s c L ky h1 h2 h3 h4 h5 hT hS hR hD
  have I' : zz_R (f_END, f_NOBODY, f_FAN, f_FILL, f_STRIDE, f_DEPTH, f_PAGES, f_ROWS, f_slots, f_capacity, f_entryCount, f_freeRecs, f_freePages, f_root, f_height, f_clock, a_recKey, a_recState, a_recValue, a_next, a_prev, a_readers, a_writers, a_gapReaders, a_owner, a_baseState, a_baseValue, a_recFree, a_pageFill, a_pageSlot, a_pageTop, a_pageFree, a_pathPage, a_pathSlot, a_phaseOf, a_outcomeOf, a_used, a_beganAt, a_opKind, a_opFirst, a_opSecond, a_acceptedAt, a_rowCount, a_rowKeys, a_rowValues, a_reach) (f_slots, f_capacity, f_clock, b_states, b_values, b_reads, b_writes, b_touched, b_beforeStates, b_beforeValues, a_phaseOf, a_outcomeOf, a_used, a_opKind, a_opFirst, a_opSecond, a_beganAt, a_acceptedAt, a_rowCount, a_rowKeys, a_rowValues) := zz_in h1 h2 h3 h4 h5 hT hS hR hD
  unfold wpX_outcome
  rcases zz_slot v1 f_slots h1 h3 with hb | ⟨t, ht, rfl⟩
  · refine xw_slot0 hb (br_t rfl ?_)
    unfold wpY_outcome
    exact yw_slot0 hb (br_t rfl ⟨rfl, I'⟩)
  · have vt : vp_in (nI t) 5 := vp_in_nI (by omega) (by omega)
    refine xw_slot1 h1 h3 ht (br_f (by decide) ⟨vt, ?_⟩)
    unfold wpY_outcome
    exact yw_isSlot h1 h3 ht (br_f (by decide) ⟨vt, rfl, I'⟩)
theorem i_vc_rows {k : Nat} {u : SX} {v : SY} (I : i_Rel k u v) (hk : k + 4 ≤ 2050) (v1 : Int32) : wpX_rows (fun r => wpY_rows (fun r' => r' = r ∧ i_Rel (k + 4) u v) v v1) u v1 := by
  refine zz_el (P := fun u v => wpX_rows (fun r => wpY_rows (fun r' => r' = r ∧ zz_R u v) v v1) u v1) ?_ I
  intro f_END f_NOBODY f_FAN f_FILL f_STRIDE f_DEPTH f_PAGES f_ROWS f_slots f_capacity f_entryCount f_freeRecs f_freePages f_root f_height f_clock a_recKey a_recState a_recValue a_next a_prev a_readers a_writers a_gapReaders a_owner a_baseState a_baseValue a_recFree a_pageFill a_pageSlot a_pageTop a_pageFree a_pathPage a_pathSlot a_phaseOf a_outcomeOf a_used a_beganAt a_opKind a_opFirst a_opSecond a_acceptedAt a_rowCount a_rowKeys a_rowValues a_reach b_states b_values b_reads b_writes b_touched b_beforeStates b_beforeValues s c L ky h1 h2 h3 h4 h5 hT hS hR hD
  have I' : zz_R (f_END, f_NOBODY, f_FAN, f_FILL, f_STRIDE, f_DEPTH, f_PAGES, f_ROWS, f_slots, f_capacity, f_entryCount, f_freeRecs, f_freePages, f_root, f_height, f_clock, a_recKey, a_recState, a_recValue, a_next, a_prev, a_readers, a_writers, a_gapReaders, a_owner, a_baseState, a_baseValue, a_recFree, a_pageFill, a_pageSlot, a_pageTop, a_pageFree, a_pathPage, a_pathSlot, a_phaseOf, a_outcomeOf, a_used, a_beganAt, a_opKind, a_opFirst, a_opSecond, a_acceptedAt, a_rowCount, a_rowKeys, a_rowValues, a_reach) (f_slots, f_capacity, f_clock, b_states, b_values, b_reads, b_writes, b_touched, b_beforeStates, b_beforeValues, a_phaseOf, a_outcomeOf, a_used, a_opKind, a_opFirst, a_opSecond, a_beganAt, a_acceptedAt, a_rowCount, a_rowKeys, a_rowValues) := zz_in h1 h2 h3 h4 h5 hT hS hR hD
  unfold wpX_rows
  rcases zz_slot v1 f_slots h1 h3 with hb | ⟨t, ht, rfl⟩
  · refine xw_slot0 hb (br_t rfl ?_)
    unfold wpY_rows
    exact yw_slot0 hb (br_t rfl ⟨rfl, I'⟩)
  · have vt : vp_in (nI t) 5 := vp_in_nI (by omega) (by omega)
    refine xw_slot1 h1 h3 ht (br_f (by decide) ⟨vt, ?_⟩)
    unfold wpY_rows
    exact yw_isSlot h1 h3 ht (br_f (by decide) ⟨vt, rfl, I'⟩)
theorem i_vc_rowKey {k : Nat} {u : SX} {v : SY} (I : i_Rel k u v) (hk : k + 4 ≤ 2050) (v1 : Int32) (v2 : Int32) : wpX_rowKey (fun r => wpY_rowKey (fun r' => r' = r ∧ i_Rel (k + 4) u v) v v1 v2) u v1 v2 := by
  refine zz_el (P := fun u v => wpX_rowKey (fun r => wpY_rowKey (fun r' => r' = r ∧ zz_R u v) v v1 v2) u v1 v2) ?_ I
  intro f_END f_NOBODY f_FAN f_FILL f_STRIDE f_DEPTH f_PAGES f_ROWS f_slots f_capacity f_entryCount f_freeRecs f_freePages f_root f_height f_clock a_recKey a_recState a_recValue a_next a_prev a_readers a_writers a_gapReaders a_owner a_baseState a_baseValue a_recFree a_pageFill a_pageSlot a_pageTop a_pageFree a_pathPage a_pathSlot a_phaseOf a_outcomeOf a_used a_beganAt a_opKind a_opFirst a_opSecond a_acceptedAt a_rowCount a_rowKeys a_rowValues a_reach b_states b_values b_reads b_writes b_touched b_beforeStates b_beforeValues s c L ky h1 h2 h3 h4 h5 hT hS hR hD
  have I' : zz_R (f_END, f_NOBODY, f_FAN, f_FILL, f_STRIDE, f_DEPTH, f_PAGES, f_ROWS, f_slots, f_capacity, f_entryCount, f_freeRecs, f_freePages, f_root, f_height, f_clock, a_recKey, a_recState, a_recValue, a_next, a_prev, a_readers, a_writers, a_gapReaders, a_owner, a_baseState, a_baseValue, a_recFree, a_pageFill, a_pageSlot, a_pageTop, a_pageFree, a_pathPage, a_pathSlot, a_phaseOf, a_outcomeOf, a_used, a_beganAt, a_opKind, a_opFirst, a_opSecond, a_acceptedAt, a_rowCount, a_rowKeys, a_rowValues, a_reach) (f_slots, f_capacity, f_clock, b_states, b_values, b_reads, b_writes, b_touched, b_beforeStates, b_beforeValues, a_phaseOf, a_outcomeOf, a_used, a_opKind, a_opFirst, a_opSecond, a_beganAt, a_acceptedAt, a_rowCount, a_rowKeys, a_rowValues) := zz_in h1 h2 h3 h4 h5 hT hS hR hD
  unfold wpX_rowKey
  rcases zz_slot v1 f_slots h1 h3 with hb | ⟨t, ht, rfl⟩
  · refine xw_slot0 hb (br_t rfl ?_)
    unfold wpY_rowKey
    exact yw_slot0 hb (br_t rfl ⟨rfl, I'⟩)
  · have vt : vp_in (nI t) 5 := vp_in_nI (by omega) (by omega)
    have ct : (nI t).toNatClampNeg = t := nI_clamp (by omega)
    obtain ⟨c0, hc0, ec0⟩ := (hT t).2.2.2.2
    refine xw_slot1 h1 h3 ht (br_f (by decide) ?_)
    by_cases hn : v2 < 0
    · refine br_t hn ?_
      unfold wpY_rowKey
      exact yw_isSlot h1 h3 ht (br_f (by decide) (br_t hn ⟨rfl, I'⟩))
    · refine br_f hn ⟨vt, ?_⟩
      rw [ct]
      by_cases hlt : v2 < a_rowCount t
      · obtain ⟨j, hj, rfl⟩ := nI_of hn
        have hjc := hlt
        rw [ec0, nI_ltI hj (by omega)] at hjc
        have e1 : nI t * 48 + nI j = nI (t * 48 + j) := by rw [show (48 : Int32) = nI 48 from rfl, pk_mul, nI_add]
        have v2' : vp_in (nI (t * 48 + j)) 240 := vp_in_nI (by omega) (by omega)
        refine br_t hlt ?_
        rw [e1]
        refine ⟨v2', ?_⟩
        unfold wpY_rowKey
        refine yw_isSlot h1 h3 ht (br_f (by decide) (br_f hn ⟨vt, ?_⟩))
        rw [ct, e1]
        exact br_t hlt ⟨v2', rfl, I'⟩
      · refine br_f hlt ?_
        unfold wpY_rowKey
        refine yw_isSlot h1 h3 ht (br_f (by decide) (br_f hn ⟨vt, ?_⟩))
        rw [ct]
        exact br_f hlt ⟨rfl, I'⟩
theorem i_vc_rowValue {k : Nat} {u : SX} {v : SY} (I : i_Rel k u v) (hk : k + 4 ≤ 2050) (v1 : Int32) (v2 : Int32) : wpX_rowValue (fun r => wpY_rowValue (fun r' => r' = r ∧ i_Rel (k + 4) u v) v v1 v2) u v1 v2 := by
  refine zz_el (P := fun u v => wpX_rowValue (fun r => wpY_rowValue (fun r' => r' = r ∧ zz_R u v) v v1 v2) u v1 v2) ?_ I
  intro f_END f_NOBODY f_FAN f_FILL f_STRIDE f_DEPTH f_PAGES f_ROWS f_slots f_capacity f_entryCount f_freeRecs f_freePages f_root f_height f_clock a_recKey a_recState a_recValue a_next a_prev a_readers a_writers a_gapReaders a_owner a_baseState a_baseValue a_recFree a_pageFill a_pageSlot a_pageTop a_pageFree a_pathPage a_pathSlot a_phaseOf a_outcomeOf a_used a_beganAt a_opKind a_opFirst a_opSecond a_acceptedAt a_rowCount a_rowKeys a_rowValues a_reach b_states b_values b_reads b_writes b_touched b_beforeStates b_beforeValues s c L ky h1 h2 h3 h4 h5 hT hS hR hD
  have I' : zz_R (f_END, f_NOBODY, f_FAN, f_FILL, f_STRIDE, f_DEPTH, f_PAGES, f_ROWS, f_slots, f_capacity, f_entryCount, f_freeRecs, f_freePages, f_root, f_height, f_clock, a_recKey, a_recState, a_recValue, a_next, a_prev, a_readers, a_writers, a_gapReaders, a_owner, a_baseState, a_baseValue, a_recFree, a_pageFill, a_pageSlot, a_pageTop, a_pageFree, a_pathPage, a_pathSlot, a_phaseOf, a_outcomeOf, a_used, a_beganAt, a_opKind, a_opFirst, a_opSecond, a_acceptedAt, a_rowCount, a_rowKeys, a_rowValues, a_reach) (f_slots, f_capacity, f_clock, b_states, b_values, b_reads, b_writes, b_touched, b_beforeStates, b_beforeValues, a_phaseOf, a_outcomeOf, a_used, a_opKind, a_opFirst, a_opSecond, a_beganAt, a_acceptedAt, a_rowCount, a_rowKeys, a_rowValues) := zz_in h1 h2 h3 h4 h5 hT hS hR hD
  unfold wpX_rowValue
  rcases zz_slot v1 f_slots h1 h3 with hb | ⟨t, ht, rfl⟩
  · refine xw_slot0 hb (br_t rfl ?_)
    unfold wpY_rowValue
    exact yw_slot0 hb (br_t rfl ⟨rfl, I'⟩)
  · have vt : vp_in (nI t) 5 := vp_in_nI (by omega) (by omega)
    have ct : (nI t).toNatClampNeg = t := nI_clamp (by omega)
    obtain ⟨c0, hc0, ec0⟩ := (hT t).2.2.2.2
    refine xw_slot1 h1 h3 ht (br_f (by decide) ?_)
    by_cases hn : v2 < 0
    · refine br_t hn ?_
      unfold wpY_rowValue
      exact yw_isSlot h1 h3 ht (br_f (by decide) (br_t hn ⟨rfl, I'⟩))
    · refine br_f hn ⟨vt, ?_⟩
      rw [ct]
      by_cases hlt : v2 < a_rowCount t
      · obtain ⟨j, hj, rfl⟩ := nI_of hn
        have hjc := hlt
        rw [ec0, nI_ltI hj (by omega)] at hjc
        have e1 : nI t * 48 + nI j = nI (t * 48 + j) := by rw [show (48 : Int32) = nI 48 from rfl, pk_mul, nI_add]
        have v2' : vp_in (nI (t * 48 + j)) 240 := vp_in_nI (by omega) (by omega)
        refine br_t hlt ?_
        rw [e1]
        refine ⟨v2', ?_⟩
        unfold wpY_rowValue
        refine yw_isSlot h1 h3 ht (br_f (by decide) (br_f hn ⟨vt, ?_⟩))
        rw [ct, e1]
        exact br_t hlt ⟨v2', rfl, I'⟩
      · refine br_f hlt ?_
        unfold wpY_rowValue
        refine yw_isSlot h1 h3 ht (br_f (by decide) (br_f hn ⟨vt, ?_⟩))
        rw [ct]
        exact br_f hlt ⟨rfl, I'⟩
section
variable {f_END f_NOBODY f_FAN f_FILL f_STRIDE f_DEPTH f_PAGES f_ROWS f_slots f_capacity f_entryCount f_freeRecs f_freePages f_root f_height : Int32} {f_clock : Int64} {a_recKey a_recState a_recValue a_next a_prev a_readers a_writers a_gapReaders a_owner a_baseState a_baseValue a_recFree a_pageFill a_pageSlot a_pageTop a_pageFree a_pathPage a_pathSlot a_phaseOf a_outcomeOf a_used : Nat → Int32} {a_beganAt : Nat → Int64} {a_opKind a_opFirst a_opSecond : Nat → Int32} {a_acceptedAt : Nat → Int64} {a_rowCount a_rowKeys a_rowValues a_reach : Nat → Int32} {b_states b_values b_reads b_writes b_touched b_beforeStates b_beforeValues : Nat → Int32}
theorem zz_queue {s t : Nat} (hs : f_slots = nI s) (hs5 : s ≤ 5) (ht : t < s) : ∀ (d i : Nat) (x : Int32), i + d = s → ∃ r, (∀ (post : Int32 → Prop) (n : Nat), d < n → post r → wX_queuePlace_16 post (nI t) f_END f_NOBODY f_FAN f_FILL f_STRIDE f_DEPTH f_PAGES f_ROWS f_slots f_capacity f_entryCount f_freeRecs f_freePages f_root f_height f_clock a_recKey a_recState a_recValue a_next a_prev a_readers a_writers a_gapReaders a_owner a_baseState a_baseValue a_recFree a_pageFill a_pageSlot a_pageTop a_pageFree a_pathPage a_pathSlot a_phaseOf a_outcomeOf a_used a_beganAt a_opKind a_opFirst a_opSecond a_acceptedAt a_rowCount a_rowKeys a_rowValues a_reach n x (nI i)) ∧ (∀ (post : Int32 → Prop) (n : Nat), d < n → post r → wY_detail_104 post (nI t) 3 f_slots f_capacity f_clock b_states b_values b_reads b_writes b_touched b_beforeStates b_beforeValues a_phaseOf a_outcomeOf a_used a_opKind a_opFirst a_opSecond a_beganAt a_acceptedAt a_rowCount a_rowKeys a_rowValues n x (nI i))
  | 0, i, x, hi => by
    have e : f_slots ≤ nI i := by rw [hs]; exact nI_le (by omega) (by omega)
    refine ⟨x, fun post n hn h => ?_, fun post n hn h => ?_⟩
    · obtain ⟨n, rfl⟩ : ∃ m, n = m + 1 := ⟨n - 1, by omega⟩
      exact br_t e h
    · obtain ⟨n, rfl⟩ : ∃ m, n = m + 1 := ⟨n - 1, by omega⟩
      exact br_t e h
  | d + 1, i, x, hi => by
    have vi : vp_in (nI i) 5 := vp_in_nI (by omega) (by omega)
    have ci : (nI i).toNatClampNeg = i := nI_clamp (by omega)
    have vt : vp_in (nI t) 5 := vp_in_nI (by omega) (by omega)
    have ct : (nI t).toNatClampNeg = t := nI_clamp (by omega)
    have e : ¬ f_slots ≤ nI i := by rw [hs]; exact nI_ge (by omega) (by omega)
    have n34 : ¬ (3 : Int32) = 4 := by decide
    by_cases p2 : a_phaseOf i = 2
    · by_cases ha : a_acceptedAt t ≤ a_acceptedAt i
      · obtain ⟨r, g1, g2⟩ := zz_queue hs hs5 ht d (i + 1) x (by omega)
        refine ⟨r, fun post n hn h => ?_, fun post n hn h => ?_⟩
        · obtain ⟨n, rfl⟩ : ∃ m, n = m + 1 := ⟨n - 1, by omega⟩
          refine br_f e ⟨vi, ?_⟩
          rw [ci, ct]
          exact br_t p2 ⟨vi, vt, br_t ha (nm_r (nI_1 i) (g1 post n (by omega) h))⟩
        · obtain ⟨n, rfl⟩ : ∃ m, n = m + 1 := ⟨n - 1, by omega⟩
          refine br_f e (br_t rfl ⟨vi, ?_⟩)
          rw [ci, ct]
          exact br_t p2 ⟨vi, vt, br_t ha (br_f n34 (nm_r (nI_1 i) (g2 post n (by omega) h)))⟩
      · obtain ⟨r, g1, g2⟩ := zz_queue hs hs5 ht d (i + 1) (x + 1) (by omega)
        refine ⟨r, fun post n hn h => ?_, fun post n hn h => ?_⟩
        · obtain ⟨n, rfl⟩ : ∃ m, n = m + 1 := ⟨n - 1, by omega⟩
          refine br_f e ⟨vi, ?_⟩
          rw [ci, ct]
          exact br_t p2 ⟨vi, vt, br_f ha (nm_e (nm_r (nI_1 i) (g1 post n (by omega) h)))⟩
        · obtain ⟨n, rfl⟩ : ∃ m, n = m + 1 := ⟨n - 1, by omega⟩
          refine br_f e (br_t rfl ⟨vi, ?_⟩)
          rw [ci, ct]
          exact br_t p2 ⟨vi, vt, br_f ha (nm_e (br_f n34 (nm_r (nI_1 i) (g2 post n (by omega) h))))⟩
    · obtain ⟨r, g1, g2⟩ := zz_queue hs hs5 ht d (i + 1) x (by omega)
      refine ⟨r, fun post n hn h => ?_, fun post n hn h => ?_⟩
      · obtain ⟨n, rfl⟩ : ∃ m, n = m + 1 := ⟨n - 1, by omega⟩
        refine br_f e ⟨vi, ?_⟩
        rw [ci]
        exact br_f p2 (nm_r (nI_1 i) (g1 post n (by omega) h))
      · obtain ⟨n, rfl⟩ : ∃ m, n = m + 1 := ⟨n - 1, by omega⟩
        refine br_f e (br_t rfl ⟨vi, ?_⟩)
        rw [ci]
        exact br_f p2 (br_f n34 (nm_r (nI_1 i) (g2 post n (by omega) h)))
theorem zz_age {s t : Nat} (hs : f_slots = nI s) (hs5 : s ≤ 5) (ht : t < s) : ∀ (d i : Nat) (x : Int32), i + d = s → ∃ r, (∀ (post : Int32 → Prop) (n : Nat), d < n → post r → wX_agePlace_15 post (nI t) f_END f_NOBODY f_FAN f_FILL f_STRIDE f_DEPTH f_PAGES f_ROWS f_slots f_capacity f_entryCount f_freeRecs f_freePages f_root f_height f_clock a_recKey a_recState a_recValue a_next a_prev a_readers a_writers a_gapReaders a_owner a_baseState a_baseValue a_recFree a_pageFill a_pageSlot a_pageTop a_pageFree a_pathPage a_pathSlot a_phaseOf a_outcomeOf a_used a_beganAt a_opKind a_opFirst a_opSecond a_acceptedAt a_rowCount a_rowKeys a_rowValues a_reach n x (nI i)) ∧ (∀ (post : Int32 → Prop) (n : Nat), d < n → post r → wY_detail_104 post (nI t) 4 f_slots f_capacity f_clock b_states b_values b_reads b_writes b_touched b_beforeStates b_beforeValues a_phaseOf a_outcomeOf a_used a_opKind a_opFirst a_opSecond a_beganAt a_acceptedAt a_rowCount a_rowKeys a_rowValues n x (nI i))
  | 0, i, x, hi => by
    have e : f_slots ≤ nI i := by rw [hs]; exact nI_le (by omega) (by omega)
    refine ⟨x, fun post n hn h => ?_, fun post n hn h => ?_⟩
    · obtain ⟨n, rfl⟩ : ∃ m, n = m + 1 := ⟨n - 1, by omega⟩
      exact br_t e h
    · obtain ⟨n, rfl⟩ : ∃ m, n = m + 1 := ⟨n - 1, by omega⟩
      exact br_t e h
  | d + 1, i, x, hi => by
    have vi : vp_in (nI i) 5 := vp_in_nI (by omega) (by omega)
    have ci : (nI i).toNatClampNeg = i := nI_clamp (by omega)
    have vt : vp_in (nI t) 5 := vp_in_nI (by omega) (by omega)
    have ct : (nI t).toNatClampNeg = t := nI_clamp (by omega)
    have e : ¬ f_slots ≤ nI i := by rw [hs]; exact nI_ge (by omega) (by omega)
    have n43 : ¬ (4 : Int32) = 3 := by decide
    by_cases p0 : a_phaseOf i = 0
    · obtain ⟨r, g1, g2⟩ := zz_age hs hs5 ht d (i + 1) x (by omega)
      refine ⟨r, fun post n hn h => ?_, fun post n hn h => ?_⟩
      · obtain ⟨n, rfl⟩ : ∃ m, n = m + 1 := ⟨n - 1, by omega⟩
        refine br_f e ⟨vi, ?_⟩
        rw [ci]
        exact br_t p0 (nm_r (nI_1 i) (g1 post n (by omega) h))
      · obtain ⟨n, rfl⟩ : ∃ m, n = m + 1 := ⟨n - 1, by omega⟩
        refine br_f e (br_f n43 (br_t rfl ⟨vi, ?_⟩))
        rw [ci]
        exact br_t p0 (nm_r (nI_1 i) (g2 post n (by omega) h))
    · by_cases ha : a_beganAt t ≤ a_beganAt i
      · obtain ⟨r, g1, g2⟩ := zz_age hs hs5 ht d (i + 1) x (by omega)
        refine ⟨r, fun post n hn h => ?_, fun post n hn h => ?_⟩
        · obtain ⟨n, rfl⟩ : ∃ m, n = m + 1 := ⟨n - 1, by omega⟩
          refine br_f e ⟨vi, ?_⟩
          rw [ci, ct]
          exact br_f p0 ⟨vi, vt, br_t ha (nm_r (nI_1 i) (g1 post n (by omega) h))⟩
        · obtain ⟨n, rfl⟩ : ∃ m, n = m + 1 := ⟨n - 1, by omega⟩
          refine br_f e (br_f n43 (br_t rfl ⟨vi, ?_⟩))
          rw [ci, ct]
          exact br_f p0 ⟨vi, vt, br_t ha (nm_r (nI_1 i) (g2 post n (by omega) h))⟩
      · obtain ⟨r, g1, g2⟩ := zz_age hs hs5 ht d (i + 1) (x + 1) (by omega)
        refine ⟨r, fun post n hn h => ?_, fun post n hn h => ?_⟩
        · obtain ⟨n, rfl⟩ : ∃ m, n = m + 1 := ⟨n - 1, by omega⟩
          refine br_f e ⟨vi, ?_⟩
          rw [ci, ct]
          exact br_f p0 ⟨vi, vt, br_f ha (nm_e (nm_r (nI_1 i) (g1 post n (by omega) h)))⟩
        · obtain ⟨n, rfl⟩ : ∃ m, n = m + 1 := ⟨n - 1, by omega⟩
          refine br_f e (br_f n43 (br_t rfl ⟨vi, ?_⟩))
          rw [ci, ct]
          exact br_f p0 ⟨vi, vt, br_f ha (nm_e (nm_r (nI_1 i) (g2 post n (by omega) h)))⟩
end
theorem i_vc_detail {k : Nat} {u : SX} {v : SY} (I : i_Rel k u v) (hk : k + 4 ≤ 2050) (v1 : Int32) (v2 : Int32) : wpX_detail (fun r => wpY_detail (fun r' => r' = r ∧ i_Rel (k + 4) u v) v v1 v2) u v1 v2 := by
  refine zz_el (P := fun u v => wpX_detail (fun r => wpY_detail (fun r' => r' = r ∧ zz_R u v) v v1 v2) u v1 v2) ?_ I
  intro f_END f_NOBODY f_FAN f_FILL f_STRIDE f_DEPTH f_PAGES f_ROWS f_slots f_capacity f_entryCount f_freeRecs f_freePages f_root f_height f_clock a_recKey a_recState a_recValue a_next a_prev a_readers a_writers a_gapReaders a_owner a_baseState a_baseValue a_recFree a_pageFill a_pageSlot a_pageTop a_pageFree a_pathPage a_pathSlot a_phaseOf a_outcomeOf a_used a_beganAt a_opKind a_opFirst a_opSecond a_acceptedAt a_rowCount a_rowKeys a_rowValues a_reach b_states b_values b_reads b_writes b_touched b_beforeStates b_beforeValues s c L ky h1 h2 h3 h4 h5 hT hS hR hD
  have I' : zz_R (f_END, f_NOBODY, f_FAN, f_FILL, f_STRIDE, f_DEPTH, f_PAGES, f_ROWS, f_slots, f_capacity, f_entryCount, f_freeRecs, f_freePages, f_root, f_height, f_clock, a_recKey, a_recState, a_recValue, a_next, a_prev, a_readers, a_writers, a_gapReaders, a_owner, a_baseState, a_baseValue, a_recFree, a_pageFill, a_pageSlot, a_pageTop, a_pageFree, a_pathPage, a_pathSlot, a_phaseOf, a_outcomeOf, a_used, a_beganAt, a_opKind, a_opFirst, a_opSecond, a_acceptedAt, a_rowCount, a_rowKeys, a_rowValues, a_reach) (f_slots, f_capacity, f_clock, b_states, b_values, b_reads, b_writes, b_touched, b_beforeStates, b_beforeValues, a_phaseOf, a_outcomeOf, a_used, a_opKind, a_opFirst, a_opSecond, a_beganAt, a_acceptedAt, a_rowCount, a_rowKeys, a_rowValues) := zz_in h1 h2 h3 h4 h5 hT hS hR hD
  unfold wpX_detail
  rcases zz_slot v1 f_slots h1 h3 with hb | ⟨t, ht, rfl⟩
  · refine xw_slot0 hb (br_t rfl ?_)
    unfold wpY_detail
    exact yw_slot0 hb (br_t rfl ⟨rfl, I'⟩)
  · have vt : vp_in (nI t) 5 := vp_in_nI (by omega) (by omega)
    have ct : (nI t).toNatClampNeg = t := nI_clamp (by omega)
    have hT2 := hT t
    refine xw_slot1 h1 h3 ht (br_f (by decide) ?_)
    rcases pk_ix v2 (n := 6) (by omega) with hn | hn | ⟨j, hj, rfl⟩
    · refine br_t hn ?_
      unfold wpY_detail
      exact yw_isSlot h1 h3 ht (br_f (by decide) (br_t hn ⟨rfl, I'⟩))
    · have h0 : ¬ v2 < 0 := by
        rw [Int32.le_iff_toInt_le, show (nI 6).toInt = 6 from by decide] at hn
        rw [Int32.lt_iff_toInt_lt, show (0 : Int32).toInt = 0 from by decide]
        omega
      have h6 : ¬ v2 ≤ 5 := by
        rw [Int32.le_iff_toInt_le, show (nI 6).toInt = 6 from by decide] at hn
        rw [Int32.le_iff_toInt_le, show (5 : Int32).toInt = 5 from by decide]
        omega
      refine br_f h0 (br_f h6 ?_)
      unfold wpY_detail
      exact yw_isSlot h1 h3 ht (br_f (by decide) (br_f h0 (br_f h6 ⟨rfl, I'⟩)))
    · have h0 : ¬ nI j < 0 := nI_pos (by omega)
      have h6 : nI j ≤ 5 := nI_le (b := 5) (by omega) (by omega)
      refine br_f h0 (br_t h6 ?_)
      have start : ∀ post : Int32 → Prop, ((nI j = 5 → (vp_in (nI t) 5 ∧ (post (a_used (nI t).toNatClampNeg)))) ∧ (¬ nI j = 5 → (((nI j = 4 → (vp_in (nI t) 5 ∧ ((((a_phaseOf (nI t).toNatClampNeg) = 0 → (post 0)) ∧ (¬ (a_phaseOf (nI t).toNatClampNeg) = 0 → (wY_detail_47 post (nI t) (nI j) f_slots f_capacity f_clock b_states b_values b_reads b_writes b_touched b_beforeStates b_beforeValues a_phaseOf a_outcomeOf a_used a_opKind a_opFirst a_opSecond a_beganAt a_acceptedAt a_rowCount a_rowKeys a_rowValues)))))) ∧ (¬ nI j = 4 → (wY_detail_47 post (nI t) (nI j) f_slots f_capacity f_clock b_states b_values b_reads b_writes b_touched b_beforeStates b_beforeValues a_phaseOf a_outcomeOf a_used a_opKind a_opFirst a_opSecond a_beganAt a_acceptedAt a_rowCount a_rowKeys a_rowValues)))))) → wpY_detail post (f_slots, f_capacity, f_clock, b_states, b_values, b_reads, b_writes, b_touched, b_beforeStates, b_beforeValues, a_phaseOf, a_outcomeOf, a_used, a_opKind, a_opFirst, a_opSecond, a_beganAt, a_acceptedAt, a_rowCount, a_rowKeys, a_rowValues) (nI t) (nI j) := by
        intro post h
        unfold wpY_detail
        exact yw_isSlot h1 h3 ht (br_f (by decide) (br_f h0 (br_t h6 h)))
      have y47 : ∀ (post : Int32 → Prop), j < 4 → (a_phaseOf t = 2 → wY_detail_64 post (nI t) (nI j) f_slots f_capacity f_clock b_states b_values b_reads b_writes b_touched b_beforeStates b_beforeValues a_phaseOf a_outcomeOf a_used a_opKind a_opFirst a_opSecond a_beganAt a_acceptedAt a_rowCount a_rowKeys a_rowValues) → (a_phaseOf t ≠ 2 → post 0) → wY_detail_47 post (nI t) (nI j) f_slots f_capacity f_clock b_states b_values b_reads b_writes b_touched b_beforeStates b_beforeValues a_phaseOf a_outcomeOf a_used a_opKind a_opFirst a_opSecond a_beganAt a_acceptedAt a_rowCount a_rowKeys a_rowValues := by
        intro post hj4 h g
        refine br_f (nI_ge (b := 4) hj4 (by omega)) ⟨vt, ?_⟩
        rw [ct]
        exact br_c (fun z => h z) (fun z => g z)
      match j, hj, start, y47 with
      | 0, _, start, y47 =>
        refine br_t rfl ⟨vt, start _ (br_f (by decide) (br_f (by decide) (y47 _ (by omega) (fun p2 => br_t rfl ⟨vt, rfl, I'⟩) (fun p2 => ⟨?_, I'⟩))))⟩
        rw [ct]; exact (hT2.2.1 p2).1.symm
      | 1, _, start, y47 =>
        refine br_f (by decide) (br_t rfl ⟨vt, start _ (br_f (by decide) (br_f (by decide) (y47 _ (by omega) (fun p2 => br_f (by decide) (br_t rfl ⟨vt, rfl, I'⟩)) (fun p2 => ⟨?_, I'⟩))))⟩)
        rw [ct]; exact (hT2.2.1 p2).2.1.symm
      | 2, _, start, y47 =>
        refine br_f (by decide) (br_f (by decide) (br_t rfl ⟨vt, start _ (br_f (by decide) (br_f (by decide) (y47 _ (by omega) (fun p2 => br_f (by decide) (br_f (by decide) (br_t rfl ⟨vt, rfl, I'⟩))) (fun p2 => ⟨?_, I'⟩))))⟩))
        rw [ct]; exact (hT2.2.1 p2).2.2.symm
      | 3, _, start, y47 =>
        obtain ⟨r, g1, g2⟩ := zz_queue (f_END := f_END) (f_NOBODY := f_NOBODY) (f_FAN := f_FAN) (f_FILL := f_FILL) (f_STRIDE := f_STRIDE) (f_DEPTH := f_DEPTH) (f_PAGES := f_PAGES) (f_ROWS := f_ROWS) (f_capacity := f_capacity) (f_entryCount := f_entryCount) (f_freeRecs := f_freeRecs) (f_freePages := f_freePages) (f_root := f_root) (f_height := f_height) (f_clock := f_clock) (a_recKey := a_recKey) (a_recState := a_recState) (a_recValue := a_recValue) (a_next := a_next) (a_prev := a_prev) (a_readers := a_readers) (a_writers := a_writers) (a_gapReaders := a_gapReaders) (a_owner := a_owner) (a_baseState := a_baseState) (a_baseValue := a_baseValue) (a_recFree := a_recFree) (a_pageFill := a_pageFill) (a_pageSlot := a_pageSlot) (a_pageTop := a_pageTop) (a_pageFree := a_pageFree) (a_pathPage := a_pathPage) (a_pathSlot := a_pathSlot) (a_phaseOf := a_phaseOf) (a_outcomeOf := a_outcomeOf) (a_used := a_used) (a_beganAt := a_beganAt) (a_opKind := a_opKind) (a_opFirst := a_opFirst) (a_opSecond := a_opSecond) (a_acceptedAt := a_acceptedAt) (a_rowCount := a_rowCount) (a_rowKeys := a_rowKeys) (a_rowValues := a_rowValues) (a_reach := a_reach) (b_states := b_states) (b_values := b_values) (b_reads := b_reads) (b_writes := b_writes) (b_touched := b_touched) (b_beforeStates := b_beforeStates) (b_beforeValues := b_beforeValues) h1 h3 ht s 0 1 (by omega)
        refine br_f (by decide) (br_f (by decide) (br_f (by decide) (br_t rfl ⟨vt, ?_⟩)))
        rw [ct]
        refine br_c (fun p2 => ⟨s + 1, g1 _ _ (by omega) (start _ (br_f (by decide) (br_f (by decide) (y47 _ (by omega) (fun _ => br_f (by decide) (br_f (by decide) (br_f (by decide) ⟨s + 1, g2 _ _ (by omega) ⟨rfl, I'⟩⟩))) (fun c => absurd p2 c)))))⟩) (fun p2 => start _ (br_f (by decide) (br_f (by decide) (y47 _ (by omega) (fun c => absurd c p2) (fun _ => ⟨rfl, I'⟩)))))
      | 4, _, start, _ =>
        obtain ⟨r, g1, g2⟩ := zz_age (f_END := f_END) (f_NOBODY := f_NOBODY) (f_FAN := f_FAN) (f_FILL := f_FILL) (f_STRIDE := f_STRIDE) (f_DEPTH := f_DEPTH) (f_PAGES := f_PAGES) (f_ROWS := f_ROWS) (f_capacity := f_capacity) (f_entryCount := f_entryCount) (f_freeRecs := f_freeRecs) (f_freePages := f_freePages) (f_root := f_root) (f_height := f_height) (f_clock := f_clock) (a_recKey := a_recKey) (a_recState := a_recState) (a_recValue := a_recValue) (a_next := a_next) (a_prev := a_prev) (a_readers := a_readers) (a_writers := a_writers) (a_gapReaders := a_gapReaders) (a_owner := a_owner) (a_baseState := a_baseState) (a_baseValue := a_baseValue) (a_recFree := a_recFree) (a_pageFill := a_pageFill) (a_pageSlot := a_pageSlot) (a_pageTop := a_pageTop) (a_pageFree := a_pageFree) (a_pathPage := a_pathPage) (a_pathSlot := a_pathSlot) (a_phaseOf := a_phaseOf) (a_outcomeOf := a_outcomeOf) (a_used := a_used) (a_beganAt := a_beganAt) (a_opKind := a_opKind) (a_opFirst := a_opFirst) (a_opSecond := a_opSecond) (a_acceptedAt := a_acceptedAt) (a_rowCount := a_rowCount) (a_rowKeys := a_rowKeys) (a_rowValues := a_rowValues) (a_reach := a_reach) (b_states := b_states) (b_values := b_values) (b_reads := b_reads) (b_writes := b_writes) (b_touched := b_touched) (b_beforeStates := b_beforeStates) (b_beforeValues := b_beforeValues) h1 h3 ht s 0 1 (by omega)
        refine br_f (by decide) (br_f (by decide) (br_f (by decide) (br_f (by decide) (br_t rfl ⟨vt, ?_⟩))))
        rw [ct]
        refine br_c (fun p0 => start _ (br_f (by decide) (br_t rfl ⟨vt, br_t (by rw [ct]; exact p0) ⟨rfl, I'⟩⟩))) (fun p0 => ⟨s + 1, g1 _ _ (by omega) (start _ (br_f (by decide) (br_t rfl ⟨vt, br_f (by rw [ct]; exact p0) (br_t (by decide) (br_f (by decide) (br_f (by decide) (br_f (by decide) ⟨s + 1, g2 _ _ (by omega) ⟨rfl, I'⟩⟩))))⟩)))⟩)
      | 5, _, start, _ =>
        exact br_f (by decide) (br_f (by decide) (br_f (by decide) (br_f (by decide) (br_f (by decide) ⟨vt, start _ (br_t rfl ⟨vt, rfl, I'⟩)⟩))))
      | j + 6, hj, _, _ => omega
end
section
/-! the calls that look up a key -/
theorem i_vc_waitsFor {k : Nat} {u : SX} {v : SY} (I : i_Rel k u v) (hk : k + 4 ≤ 2050) (v1 : Int32) (v2 : Int32) : wpX_waitsFor (fun r u' => wpY_waitsFor (fun r' => r' = r ∧ i_Rel (k + 4) u' v) v v1 v2) u v1 v2 := by
  refine zz_el (P := fun u v => wpX_waitsFor (fun r u' => wpY_waitsFor (fun r' => r' = r ∧ zz_R u' v) v v1 v2) u v1 v2) ?_ I
  intro f_END f_NOBODY f_FAN f_FILL f_STRIDE f_DEPTH f_PAGES f_ROWS f_slots f_capacity f_entryCount f_freeRecs f_freePages f_root f_height f_clock a_recKey a_recState a_recValue a_next a_prev a_readers a_writers a_gapReaders a_owner a_baseState a_baseValue a_recFree a_pageFill a_pageSlot a_pageTop a_pageFree a_pathPage a_pathSlot a_phaseOf a_outcomeOf a_used a_beganAt a_opKind a_opFirst a_opSecond a_acceptedAt a_rowCount a_rowKeys a_rowValues a_reach b_states b_values b_reads b_writes b_touched b_beforeStates b_beforeValues s c L ky h1 h2 h3 h4 h5 hT hS hR hD
  have I' : zz_R (f_END, f_NOBODY, f_FAN, f_FILL, f_STRIDE, f_DEPTH, f_PAGES, f_ROWS, f_slots, f_capacity, f_entryCount, f_freeRecs, f_freePages, f_root, f_height, f_clock, a_recKey, a_recState, a_recValue, a_next, a_prev, a_readers, a_writers, a_gapReaders, a_owner, a_baseState, a_baseValue, a_recFree, a_pageFill, a_pageSlot, a_pageTop, a_pageFree, a_pathPage, a_pathSlot, a_phaseOf, a_outcomeOf, a_used, a_beganAt, a_opKind, a_opFirst, a_opSecond, a_acceptedAt, a_rowCount, a_rowKeys, a_rowValues, a_reach) (f_slots, f_capacity, f_clock, b_states, b_values, b_reads, b_writes, b_touched, b_beforeStates, b_beforeValues, a_phaseOf, a_outcomeOf, a_used, a_opKind, a_opFirst, a_opSecond, a_beganAt, a_acceptedAt, a_rowCount, a_rowKeys, a_rowValues) := zz_in h1 h2 h3 h4 h5 hT hS hR hD
  unfold wpX_waitsFor
  rcases zz_slot v1 f_slots h1 h3 with hb | ⟨t, ht, rfl⟩
  · refine xw_slot0 hb (br_t rfl ?_)
    unfold wpY_waitsFor
    exact yw_slot0 hb (br_t rfl ⟨rfl, I'⟩)
  · refine xw_slot1 h1 h3 ht (br_f (by decide) ?_)
    rcases zz_slot v2 f_slots h1 h3 with hb | ⟨o, ho, rfl⟩
    · refine xw_slot0 hb (br_t rfl ?_)
      unfold wpY_waitsFor
      exact yw_isSlot h1 h3 ht (br_f (by decide) (yw_slot0 hb (br_t rfl ⟨rfl, I'⟩)))
    · have vt : vp_in (nI t) 5 := vp_in_nI (by omega) (by omega)
      have ct : (nI t).toNatClampNeg = t := nI_clamp (by omega)
      refine xw_slot1 h1 h3 ho (br_f (by decide) ?_)
      refine pk_eq t o (fun e => yw_waitsFor h1 h3 hT ht ho (fun z => absurd e z.2.1) (fun _ => ⟨rfl, I'⟩)) (fun e => ⟨vt, ?_⟩)
      rw [ct]
      refine br_c (fun p2 => xw_blk h3 hT hS hR hD ht p2 (fun m pp sl hm => ?_)) (fun p2 => yw_waitsFor h1 h3 hT ht ho (fun z => absurd z.1 p2) (fun _ => ⟨rfl, I'⟩))
      have I2 : zz_R (f_END, f_NOBODY, f_FAN, f_FILL, f_STRIDE, f_DEPTH, f_PAGES, f_ROWS, f_slots, f_capacity, f_entryCount, f_freeRecs, f_freePages, f_root, f_height, f_clock, a_recKey, a_recState, a_recValue, a_next, a_prev, a_readers, a_writers, a_gapReaders, a_owner, a_baseState, a_baseValue, a_recFree, a_pageFill, a_pageSlot, a_pageTop, a_pageFree, pp, sl, a_phaseOf, a_outcomeOf, a_used, a_beganAt, a_opKind, a_opFirst, a_opSecond, a_acceptedAt, a_rowCount, a_rowKeys, a_rowValues, a_reach) (f_slots, f_capacity, f_clock, b_states, b_values, b_reads, b_writes, b_touched, b_beforeStates, b_beforeValues, a_phaseOf, a_outcomeOf, a_used, a_opKind, a_opFirst, a_opSecond, a_beganAt, a_acceptedAt, a_rowCount, a_rowKeys, a_rowValues) := zz_in h1 h2 h3 h4 h5 hT hS hR hD
      refine br_c (fun z => ?_) (fun z => ?_)
      · rw [bk_and0 (by omega)] at z
        exact yw_waitsFor h1 h3 hT ht ho (fun c => by rw [(hm o).mpr c] at z; exact absurd z (by decide)) (fun _ => ⟨rfl, I2⟩)
      · rw [bk_and0 (by omega)] at z
        exact yw_waitsFor h1 h3 hT ht ho (fun _ => ⟨rfl, I2⟩) (fun c => by
          exfalso
          apply z
          cases hb : bt m o
          · rfl
          · exact absurd ((hm o).mp hb) c)
theorem i_vc_claim {k : Nat} {u : SX} {v : SY} (I : i_Rel k u v) (hk : k + 4 ≤ 2050) (v1 : Int32) (v2 : Int32) : wpX_claim (fun r u' => wpY_claim (fun r' => r' = r ∧ i_Rel (k + 4) u' v) v v1 v2) u v1 v2 := by
  refine zz_el (P := fun u v => wpX_claim (fun r u' => wpY_claim (fun r' => r' = r ∧ zz_R u' v) v v1 v2) u v1 v2) ?_ I
  intro f_END f_NOBODY f_FAN f_FILL f_STRIDE f_DEPTH f_PAGES f_ROWS f_slots f_capacity f_entryCount f_freeRecs f_freePages f_root f_height f_clock a_recKey a_recState a_recValue a_next a_prev a_readers a_writers a_gapReaders a_owner a_baseState a_baseValue a_recFree a_pageFill a_pageSlot a_pageTop a_pageFree a_pathPage a_pathSlot a_phaseOf a_outcomeOf a_used a_beganAt a_opKind a_opFirst a_opSecond a_acceptedAt a_rowCount a_rowKeys a_rowValues a_reach b_states b_values b_reads b_writes b_touched b_beforeStates b_beforeValues s c L ky h1 h2 h3 h4 h5 hT hS hR hD
  have I' : zz_R (f_END, f_NOBODY, f_FAN, f_FILL, f_STRIDE, f_DEPTH, f_PAGES, f_ROWS, f_slots, f_capacity, f_entryCount, f_freeRecs, f_freePages, f_root, f_height, f_clock, a_recKey, a_recState, a_recValue, a_next, a_prev, a_readers, a_writers, a_gapReaders, a_owner, a_baseState, a_baseValue, a_recFree, a_pageFill, a_pageSlot, a_pageTop, a_pageFree, a_pathPage, a_pathSlot, a_phaseOf, a_outcomeOf, a_used, a_beganAt, a_opKind, a_opFirst, a_opSecond, a_acceptedAt, a_rowCount, a_rowKeys, a_rowValues, a_reach) (f_slots, f_capacity, f_clock, b_states, b_values, b_reads, b_writes, b_touched, b_beforeStates, b_beforeValues, a_phaseOf, a_outcomeOf, a_used, a_opKind, a_opFirst, a_opSecond, a_beganAt, a_acceptedAt, a_rowCount, a_rowKeys, a_rowValues) := zz_in h1 h2 h3 h4 h5 hT hS hR hD
  unfold wpX_claim
  rcases zz_slot v1 f_slots h1 h3 with hb | ⟨t, ht, rfl⟩
  · refine xw_slot0 hb (br_t rfl ?_)
    unfold wpY_claim
    exact yw_slot0 hb (br_t rfl ⟨rfl, I'⟩)
  · refine xw_slot1 h1 h3 ht (br_f (by decide) ?_)
    rcases zz_key v2 with hb | ⟨j, hj, rfl⟩
    · refine xw_key0 hb (br_t rfl ?_)
      unfold wpY_claim
      exact yw_isSlot h1 h3 ht (br_f (by decide) (yw_key0 hb (br_t rfl ⟨rfl, I'⟩)))
    · refine xw_key1 hj (br_f (by decide) (nm_e ?_))
      obtain ⟨A, r, B, e1, hA, hr⟩ := rg_find hS (k := j) (by omega)
      have hrR : r ∈ L ++ [48] := by rw [e1]; simp
      have hr49 := rg_le hS hrR
      have vr : vp_in (nI r) 49 := vp_in_nI hr49.1 (by omega)
      have cr : (nI r).toNatClampNeg = r := nI_clamp (by omega)
      have hrk := rg_k hS hrR
      have hFk := rg_toF hS e1 hA hr
      have vj : vp_in (nI j) 1000 := vp_in_nI hj (by omega)
      have cj : (nI j).toNatClampNeg = j := nI_clamp (by omega)
      have hkN : ky r ≠ j → dd_N b_states b_values b_writes b_touched j := fun ek => by
        refine hD.2.1 j hj (fun p hp e => ek ?_)
        rcases hFk.2.2 p (by simp [hp]) with z | z
        · omega
        · omega
      have hI2 : ∀ pp sl, zz_R (f_END, f_NOBODY, f_FAN, f_FILL, f_STRIDE, f_DEPTH, f_PAGES, f_ROWS, f_slots, f_capacity, f_entryCount, f_freeRecs, f_freePages, f_root, f_height, f_clock, a_recKey, a_recState, a_recValue, a_next, a_prev, a_readers, a_writers, a_gapReaders, a_owner, a_baseState, a_baseValue, a_recFree, a_pageFill, a_pageSlot, a_pageTop, a_pageFree, pp, sl, a_phaseOf, a_outcomeOf, a_used, a_beganAt, a_opKind, a_opFirst, a_opSecond, a_acceptedAt, a_rowCount, a_rowKeys, a_rowValues, a_reach) (f_slots, f_capacity, f_clock, b_states, b_values, b_reads, b_writes, b_touched, b_beforeStates, b_beforeValues, a_phaseOf, a_outcomeOf, a_used, a_opKind, a_opFirst, a_opSecond, a_beganAt, a_acceptedAt, a_rowCount, a_rowKeys, a_rowValues) := fun pp sl => zz_in h1 h2 h3 h4 h5 hT hS hR hD
      have ht5 : t < 5 := by omega
      have v5 : vp_in (nI (t * 1000 + j)) 5000 := vp_in_nI (by omega) (by omega)
      have hY : ∀ (post : Int32 → Prop) (x y : Bool), b_reads (t * 1000 + j) = dd_b x → b_writes (t * 1000 + j) = dd_b y → post (match x, y with | false, false => 0 | true, false => 1 | false, true => 2 | true, true => 3) → wpY_claim post (f_slots, f_capacity, f_clock, b_states, b_values, b_reads, b_writes, b_touched, b_beforeStates, b_beforeValues, a_phaseOf, a_outcomeOf, a_used, a_opKind, a_opFirst, a_opSecond, a_beganAt, a_acceptedAt, a_rowCount, a_rowKeys, a_rowValues) (nI t) (nI j) := by
        intro post x y ex ey h
        unfold wpY_claim
        refine yw_isSlot h1 h3 ht (br_f (by decide) (yw_key1 hj (br_f (by decide) ?_)))
        rw [yw_ix, nI_clamp (n := t * 1000 + j) (by omega)]
        refine ⟨v5, nm_r ex ⟨v5, nm_r ey ?_⟩⟩
        cases x
        · cases y
          · exact br_t rfl (br_t rfl (br_t rfl h))
          · exact br_t rfl (br_t rfl (br_f (by decide) h))
        · cases y
          · exact br_f (by decide) (br_t rfl (br_f (by decide) h))
          · exact br_f (by decide) (br_f (by decide) h)
      refine xw_locate hS hR (by omega) e1 hA hr fun pp sl => ⟨vr, ?_⟩
      rw [cr, hrk]
      refine pk_eq (ky r) j (fun ek => ⟨vr, ?_⟩) (fun ek => ⟨vr, ?_⟩)
      · have hrL : r ∈ L := rg_L hS hrR (by omega)
        have hE := ((hD.1 r hrL).2.2.2.1 t ht5)
        rw [ek] at hE
        have f76 : ∀ (x5 : Int32) (x : Bool), bt (a_readers r) t = x → (bt (a_writers r) t = false → x5 = (match x, false with | false, false => 0 | true, false => 1 | false, true => 2 | true, true => 3)) → (bt (a_writers r) t = true → x5 + 2 = (match x, true with | false, false => 0 | true, false => 1 | false, true => 2 | true, true => 3)) → wX_claim_76 (fun r u' => wpY_claim (fun r' => r' = r ∧ zz_R u' (f_slots, f_capacity, f_clock, b_states, b_values, b_reads, b_writes, b_touched, b_beforeStates, b_beforeValues, a_phaseOf, a_outcomeOf, a_used, a_opKind, a_opFirst, a_opSecond, a_beganAt, a_acceptedAt, a_rowCount, a_rowKeys, a_rowValues)) (f_slots, f_capacity, f_clock, b_states, b_values, b_reads, b_writes, b_touched, b_beforeStates, b_beforeValues, a_phaseOf, a_outcomeOf, a_used, a_opKind, a_opFirst, a_opSecond, a_beganAt, a_acceptedAt, a_rowCount, a_rowKeys, a_rowValues) (nI t) (nI j)) ((1 : Int32) <<< (nI t &&& 31)) (nI r) x5 f_END f_NOBODY f_FAN f_FILL f_STRIDE f_DEPTH f_PAGES f_ROWS f_slots f_capacity f_entryCount f_freeRecs f_freePages f_root f_height f_clock a_recKey a_recState a_recValue a_next a_prev a_readers a_writers a_gapReaders a_owner a_baseState a_baseValue a_recFree a_pageFill a_pageSlot a_pageTop a_pageFree pp sl a_phaseOf a_outcomeOf a_used a_beganAt a_opKind a_opFirst a_opSecond a_acceptedAt a_rowCount a_rowKeys a_rowValues a_reach := by
          intro x5 x ex a1 a2
          refine ⟨vr, ?_⟩
          rw [cr]
          refine br_c (fun z => ?_) (fun z => nm_e ?_)
          · rw [bk_and0 (by omega)] at z
            exact hY _ x false (by rw [hE.1, ex]) (by rw [hE.2.1, z]) ⟨(a1 z).symm, hI2 pp sl⟩
          · rw [bk_and0 (by omega)] at z
            have z' : bt (a_writers r) t = true := by
              cases hb : bt (a_writers r) t
              · exact absurd hb z
              · rfl
            exact hY _ x true (by rw [hE.1, ex]) (by rw [hE.2.1, z']) ⟨(a2 z').symm, hI2 pp sl⟩
        refine br_c (fun z => ?_) (fun z => nm_e ?_)
        · rw [bk_and0 (by omega)] at z
          exact f76 0 false z (fun _ => rfl) (fun _ => by decide)
        · rw [bk_and0 (by omega)] at z
          have z' : bt (a_readers r) t = true := by
            cases hb : bt (a_readers r) t
            · exact absurd hb z
            · rfl
          exact f76 (0 + 1) true z' (fun _ => by decide) (fun _ => by decide)
      · have hg := hD.2.2.1 r j hFk (fun e => ek e.symm) t ht5
        have hw := ((hkN ek).2.2 t ht5).1
        refine br_c (fun z => ?_) (fun z => ?_)
        · rw [bk_and0 (by omega)] at z
          exact hY _ false false (by rw [hg, z]) hw ⟨rfl, hI2 pp sl⟩
        · rw [bk_and0 (by omega)] at z
          have z' : bt (a_gapReaders r) t = true := by
            cases hb : bt (a_gapReaders r) t
            · exact absurd hb z
            · rfl
          exact hY _ true false (by rw [hg, z']) hw ⟨rfl, hI2 pp sl⟩
theorem i_vc_state {k : Nat} {u : SX} {v : SY} (I : i_Rel k u v) (hk : k + 4 ≤ 2050) (v1 : Int32) : wpX_state (fun r u' => wpY_state (fun r' => r' = r ∧ i_Rel (k + 4) u' v) v v1) u v1 := by
  refine zz_el (P := fun u v => wpX_state (fun r u' => wpY_state (fun r' => r' = r ∧ zz_R u' v) v v1) u v1) ?_ I
  intro f_END f_NOBODY f_FAN f_FILL f_STRIDE f_DEPTH f_PAGES f_ROWS f_slots f_capacity f_entryCount f_freeRecs f_freePages f_root f_height f_clock a_recKey a_recState a_recValue a_next a_prev a_readers a_writers a_gapReaders a_owner a_baseState a_baseValue a_recFree a_pageFill a_pageSlot a_pageTop a_pageFree a_pathPage a_pathSlot a_phaseOf a_outcomeOf a_used a_beganAt a_opKind a_opFirst a_opSecond a_acceptedAt a_rowCount a_rowKeys a_rowValues a_reach b_states b_values b_reads b_writes b_touched b_beforeStates b_beforeValues s c L ky h1 h2 h3 h4 h5 hT hS hR hD
  have I' : zz_R (f_END, f_NOBODY, f_FAN, f_FILL, f_STRIDE, f_DEPTH, f_PAGES, f_ROWS, f_slots, f_capacity, f_entryCount, f_freeRecs, f_freePages, f_root, f_height, f_clock, a_recKey, a_recState, a_recValue, a_next, a_prev, a_readers, a_writers, a_gapReaders, a_owner, a_baseState, a_baseValue, a_recFree, a_pageFill, a_pageSlot, a_pageTop, a_pageFree, a_pathPage, a_pathSlot, a_phaseOf, a_outcomeOf, a_used, a_beganAt, a_opKind, a_opFirst, a_opSecond, a_acceptedAt, a_rowCount, a_rowKeys, a_rowValues, a_reach) (f_slots, f_capacity, f_clock, b_states, b_values, b_reads, b_writes, b_touched, b_beforeStates, b_beforeValues, a_phaseOf, a_outcomeOf, a_used, a_opKind, a_opFirst, a_opSecond, a_beganAt, a_acceptedAt, a_rowCount, a_rowKeys, a_rowValues) := zz_in h1 h2 h3 h4 h5 hT hS hR hD
  unfold wpX_state
  rcases zz_key v1 with hb | ⟨j, hj, rfl⟩
  · refine xw_key0 hb (br_t rfl ?_)
    unfold wpY_state
    exact yw_key0 hb (br_t rfl ⟨rfl, I'⟩)
  · refine xw_key1 hj (br_f (by decide) ?_)
    obtain ⟨A, r, B, e1, hA, hr⟩ := rg_find hS (k := j) (by omega)
    have hrR : r ∈ L ++ [48] := by rw [e1]; simp
    have hr49 := rg_le hS hrR
    have vr : vp_in (nI r) 49 := vp_in_nI hr49.1 (by omega)
    have cr : (nI r).toNatClampNeg = r := nI_clamp (by omega)
    have hrk := rg_k hS hrR
    have hFk := rg_toF hS e1 hA hr
    have vj : vp_in (nI j) 1000 := vp_in_nI hj (by omega)
    have cj : (nI j).toNatClampNeg = j := nI_clamp (by omega)
    have hkN : ky r ≠ j → dd_N b_states b_values b_writes b_touched j := fun ek => by
      refine hD.2.1 j hj (fun p hp e => ek ?_)
      rcases hFk.2.2 p (by simp [hp]) with z | z
      · omega
      · omega
    have hI2 : ∀ pp sl, zz_R (f_END, f_NOBODY, f_FAN, f_FILL, f_STRIDE, f_DEPTH, f_PAGES, f_ROWS, f_slots, f_capacity, f_entryCount, f_freeRecs, f_freePages, f_root, f_height, f_clock, a_recKey, a_recState, a_recValue, a_next, a_prev, a_readers, a_writers, a_gapReaders, a_owner, a_baseState, a_baseValue, a_recFree, a_pageFill, a_pageSlot, a_pageTop, a_pageFree, pp, sl, a_phaseOf, a_outcomeOf, a_used, a_beganAt, a_opKind, a_opFirst, a_opSecond, a_acceptedAt, a_rowCount, a_rowKeys, a_rowValues, a_reach) (f_slots, f_capacity, f_clock, b_states, b_values, b_reads, b_writes, b_touched, b_beforeStates, b_beforeValues, a_phaseOf, a_outcomeOf, a_used, a_opKind, a_opFirst, a_opSecond, a_beganAt, a_acceptedAt, a_rowCount, a_rowKeys, a_rowValues) := fun pp sl => zz_in h1 h2 h3 h4 h5 hT hS hR hD
    have hY : ∀ (post : Int32 → Prop), post (b_states j) → wpY_state post (f_slots, f_capacity, f_clock, b_states, b_values, b_reads, b_writes, b_touched, b_beforeStates, b_beforeValues, a_phaseOf, a_outcomeOf, a_used, a_opKind, a_opFirst, a_opSecond, a_beganAt, a_acceptedAt, a_rowCount, a_rowKeys, a_rowValues) (nI j) := by
      intro post h
      unfold wpY_state
      refine yw_key1 hj (br_f (by decide) ⟨vj, ?_⟩)
      rw [cj]; exact h
    refine xw_locate hS hR (by omega) e1 hA hr fun pp sl => ⟨vr, ?_⟩
    rw [cr, hrk]
    refine pk_eq (ky r) j (fun ek => ⟨vr, hY _ ⟨?_, hI2 pp sl⟩⟩) (fun ek => hY _ ⟨(hkN ek).1, hI2 pp sl⟩)
    have hrL : r ∈ L := rg_L hS hrR (by omega)
    rw [← ek]
    exact (hD.1 r hrL).2.1
theorem i_vc_valueAt {k : Nat} {u : SX} {v : SY} (I : i_Rel k u v) (hk : k + 4 ≤ 2050) (v1 : Int32) : wpX_valueAt (fun r u' => wpY_valueAt (fun r' => r' = r ∧ i_Rel (k + 4) u' v) v v1) u v1 := by
  refine zz_el (P := fun u v => wpX_valueAt (fun r u' => wpY_valueAt (fun r' => r' = r ∧ zz_R u' v) v v1) u v1) ?_ I
  intro f_END f_NOBODY f_FAN f_FILL f_STRIDE f_DEPTH f_PAGES f_ROWS f_slots f_capacity f_entryCount f_freeRecs f_freePages f_root f_height f_clock a_recKey a_recState a_recValue a_next a_prev a_readers a_writers a_gapReaders a_owner a_baseState a_baseValue a_recFree a_pageFill a_pageSlot a_pageTop a_pageFree a_pathPage a_pathSlot a_phaseOf a_outcomeOf a_used a_beganAt a_opKind a_opFirst a_opSecond a_acceptedAt a_rowCount a_rowKeys a_rowValues a_reach b_states b_values b_reads b_writes b_touched b_beforeStates b_beforeValues s c L ky h1 h2 h3 h4 h5 hT hS hR hD
  have I' : zz_R (f_END, f_NOBODY, f_FAN, f_FILL, f_STRIDE, f_DEPTH, f_PAGES, f_ROWS, f_slots, f_capacity, f_entryCount, f_freeRecs, f_freePages, f_root, f_height, f_clock, a_recKey, a_recState, a_recValue, a_next, a_prev, a_readers, a_writers, a_gapReaders, a_owner, a_baseState, a_baseValue, a_recFree, a_pageFill, a_pageSlot, a_pageTop, a_pageFree, a_pathPage, a_pathSlot, a_phaseOf, a_outcomeOf, a_used, a_beganAt, a_opKind, a_opFirst, a_opSecond, a_acceptedAt, a_rowCount, a_rowKeys, a_rowValues, a_reach) (f_slots, f_capacity, f_clock, b_states, b_values, b_reads, b_writes, b_touched, b_beforeStates, b_beforeValues, a_phaseOf, a_outcomeOf, a_used, a_opKind, a_opFirst, a_opSecond, a_beganAt, a_acceptedAt, a_rowCount, a_rowKeys, a_rowValues) := zz_in h1 h2 h3 h4 h5 hT hS hR hD
  unfold wpX_valueAt
  rcases zz_key v1 with hb | ⟨j, hj, rfl⟩
  · refine xw_key0 hb (br_t rfl ?_)
    unfold wpY_valueAt
    exact yw_key0 hb (br_t rfl ⟨rfl, I'⟩)
  · refine xw_key1 hj (br_f (by decide) ?_)
    obtain ⟨A, r, B, e1, hA, hr⟩ := rg_find hS (k := j) (by omega)
    have hrR : r ∈ L ++ [48] := by rw [e1]; simp
    have hr49 := rg_le hS hrR
    have vr : vp_in (nI r) 49 := vp_in_nI hr49.1 (by omega)
    have cr : (nI r).toNatClampNeg = r := nI_clamp (by omega)
    have hrk := rg_k hS hrR
    have hFk := rg_toF hS e1 hA hr
    have vj : vp_in (nI j) 1000 := vp_in_nI hj (by omega)
    have cj : (nI j).toNatClampNeg = j := nI_clamp (by omega)
    have hkN : ky r ≠ j → dd_N b_states b_values b_writes b_touched j := fun ek => by
      refine hD.2.1 j hj (fun p hp e => ek ?_)
      rcases hFk.2.2 p (by simp [hp]) with z | z
      · omega
      · omega
    have hI2 : ∀ pp sl, zz_R (f_END, f_NOBODY, f_FAN, f_FILL, f_STRIDE, f_DEPTH, f_PAGES, f_ROWS, f_slots, f_capacity, f_entryCount, f_freeRecs, f_freePages, f_root, f_height, f_clock, a_recKey, a_recState, a_recValue, a_next, a_prev, a_readers, a_writers, a_gapReaders, a_owner, a_baseState, a_baseValue, a_recFree, a_pageFill, a_pageSlot, a_pageTop, a_pageFree, pp, sl, a_phaseOf, a_outcomeOf, a_used, a_beganAt, a_opKind, a_opFirst, a_opSecond, a_acceptedAt, a_rowCount, a_rowKeys, a_rowValues, a_reach) (f_slots, f_capacity, f_clock, b_states, b_values, b_reads, b_writes, b_touched, b_beforeStates, b_beforeValues, a_phaseOf, a_outcomeOf, a_used, a_opKind, a_opFirst, a_opSecond, a_beganAt, a_acceptedAt, a_rowCount, a_rowKeys, a_rowValues) := fun pp sl => zz_in h1 h2 h3 h4 h5 hT hS hR hD
    have hY : ∀ (post : Int32 → Prop), post (b_values j) → wpY_valueAt post (f_slots, f_capacity, f_clock, b_states, b_values, b_reads, b_writes, b_touched, b_beforeStates, b_beforeValues, a_phaseOf, a_outcomeOf, a_used, a_opKind, a_opFirst, a_opSecond, a_beganAt, a_acceptedAt, a_rowCount, a_rowKeys, a_rowValues) (nI j) := by
      intro post h
      unfold wpY_valueAt
      refine yw_key1 hj (br_f (by decide) ⟨vj, ?_⟩)
      rw [cj]; exact h
    refine xw_locate hS hR (by omega) e1 hA hr fun pp sl => ⟨vr, ?_⟩
    rw [cr, hrk]
    refine pk_eq (ky r) j (fun ek => ⟨vr, ?_⟩) (fun ek => hY _ ⟨(hkN ek).2.1, hI2 pp sl⟩)
    have hrL : r ∈ L := rg_L hS hrR (by omega)
    have hE := hD.1 r hrL
    rw [ek] at hE
    refine br_c (fun z => ⟨vr, hY _ ⟨hE.2.2.1, hI2 pp sl⟩⟩) (fun z => hY _ ⟨?_, hI2 pp sl⟩)
    rw [hE.2.2.1]
    rcases hE.1 with c | c
    · exact absurd c z
    · exact c.2
theorem i_vc_stable {k : Nat} {u : SX} {v : SY} (I : i_Rel k u v) (hk : k + 4 ≤ 2050) (v1 : Int32) : wpX_stable (fun r u' => wpY_stable (fun r' => r' = r ∧ i_Rel (k + 4) u' v) v v1) u v1 := by
  refine zz_el (P := fun u v => wpX_stable (fun r u' => wpY_stable (fun r' => r' = r ∧ zz_R u' v) v v1) u v1) ?_ I
  intro f_END f_NOBODY f_FAN f_FILL f_STRIDE f_DEPTH f_PAGES f_ROWS f_slots f_capacity f_entryCount f_freeRecs f_freePages f_root f_height f_clock a_recKey a_recState a_recValue a_next a_prev a_readers a_writers a_gapReaders a_owner a_baseState a_baseValue a_recFree a_pageFill a_pageSlot a_pageTop a_pageFree a_pathPage a_pathSlot a_phaseOf a_outcomeOf a_used a_beganAt a_opKind a_opFirst a_opSecond a_acceptedAt a_rowCount a_rowKeys a_rowValues a_reach b_states b_values b_reads b_writes b_touched b_beforeStates b_beforeValues s c L ky h1 h2 h3 h4 h5 hT hS hR hD
  have I' : zz_R (f_END, f_NOBODY, f_FAN, f_FILL, f_STRIDE, f_DEPTH, f_PAGES, f_ROWS, f_slots, f_capacity, f_entryCount, f_freeRecs, f_freePages, f_root, f_height, f_clock, a_recKey, a_recState, a_recValue, a_next, a_prev, a_readers, a_writers, a_gapReaders, a_owner, a_baseState, a_baseValue, a_recFree, a_pageFill, a_pageSlot, a_pageTop, a_pageFree, a_pathPage, a_pathSlot, a_phaseOf, a_outcomeOf, a_used, a_beganAt, a_opKind, a_opFirst, a_opSecond, a_acceptedAt, a_rowCount, a_rowKeys, a_rowValues, a_reach) (f_slots, f_capacity, f_clock, b_states, b_values, b_reads, b_writes, b_touched, b_beforeStates, b_beforeValues, a_phaseOf, a_outcomeOf, a_used, a_opKind, a_opFirst, a_opSecond, a_beganAt, a_acceptedAt, a_rowCount, a_rowKeys, a_rowValues) := zz_in h1 h2 h3 h4 h5 hT hS hR hD
  unfold wpX_stable
  rcases zz_key v1 with hb | ⟨j, hj, rfl⟩
  · refine xw_key0 hb (br_t rfl ?_)
    unfold wpY_stable
    exact yw_key0 hb (br_t rfl ⟨rfl, I'⟩)
  · refine xw_key1 hj (br_f (by decide) ?_)
    obtain ⟨A, r, B, e1, hA, hr⟩ := rg_find hS (k := j) (by omega)
    have hrR : r ∈ L ++ [48] := by rw [e1]; simp
    have hr49 := rg_le hS hrR
    have vr : vp_in (nI r) 49 := vp_in_nI hr49.1 (by omega)
    have cr : (nI r).toNatClampNeg = r := nI_clamp (by omega)
    have hrk := rg_k hS hrR
    have hFk := rg_toF hS e1 hA hr
    have vj : vp_in (nI j) 1000 := vp_in_nI hj (by omega)
    have cj : (nI j).toNatClampNeg = j := nI_clamp (by omega)
    have hkN : ky r ≠ j → dd_N b_states b_values b_writes b_touched j := fun ek => by
      refine hD.2.1 j hj (fun p hp e => ek ?_)
      rcases hFk.2.2 p (by simp [hp]) with z | z
      · omega
      · omega
    have hI2 : ∀ pp sl, zz_R (f_END, f_NOBODY, f_FAN, f_FILL, f_STRIDE, f_DEPTH, f_PAGES, f_ROWS, f_slots, f_capacity, f_entryCount, f_freeRecs, f_freePages, f_root, f_height, f_clock, a_recKey, a_recState, a_recValue, a_next, a_prev, a_readers, a_writers, a_gapReaders, a_owner, a_baseState, a_baseValue, a_recFree, a_pageFill, a_pageSlot, a_pageTop, a_pageFree, pp, sl, a_phaseOf, a_outcomeOf, a_used, a_beganAt, a_opKind, a_opFirst, a_opSecond, a_acceptedAt, a_rowCount, a_rowKeys, a_rowValues, a_reach) (f_slots, f_capacity, f_clock, b_states, b_values, b_reads, b_writes, b_touched, b_beforeStates, b_beforeValues, a_phaseOf, a_outcomeOf, a_used, a_opKind, a_opFirst, a_opSecond, a_beganAt, a_acceptedAt, a_rowCount, a_rowKeys, a_rowValues) := fun pp sl => zz_in h1 h2 h3 h4 h5 hT hS hR hD
    have hph : ∀ o, a_phaseOf o ≠ 0 → o < s := fun o ho => by
      rcases (hT o).1 with z | z
      · exact absurd z ho
      · exact z.1
    have lp : ∀ (post : Int32 → Prop) (o : Nat), o ≤ s → (∀ t, t < o → b_touched (t * 1000 + j) = 0) → (∀ n, 0 < n → wY_stable_12 post (nI j) f_slots f_capacity f_clock b_states b_values b_reads b_writes b_touched b_beforeStates b_beforeValues a_phaseOf a_outcomeOf a_used a_opKind a_opFirst a_opSecond a_beganAt a_acceptedAt a_rowCount a_rowKeys a_rowValues n (nI o)) → ∀ (d i n : Nat), i + d = o → d < n → wY_stable_12 post (nI j) f_slots f_capacity f_clock b_states b_values b_reads b_writes b_touched b_beforeStates b_beforeValues a_phaseOf a_outcomeOf a_used a_opKind a_opFirst a_opSecond a_beganAt a_acceptedAt a_rowCount a_rowKeys a_rowValues n (nI i) := by
      intro post o ho hz hK d
      induction d with
      | zero =>
        intro i n hi hn
        rw [show i = o by omega]
        exact hK n (by omega)
      | succ d ih =>
        intro i n hi hn
        obtain ⟨n, rfl⟩ : ∃ m, n = m + 1 := ⟨n - 1, by omega⟩
        refine br_f (by rw [h1]; exact nI_ge (by omega) (by omega)) ?_
        rw [yw_ix, nI_clamp (n := i * 1000 + j) (by omega)]
        exact ⟨vp_in_nI (by omega) (by omega), br_t (hz i (by omega)) (nm_r (nI_1 i) (ih (i + 1) n (by omega) (by omega)))⟩
    have hY0 : ∀ (post : Int32 → Prop), (∀ t, t < s → b_touched (t * 1000 + j) = 0) → post (b_states j) → wpY_stable post (f_slots, f_capacity, f_clock, b_states, b_values, b_reads, b_writes, b_touched, b_beforeStates, b_beforeValues, a_phaseOf, a_outcomeOf, a_used, a_opKind, a_opFirst, a_opSecond, a_beganAt, a_acceptedAt, a_rowCount, a_rowKeys, a_rowValues) (nI j) := by
      intro post hz h
      unfold wpY_stable
      refine yw_key1 hj (br_f (by decide) ⟨s + 1, lp post s (Nat.le_refl _) hz (fun n hn => ?_) s 0 _ (by omega) (by omega)⟩)
      obtain ⟨n, rfl⟩ : ∃ m, n = m + 1 := ⟨n - 1, by omega⟩
      refine br_t (by rw [h1]; exact nI_le (Nat.le_refl _) (by omega)) ⟨vj, ?_⟩
      rw [cj]; exact h
    have hY1 : ∀ (post : Int32 → Prop) (o : Nat), o < s → (∀ t, t < o → b_touched (t * 1000 + j) = 0) → b_touched (o * 1000 + j) ≠ 0 → post (if b_beforeStates (o * 1000 + j) = 1 then 1 else 2) → wpY_stable post (f_slots, f_capacity, f_clock, b_states, b_values, b_reads, b_writes, b_touched, b_beforeStates, b_beforeValues, a_phaseOf, a_outcomeOf, a_used, a_opKind, a_opFirst, a_opSecond, a_beganAt, a_acceptedAt, a_rowCount, a_rowKeys, a_rowValues) (nI j) := by
      intro post o ho hz hb h
      unfold wpY_stable
      refine yw_key1 hj (br_f (by decide) ⟨s + 1, lp post o (by omega) hz (fun n hn => ?_) o 0 _ (by omega) (by omega)⟩)
      obtain ⟨n, rfl⟩ : ∃ m, n = m + 1 := ⟨n - 1, by omega⟩
      have v5 : vp_in (nI (o * 1000 + j)) 5000 := vp_in_nI (by omega) (by omega)
      refine br_f (by rw [h1]; exact nI_ge ho (by omega)) ?_
      rw [yw_ix, nI_clamp (n := o * 1000 + j) (by omega)]
      refine ⟨v5, br_f hb ⟨v5, br_c (fun z => ?_) (fun z => ?_)⟩⟩
      · rw [if_pos z] at h; exact h
      · rw [if_neg z] at h; exact h
    refine xw_locate hS hR (by omega) e1 hA hr fun pp sl => ⟨vr, ?_⟩
    rw [cr, hrk]
    refine pk_eq (ky r) j (fun ek => ⟨vr, ?_⟩) (fun ek => hY0 _ (fun t ht => ((hkN ek).2.2 t (by omega)).2) ⟨(hkN ek).1, hI2 pp sl⟩)
    have hrL : r ∈ L := rg_L hS hrR (by omega)
    have hE := hD.1 r hrL
    rw [ek] at hE
    refine br_c (fun z => ⟨vr, hY0 _ (fun t ht => ?_) ⟨hE.2.1, hI2 pp sl⟩⟩) (fun z => ⟨vr, ?_⟩)
    · rw [(hE.2.2.2.1 t (by omega)).2.2.1, z, decide_eq_false (dd_m1 (by omega))]; rfl
    · rcases hE.2.2.2.2.1 with c | ⟨o, ho5, eo⟩
      · exact absurd c z
      · have hEo := hE.2.2.2.1 o ho5
        have hbw := hEo.2.2.2 eo
        have hos := hph o (hD.2.2.2.1 r hrL o (Or.inr hbw.1))
        refine hY1 _ o hos (fun t ht => ?_) (by rw [hEo.2.2.1, dd_b1]; exact decide_eq_true eo) ⟨?_, hI2 pp sl⟩
        · rw [(hE.2.2.2.1 t (by omega)).2.2.1, dd_b0, eo]
          exact decide_eq_false (fun e => by have := dd_nIeq ho5 (by omega) e; omega)
        · rcases hbw.2 with d | d
          · rw [if_pos d.1, d.2.1]
          · rw [if_neg d.1, d.2.1]
theorem i_vc_stableValue {k : Nat} {u : SX} {v : SY} (I : i_Rel k u v) (hk : k + 4 ≤ 2050) (v1 : Int32) : wpX_stableValue (fun r u' => wpY_stableValue (fun r' => r' = r ∧ i_Rel (k + 4) u' v) v v1) u v1 := by
  refine zz_el (P := fun u v => wpX_stableValue (fun r u' => wpY_stableValue (fun r' => r' = r ∧ zz_R u' v) v v1) u v1) ?_ I
  intro f_END f_NOBODY f_FAN f_FILL f_STRIDE f_DEPTH f_PAGES f_ROWS f_slots f_capacity f_entryCount f_freeRecs f_freePages f_root f_height f_clock a_recKey a_recState a_recValue a_next a_prev a_readers a_writers a_gapReaders a_owner a_baseState a_baseValue a_recFree a_pageFill a_pageSlot a_pageTop a_pageFree a_pathPage a_pathSlot a_phaseOf a_outcomeOf a_used a_beganAt a_opKind a_opFirst a_opSecond a_acceptedAt a_rowCount a_rowKeys a_rowValues a_reach b_states b_values b_reads b_writes b_touched b_beforeStates b_beforeValues s c L ky h1 h2 h3 h4 h5 hT hS hR hD
  have I' : zz_R (f_END, f_NOBODY, f_FAN, f_FILL, f_STRIDE, f_DEPTH, f_PAGES, f_ROWS, f_slots, f_capacity, f_entryCount, f_freeRecs, f_freePages, f_root, f_height, f_clock, a_recKey, a_recState, a_recValue, a_next, a_prev, a_readers, a_writers, a_gapReaders, a_owner, a_baseState, a_baseValue, a_recFree, a_pageFill, a_pageSlot, a_pageTop, a_pageFree, a_pathPage, a_pathSlot, a_phaseOf, a_outcomeOf, a_used, a_beganAt, a_opKind, a_opFirst, a_opSecond, a_acceptedAt, a_rowCount, a_rowKeys, a_rowValues, a_reach) (f_slots, f_capacity, f_clock, b_states, b_values, b_reads, b_writes, b_touched, b_beforeStates, b_beforeValues, a_phaseOf, a_outcomeOf, a_used, a_opKind, a_opFirst, a_opSecond, a_beganAt, a_acceptedAt, a_rowCount, a_rowKeys, a_rowValues) := zz_in h1 h2 h3 h4 h5 hT hS hR hD
  unfold wpX_stableValue
  rcases zz_key v1 with hb | ⟨j, hj, rfl⟩
  · refine xw_key0 hb (br_t rfl ?_)
    unfold wpY_stableValue
    exact yw_key0 hb (br_t rfl ⟨rfl, I'⟩)
  · refine xw_key1 hj (br_f (by decide) ?_)
    obtain ⟨A, r, B, e1, hA, hr⟩ := rg_find hS (k := j) (by omega)
    have hrR : r ∈ L ++ [48] := by rw [e1]; simp
    have hr49 := rg_le hS hrR
    have vr : vp_in (nI r) 49 := vp_in_nI hr49.1 (by omega)
    have cr : (nI r).toNatClampNeg = r := nI_clamp (by omega)
    have hrk := rg_k hS hrR
    have hFk := rg_toF hS e1 hA hr
    have vj : vp_in (nI j) 1000 := vp_in_nI hj (by omega)
    have cj : (nI j).toNatClampNeg = j := nI_clamp (by omega)
    have hkN : ky r ≠ j → dd_N b_states b_values b_writes b_touched j := fun ek => by
      refine hD.2.1 j hj (fun p hp e => ek ?_)
      rcases hFk.2.2 p (by simp [hp]) with z | z
      · omega
      · omega
    have hI2 : ∀ pp sl, zz_R (f_END, f_NOBODY, f_FAN, f_FILL, f_STRIDE, f_DEPTH, f_PAGES, f_ROWS, f_slots, f_capacity, f_entryCount, f_freeRecs, f_freePages, f_root, f_height, f_clock, a_recKey, a_recState, a_recValue, a_next, a_prev, a_readers, a_writers, a_gapReaders, a_owner, a_baseState, a_baseValue, a_recFree, a_pageFill, a_pageSlot, a_pageTop, a_pageFree, pp, sl, a_phaseOf, a_outcomeOf, a_used, a_beganAt, a_opKind, a_opFirst, a_opSecond, a_acceptedAt, a_rowCount, a_rowKeys, a_rowValues, a_reach) (f_slots, f_capacity, f_clock, b_states, b_values, b_reads, b_writes, b_touched, b_beforeStates, b_beforeValues, a_phaseOf, a_outcomeOf, a_used, a_opKind, a_opFirst, a_opSecond, a_beganAt, a_acceptedAt, a_rowCount, a_rowKeys, a_rowValues) := fun pp sl => zz_in h1 h2 h3 h4 h5 hT hS hR hD
    have hph : ∀ o, a_phaseOf o ≠ 0 → o < s := fun o ho => by
      rcases (hT o).1 with z | z
      · exact absurd z ho
      · exact z.1
    have lp : ∀ (post : Int32 → Prop) (o : Nat), o ≤ s → (∀ t, t < o → b_touched (t * 1000 + j) = 0) → (∀ n, 0 < n → wY_stableValue_12 post (nI j) f_slots f_capacity f_clock b_states b_values b_reads b_writes b_touched b_beforeStates b_beforeValues a_phaseOf a_outcomeOf a_used a_opKind a_opFirst a_opSecond a_beganAt a_acceptedAt a_rowCount a_rowKeys a_rowValues n (nI o)) → ∀ (d i n : Nat), i + d = o → d < n → wY_stableValue_12 post (nI j) f_slots f_capacity f_clock b_states b_values b_reads b_writes b_touched b_beforeStates b_beforeValues a_phaseOf a_outcomeOf a_used a_opKind a_opFirst a_opSecond a_beganAt a_acceptedAt a_rowCount a_rowKeys a_rowValues n (nI i) := by
      intro post o ho hz hK d
      induction d with
      | zero =>
        intro i n hi hn
        rw [show i = o by omega]
        exact hK n (by omega)
      | succ d ih =>
        intro i n hi hn
        obtain ⟨n, rfl⟩ : ∃ m, n = m + 1 := ⟨n - 1, by omega⟩
        refine br_f (by rw [h1]; exact nI_ge (by omega) (by omega)) (nm_r (yw_ix i j) ?_)
        rw [nI_clamp (n := i * 1000 + j) (by omega)]
        exact ⟨vp_in_nI (by omega) (by omega), br_t (hz i (by omega)) (nm_r (nI_1 i) (ih (i + 1) n (by omega) (by omega)))⟩
    have hY0 : ∀ (post : Int32 → Prop), (∀ t, t < s → b_touched (t * 1000 + j) = 0) → post (b_values j) → wpY_stableValue post (f_slots, f_capacity, f_clock, b_states, b_values, b_reads, b_writes, b_touched, b_beforeStates, b_beforeValues, a_phaseOf, a_outcomeOf, a_used, a_opKind, a_opFirst, a_opSecond, a_beganAt, a_acceptedAt, a_rowCount, a_rowKeys, a_rowValues) (nI j) := by
      intro post hz h
      unfold wpY_stableValue
      refine yw_key1 hj (br_f (by decide) ⟨s + 1, lp post s (Nat.le_refl _) hz (fun n hn => ?_) s 0 _ (by omega) (by omega)⟩)
      obtain ⟨n, rfl⟩ : ∃ m, n = m + 1 := ⟨n - 1, by omega⟩
      refine br_t (by rw [h1]; exact nI_le (Nat.le_refl _) (by omega)) ⟨vj, ?_⟩
      rw [cj]; exact h
    have hY1 : ∀ (post : Int32 → Prop) (o : Nat), o < s → (∀ t, t < o → b_touched (t * 1000 + j) = 0) → b_touched (o * 1000 + j) ≠ 0 → post (if b_beforeStates (o * 1000 + j) = 1 then b_beforeValues (o * 1000 + j) else 0) → wpY_stableValue post (f_slots, f_capacity, f_clock, b_states, b_values, b_reads, b_writes, b_touched, b_beforeStates, b_beforeValues, a_phaseOf, a_outcomeOf, a_used, a_opKind, a_opFirst, a_opSecond, a_beganAt, a_acceptedAt, a_rowCount, a_rowKeys, a_rowValues) (nI j) := by
      intro post o ho hz hb h
      unfold wpY_stableValue
      refine yw_key1 hj (br_f (by decide) ⟨s + 1, lp post o (by omega) hz (fun n hn => ?_) o 0 _ (by omega) (by omega)⟩)
      obtain ⟨n, rfl⟩ : ∃ m, n = m + 1 := ⟨n - 1, by omega⟩
      have v5 : vp_in (nI (o * 1000 + j)) 5000 := vp_in_nI (by omega) (by omega)
      refine br_f (by rw [h1]; exact nI_ge ho (by omega)) (nm_r (yw_ix o j) ?_)
      rw [nI_clamp (n := o * 1000 + j) (by omega)]
      refine ⟨v5, br_f hb ⟨v5, br_c (fun z => ⟨v5, ?_⟩) (fun z => ?_)⟩⟩
      · rw [if_pos z] at h; exact h
      · rw [if_neg z] at h; exact h
    refine xw_locate hS hR (by omega) e1 hA hr fun pp sl => ⟨vr, ?_⟩
    rw [cr, hrk]
    refine pk_eq (ky r) j (fun ek => ⟨vr, ?_⟩) (fun ek => hY0 _ (fun t ht => ((hkN ek).2.2 t (by omega)).2) ⟨(hkN ek).2.1, hI2 pp sl⟩)
    have hrL : r ∈ L := rg_L hS hrR (by omega)
    have hE := hD.1 r hrL
    rw [ek] at hE
    refine br_c (fun z => ⟨vr, ?_⟩) (fun z => ⟨vr, ?_⟩)
    · have ht0 : ∀ t, t < s → b_touched (t * 1000 + j) = 0 := fun t ht => by
        rw [(hE.2.2.2.1 t (by omega)).2.2.1, z, decide_eq_false (dd_m1 (by omega))]; rfl
      refine br_c (fun c => ⟨vr, hY0 _ ht0 ⟨hE.2.2.1, hI2 pp sl⟩⟩) (fun c => hY0 _ ht0 ⟨?_, hI2 pp sl⟩)
      rw [hE.2.2.1]
      rcases hE.1 with d | d
      · exact absurd d c
      · exact d.2
    · rcases hE.2.2.2.2.1 with c | ⟨o, ho5, eo⟩
      · exact absurd c z
      · have hEo := hE.2.2.2.1 o ho5
        have hbw := hEo.2.2.2 eo
        have hos := hph o (hD.2.2.2.1 r hrL o (Or.inr hbw.1))
        have hz : ∀ t, t < o → b_touched (t * 1000 + j) = 0 := fun t ht => by
          rw [(hE.2.2.2.1 t (by omega)).2.2.1, dd_b0, eo]
          exact decide_eq_false (fun e => by have := dd_nIeq ho5 (by omega) e; omega)
        have hb1 : b_touched (o * 1000 + j) ≠ 0 := by rw [hEo.2.2.1, dd_b1]; exact decide_eq_true eo
        refine br_c (fun c => ⟨vr, hY1 _ o hos hz hb1 ⟨?_, hI2 pp sl⟩⟩) (fun c => hY1 _ o hos hz hb1 ⟨?_, hI2 pp sl⟩)
        · rcases hbw.2 with d | d
          · rw [if_pos d.1, d.2.2]
          · rw [d.2.1] at c; exact absurd c (by decide)
        · rcases hbw.2 with d | d
          · exact absurd d.2.1 c
          · rw [if_neg d.1]
theorem i_vc_entries {k : Nat} {u : SX} {v : SY} (I : i_Rel k u v) (hk : k + 4 ≤ 2050) : wpX_entries (fun r => wpY_entries (fun r' => r' = r ∧ i_Rel (k + 4) u v) v) u := by
  refine zz_el (P := fun u v => wpX_entries (fun r => wpY_entries (fun r' => r' = r ∧ zz_R u v) v) u) ?_ I
  intro f_END f_NOBODY f_FAN f_FILL f_STRIDE f_DEPTH f_PAGES f_ROWS f_slots f_capacity f_entryCount f_freeRecs f_freePages f_root f_height f_clock a_recKey a_recState a_recValue a_next a_prev a_readers a_writers a_gapReaders a_owner a_baseState a_baseValue a_recFree a_pageFill a_pageSlot a_pageTop a_pageFree a_pathPage a_pathSlot a_phaseOf a_outcomeOf a_used a_beganAt a_opKind a_opFirst a_opSecond a_acceptedAt a_rowCount a_rowKeys a_rowValues a_reach b_states b_values b_reads b_writes b_touched b_beforeStates b_beforeValues s c L ky h1 h2 h3 h4 h5 hT hS hR hD
  have I' : zz_R (f_END, f_NOBODY, f_FAN, f_FILL, f_STRIDE, f_DEPTH, f_PAGES, f_ROWS, f_slots, f_capacity, f_entryCount, f_freeRecs, f_freePages, f_root, f_height, f_clock, a_recKey, a_recState, a_recValue, a_next, a_prev, a_readers, a_writers, a_gapReaders, a_owner, a_baseState, a_baseValue, a_recFree, a_pageFill, a_pageSlot, a_pageTop, a_pageFree, a_pathPage, a_pathSlot, a_phaseOf, a_outcomeOf, a_used, a_beganAt, a_opKind, a_opFirst, a_opSecond, a_acceptedAt, a_rowCount, a_rowKeys, a_rowValues, a_reach) (f_slots, f_capacity, f_clock, b_states, b_values, b_reads, b_writes, b_touched, b_beforeStates, b_beforeValues, a_phaseOf, a_outcomeOf, a_used, a_opKind, a_opFirst, a_opSecond, a_beganAt, a_acceptedAt, a_rowCount, a_rowKeys, a_rowValues) := zz_in h1 h2 h3 h4 h5 hT hS hR hD
  refine yw_entries ⟨?_, I'⟩
  rw [dd_cntL hS hD, hS.2.2.2.2.2.2]
end
