section
/-! pure rows to paste: stores, nI and lN arithmetic, masks, shifts, narrowing, branches by naturals (pk_le, pk_lt, pk_eq), loops (lp1 .. lp16: the measure of the state; rp1 ..: recursion), negatives. Take what you need -/
theorem pk_us {f : Nat → Int32} {k : Nat} {x : Int32} : upd f k x k = x := if_pos rfl
theorem pk_un {f : Nat → Int32} {k j : Nat} {x : Int32} (h : j ≠ k) : upd f k x j = f j := if_neg h
theorem pk_uLs {f : Nat → Int64} {k : Nat} {x : Int64} : vp_updL f k x k = x := if_pos rfl
theorem pk_uLn {f : Nat → Int64} {k j : Nat} {x : Int64} (h : j ≠ k) : vp_updL f k x j = f j := if_neg h
theorem pk_sub {a b : Nat} (h : b ≤ a) : nI a - nI b = nI (a - b) := by
  obtain ⟨c, rfl⟩ : ∃ c, a = c + b := ⟨a - b, by omega⟩
  rw [← nI_add, Int32.add_sub_cancel, Nat.add_sub_cancel]
theorem pk_m1 (n : Nat) : nI (n + 1) + (-1) = nI n := by
  rw [← nI_1, Int32.add_assoc, show (1 : Int32) + (-1) = 0 from rfl, Int32.add_zero]
theorem pk_mul (a b : Nat) : nI a * nI b = nI (a * b) := (Int32.ofNat_mul a b).symm
theorem pk_div {a d : Nat} (ha : a < 2 ^ 31) (h0 : 0 < d) (hd : d < 2 ^ 31) : nI a / nI d = nI (a / d) := by
  apply Int32.toInt_inj.mp
  rw [lg_idiv_nonneg (by rw [nI_toInt ha]; omega) (by rw [nI_toInt hd]; omega), nI_toInt ha, nI_toInt hd, nI_toInt (Nat.lt_of_le_of_lt (Nat.div_le_self a d) ha)]
  first | rfl | exact (Int.natCast_ediv _ _).symm
theorem pk_rem {a d : Nat} (ha : a < 2 ^ 31) (h0 : 0 < d) (hd : d < 2 ^ 31) : nI a - nI a / nI d * nI d = nI (a % d) := by
  rw [pk_div ha h0 hd, pk_mul, pk_sub (Nat.div_mul_le_self a d)]
  exact congrArg nI (by have := Nat.div_add_mod' a d; omega)
theorem pk_sub_toInt {a b : Nat} (ha : a < 2 ^ 30) (hb : b < 2 ^ 30) : (nI a - nI b).toInt = (a : Int) - b := by
  rw [Int32.toInt_sub, nI_toInt (by omega), nI_toInt (by omega)]
  exact Int.bmod_eq_of_le (by omega) (by omega)
theorem pk_sneg {a b : Nat} (hb : b < 2 ^ 30) (h : a < b) : nI a - nI b < 0 := by
  rw [Int32.lt_iff_toInt_lt, pk_sub_toInt (by omega) hb, show (0 : Int32).toInt = 0 from by decide]
  omega
theorem pk_ix (x : Int32) {n : Nat} (hn : n < 2 ^ 31) : x < 0 ∨ nI n ≤ x ∨ ∃ j : Nat, j < n ∧ x = nI j := by
  by_cases h : x < 0
  · exact Or.inl h
  · obtain ⟨j, hj, rfl⟩ := nI_of h
    by_cases h2 : j < n
    · exact Or.inr (Or.inr ⟨j, h2, rfl⟩)
    · exact Or.inr (Or.inl (nI_le (by omega) hj))
theorem pk_le {x y : Int32} {A B : Prop} (a b : Nat) (f : a ≤ b → A) (g : b < a → B) (hx : x = nI a := by rfl) (hy : y = nI b := by rfl) (ha : a < 2 ^ 31 := by omega) (hb : b < 2 ^ 31 := by omega) : (x ≤ y → A) ∧ (¬ x ≤ y → B) := by
  subst hx hy
  rw [nI_leI ha hb]
  exact ⟨f, fun z => g (by omega)⟩
theorem pk_lt {x y : Int32} {A B : Prop} (a b : Nat) (f : a < b → A) (g : b ≤ a → B) (hx : x = nI a := by rfl) (hy : y = nI b := by rfl) (ha : a < 2 ^ 31 := by omega) (hb : b < 2 ^ 31 := by omega) : (x < y → A) ∧ (¬ x < y → B) := by
  subst hx hy
  rw [nI_ltI ha hb]
  exact ⟨f, fun z => g (by omega)⟩
theorem pk_eq {x y : Int32} {A B : Prop} (a b : Nat) (f : a = b → A) (g : a ≠ b → B) (hx : x = nI a := by rfl) (hy : y = nI b := by rfl) (ha : a < 2 ^ 31 := by omega) (hb : b < 2 ^ 31 := by omega) : (x = y → A) ∧ (¬ x = y → B) := by
  subst hx hy
  rw [nI_eq ha hb]
  exact ⟨f, g⟩
theorem pk_in {x : Int32} (n N : Nat) (h : n < N) (hx : x = nI n := by rfl) (hN : N < 2 ^ 31 := by omega) : vp_in x N := by
  subst hx
  exact vp_in_nI h hN
theorem pk_cl {x : Int32} (n : Nat) (hx : x = nI n := by rfl) (h : n < 2 ^ 31 := by omega) : x.toNatClampNeg = n := by
  subst hx
  exact nI_clamp h
theorem pk_tn {n : Nat} (h : n < 2 ^ 32) : (nI n).toBitVec.toNat = n := Nat.mod_eq_of_lt h
theorem pk_and (x : Int32) {m : Int32} (k : Nat) (hm : m.toBitVec.toNat = 2 ^ k - 1) : x &&& m = nI (x.toBitVec.toNat % 2 ^ k) := by
  apply Int32.toBitVec_inj.mp
  apply BitVec.eq_of_toNat_eq
  rw [Int32.toBitVec_and, BitVec.toNat_and, hm, Nat.and_two_pow_sub_one_eq_mod]
  show _ = (BitVec.ofNat 32 _).toNat
  rw [BitVec.toNat_ofNat]
  exact (Nat.mod_eq_of_lt (Nat.lt_of_le_of_lt (Nat.mod_le _ _) x.toBitVec.isLt)).symm
theorem pk_andN {n : Nat} (h : n < 2 ^ 32) {m : Int32} (k : Nat) (hm : m.toBitVec.toNat = 2 ^ k - 1) : nI n &&& m = nI (n % 2 ^ k) := by
  rw [pk_and _ k hm, pk_tn h]
theorem pk_andE (x : Int32) {m : Int32} (k : Nat) (hm : m.toBitVec.toNat = 2 ^ k - 1) : ∃ j : Nat, j < 2 ^ k ∧ x &&& m = nI j := ⟨_, Nat.mod_lt _ (Nat.two_pow_pos k), pk_and x k hm⟩
theorem pk_andIn (x : Int32) {m : Int32} (k : Nat) (hm : m.toBitVec.toNat = 2 ^ k - 1) (hk : k ≤ 30) : vp_in (x &&& m) (2 ^ k) := by
  obtain ⟨j, hj, e⟩ := pk_andE x k hm
  rw [e]
  exact vp_in_nI hj (Nat.lt_of_le_of_lt (Nat.pow_le_pow_right (by decide) hk) (by decide))
theorem pk_shl (a s : Int32) (k : Nat) (hs : (s.toBitVec.smod 32).toNat = k) : (a <<< s).toBitVec.toNat = a.toBitVec.toNat * 2 ^ k % 2 ^ 32 := by
  show (a.toBitVec <<< (s.toBitVec.smod 32).toNat).toNat = _
  rw [hs, BitVec.toNat_shiftLeft, Nat.shiftLeft_eq]
theorem pk_shlN {n : Nat} (s : Int32) (k : Nat) (hs : (s.toBitVec.smod 32).toNat = k) (h : n * 2 ^ k < 2 ^ 32) : nI n <<< s = nI (n * 2 ^ k) := by
  apply Int32.toBitVec_inj.mp
  apply BitVec.eq_of_toNat_eq
  have hn : n < 2 ^ 32 := Nat.lt_of_le_of_lt (Nat.le_mul_of_pos_right n (Nat.two_pow_pos k)) h
  rw [pk_shl _ _ k hs, pk_tn hn, pk_tn h, Nat.mod_eq_of_lt h]
theorem pk_shr (a s : Int32) (k : Nat) (hs : (s.toBitVec.smod 32).toNat = k) : (a >>> s).toInt = a.toInt >>> k := by
  show (a.toBitVec.sshiftRight (s.toBitVec.smod 32).toNat).toInt = _
  rw [hs, BitVec.toInt_sshiftRight]
  rfl
theorem pk_shrN {n : Nat} (h : n < 2 ^ 31) (s : Int32) (k : Nat) (hs : (s.toBitVec.smod 32).toNat = k) : nI n >>> s = nI (n / 2 ^ k) := by
  apply Int32.toInt_inj.mp
  have h2 : n / 2 ^ k ≤ n := Nat.div_le_self _ _
  rw [pk_shr _ _ k hs, nI_toInt h, nI_toInt (by omega), Int.shiftRight_eq_div_pow]
  rfl
theorem pk_ushr (x s : Int32) (k : Nat) (hs : ((s.toUInt32 &&& Int32.toUInt32 31).toBitVec % 32).toNat = k) : (x.toUInt32 >>> (s.toUInt32 &&& Int32.toUInt32 31)).toInt32.toBitVec.toNat = x.toBitVec.toNat / 2 ^ k := by
  have e : (x.toUInt32 >>> (s.toUInt32 &&& Int32.toUInt32 31)).toInt32.toBitVec = x.toBitVec >>> k := by
    rw [← hs]
    exact UInt32.toBitVec_shiftRight _ _
  rw [e, BitVec.toNat_ushiftRight, Nat.shiftRight_eq_div_pow]
theorem pk_ushrN {n : Nat} (hn : n < 2 ^ 32) (s : Int32) (k : Nat) (hs : ((s.toUInt32 &&& Int32.toUInt32 31).toBitVec % 32).toNat = k) : ((nI n).toUInt32 >>> (s.toUInt32 &&& Int32.toUInt32 31)).toInt32 = nI (n / 2 ^ k) := by
  apply Int32.toBitVec_inj.mp
  apply BitVec.eq_of_toNat_eq
  rw [pk_ushr _ s k hs, pk_tn hn, pk_tn (Nat.lt_of_le_of_lt (Nat.div_le_self _ _) hn)]
theorem pk_nb (z : Int32) : narrow .byte (.int z.toInt8.toInt32) = .int z.toInt8.toInt32 := congrArg Value.int (by simp)
theorem pk_ns (z : Int32) : narrow .short (.int z.toInt16.toInt32) = .int z.toInt16.toInt32 := congrArg Value.int (by simp)
theorem pk_fb (r : Int32) : fits .byte (.int r.toInt8.toInt32) = true := by
  have ⟨a, b⟩ := lg_i2b_range r
  have h1 : (-128 : Int32).toInt = -128 := by decide
  have h2 : (127 : Int32).toInt = 127 := by decide
  simp only [fits, Bool.and_eq_true, decide_eq_true_eq, Int32.le_iff_toInt_le, h1, h2]
  omega
theorem pk_fs (r : Int32) : fits .short (.int r.toInt16.toInt32) = true := by
  have ⟨a, b⟩ := lg_i2s_range r
  have h1 : (-32768 : Int32).toInt = -32768 := by decide
  have h2 : (32767 : Int32).toInt = 32767 := by decide
  simp only [fits, Bool.and_eq_true, decide_eq_true_eq, Int32.le_iff_toInt_le, h1, h2]
  omega
theorem pk_charN {q : Nat} (hq : q < 65536) : narrow .char (.int (nI q)) = .int (nI q) ∧ fits .char (.int (nI q)) = true := by
  constructor
  · have e : (nI q).toUInt32.toUInt16.toUInt32.toInt32 = nI q := by
      apply Int32.toBitVec_inj.mp
      apply BitVec.eq_of_toNat_eq
      show (nI q).toUInt32.toUInt16.toUInt32.toNat = q % 2 ^ 32
      rw [UInt16.toNat_toUInt32, UInt32.toNat_toUInt16, show (nI q).toUInt32.toNat = q % 2 ^ 32 from rfl]
      omega
    exact congrArg Value.int e
  · have a : (0 : Int32) ≤ nI q := nI_pos' (by omega)
    have b : nI q ≤ 65535 := nI_le (b := 65535) (by omega) (by decide)
    show (decide ((0 : Int32) ≤ nI q) && decide (nI q ≤ 65535)) = true
    rw [decide_eq_true a, decide_eq_true b]
    rfl
theorem pk_char (x : Int32) : (x.toUInt32 % 65536).toInt32 = nI (x.toBitVec.toNat % 65536) := by
  apply Int32.toBitVec_inj.mp
  apply BitVec.eq_of_toNat_eq
  rw [pk_tn (by omega)]
  show (x.toUInt32 % 65536).toNat = _
  rw [UInt32.toNat_mod]
  rfl
theorem pk_nc (x : Int32) : narrow .char (.int (x.toUInt32 % 65536).toInt32) = .int (x.toUInt32 % 65536).toInt32 := by
  rw [pk_char]
  exact (pk_charN (Nat.mod_lt _ (by decide))).1
theorem pk_fc (x : Int32) : fits .char (.int (x.toUInt32 % 65536).toInt32) = true := by
  rw [pk_char]
  exact (pk_charN (Nat.mod_lt _ (by decide))).2
theorem pk_vb (z : Int32) : vp_nar .byte z.toInt8.toInt32 = z.toInt8.toInt32 := by rw [vp_nar_byte]; simp
theorem pk_vs (z : Int32) : vp_nar .short z.toInt16.toInt32 = z.toInt16.toInt32 := by rw [vp_nar_short]; simp
theorem pk_vc (z : Int32) : vp_nar .char (z.toUInt32 % 65536).toInt32 = (z.toUInt32 % 65536).toInt32 := Value.int.inj (pk_nc z)
theorem pk_lT {n : Nat} (h : n < 2 ^ 63) : (lN n).toInt = (n : Int) := lg_ofNat_toInt h
theorem pk_lLT {a b : Nat} (ha : a < 2 ^ 63) (hb : b < 2 ^ 63) : lN a < lN b ↔ a < b := by
  rw [Int64.lt_iff_toInt_lt, pk_lT ha, pk_lT hb]; omega
theorem pk_lLE {a b : Nat} (ha : a < 2 ^ 63) (hb : b < 2 ^ 63) : lN a ≤ lN b ↔ a ≤ b := by
  rw [Int64.le_iff_toInt_le, pk_lT ha, pk_lT hb]; omega
theorem pk_lEQ {a b : Nat} (ha : a < 2 ^ 63) (hb : b < 2 ^ 63) : lN a = lN b ↔ a = b := by
  rw [← Int64.toInt_inj, pk_lT ha, pk_lT hb]; omega
theorem pk_lOf {x : Int64} (h : ¬ x < 0) : ∃ k : Nat, k < 2 ^ 63 ∧ x = lN k := by
  rw [Int64.lt_iff_toInt_lt] at h
  have h0 : (0 : Int64).toInt = 0 := by decide
  have hx := Int64.toInt_lt x
  refine ⟨x.toInt.toNat, by omega, Int64.toInt_inj.mp ?_⟩
  rw [pk_lT (by omega)]
  omega
theorem pk_lDiv {a b : Nat} (ha : a < 2 ^ 63) (h0 : 0 < b) (hb : b < 2 ^ 63) : lN a / lN b = lN (a / b) := by
  apply Int64.toInt_inj.mp
  rw [lg_ldiv_nonneg (by rw [pk_lT ha]; omega) (by rw [pk_lT hb]; omega), pk_lT ha, pk_lT hb, pk_lT (Nat.lt_of_le_of_lt (Nat.div_le_self a b) ha)]
  rfl
theorem pk_lRem {a b : Nat} (ha : a < 2 ^ 63) (h0 : 0 < b) (hb : b < 2 ^ 63) : lN a - lN a / lN b * lN b = lN (a % b) := by
  rw [pk_lDiv ha h0 hb, lN_mul, lN_sub (Nat.div_mul_le_self a b)]
  exact congrArg lN (by have := Nat.div_add_mod' a b; omega)
theorem pk_loop {σ : Type} (W : Nat → Nat → σ → Prop) (I : Nat → σ → Prop) (e i0 : Nat) (s : σ) (hi : i0 ≤ e) (h0 : I i0 s) (hx : ∀ n s, I e s → W (n + 1) e s)
    (hs : ∀ n i s, i < e → I i s → (∀ s', I (i + 1) s' → W n (i + 1) s') → W (n + 1) i s) : ∃ n, W n i0 s :=
  ⟨e + 1, loop_i W I e hx hs (e + 1) i0 s hi (by omega) h0⟩
theorem pk_loopD {σ : Type} (W : Nat → Nat → σ → Prop) (I : Nat → σ → Prop) (hx : ∀ n s, I 0 s → W (n + 1) 0 s)
    (hs : ∀ n i s, I (i + 1) s → (∀ s', I i s' → W n i s') → W (n + 1) (i + 1) s) : ∀ (e : Nat) (s : σ), I e s → W (e + 1) e s := by
  intro e
  induction e with
  | zero => exact fun s h => hx 0 s h
  | succ e ih => exact fun s h => hs (e + 1) e s h (fun s' h' => ih s' h')
theorem lp1 {A1 : Type} (W : Nat → A1 → Prop) (I : A1 → Prop) (μ : A1 → Nat) (hs : ∀ (n : Nat) (a1 : A1), I a1 → (∀ (b1 : A1), I b1 → μ b1 < μ a1 → W n b1) → W (n + 1) a1) (a1 : A1) (h : I a1) : ∃ n, W n a1 :=
  loop_m (σ := A1) (fun n s => W n s) (fun s => I s) (fun s => μ s) (fun n s hI hk => hs n s hI (fun b1 h9 hm => hk b1 h9 hm)) a1 h
theorem lp2 {A1 A2 : Type} (W : Nat → A1 → A2 → Prop) (I : A1 → A2 → Prop) (μ : A1 → A2 → Nat) (hs : ∀ (n : Nat) (a1 : A1) (a2 : A2), I a1 a2 → (∀ (b1 : A1) (b2 : A2), I b1 b2 → μ b1 b2 < μ a1 a2 → W n b1 b2) → W (n + 1) a1 a2) (a1 : A1) (a2 : A2) (h : I a1 a2) : ∃ n, W n a1 a2 :=
  loop_m (σ := A1 × A2) (fun n s => W n s.1 s.2) (fun s => I s.1 s.2) (fun s => μ s.1 s.2) (fun n s hI hk => hs n s.1 s.2 hI (fun b1 b2 h9 hm => hk (b1, b2) h9 hm)) (a1, a2) h
theorem lp3 {A1 A2 A3 : Type} (W : Nat → A1 → A2 → A3 → Prop) (I : A1 → A2 → A3 → Prop) (μ : A1 → A2 → A3 → Nat) (hs : ∀ (n : Nat) (a1 : A1) (a2 : A2) (a3 : A3), I a1 a2 a3 → (∀ (b1 : A1) (b2 : A2) (b3 : A3), I b1 b2 b3 → μ b1 b2 b3 < μ a1 a2 a3 → W n b1 b2 b3) → W (n + 1) a1 a2 a3) (a1 : A1) (a2 : A2) (a3 : A3) (h : I a1 a2 a3) : ∃ n, W n a1 a2 a3 :=
  loop_m (σ := A1 × A2 × A3) (fun n s => W n s.1 s.2.1 s.2.2) (fun s => I s.1 s.2.1 s.2.2) (fun s => μ s.1 s.2.1 s.2.2) (fun n s hI hk => hs n s.1 s.2.1 s.2.2 hI (fun b1 b2 b3 h9 hm => hk (b1, b2, b3) h9 hm)) (a1, a2, a3) h
theorem lp4 {A1 A2 A3 A4 : Type} (W : Nat → A1 → A2 → A3 → A4 → Prop) (I : A1 → A2 → A3 → A4 → Prop) (μ : A1 → A2 → A3 → A4 → Nat) (hs : ∀ (n : Nat) (a1 : A1) (a2 : A2) (a3 : A3) (a4 : A4), I a1 a2 a3 a4 → (∀ (b1 : A1) (b2 : A2) (b3 : A3) (b4 : A4), I b1 b2 b3 b4 → μ b1 b2 b3 b4 < μ a1 a2 a3 a4 → W n b1 b2 b3 b4) → W (n + 1) a1 a2 a3 a4) (a1 : A1) (a2 : A2) (a3 : A3) (a4 : A4) (h : I a1 a2 a3 a4) : ∃ n, W n a1 a2 a3 a4 :=
  loop_m (σ := A1 × A2 × A3 × A4) (fun n s => W n s.1 s.2.1 s.2.2.1 s.2.2.2) (fun s => I s.1 s.2.1 s.2.2.1 s.2.2.2) (fun s => μ s.1 s.2.1 s.2.2.1 s.2.2.2) (fun n s hI hk => hs n s.1 s.2.1 s.2.2.1 s.2.2.2 hI (fun b1 b2 b3 b4 h9 hm => hk (b1, b2, b3, b4) h9 hm)) (a1, a2, a3, a4) h
theorem lp5 {A1 A2 A3 A4 A5 : Type} (W : Nat → A1 → A2 → A3 → A4 → A5 → Prop) (I : A1 → A2 → A3 → A4 → A5 → Prop) (μ : A1 → A2 → A3 → A4 → A5 → Nat) (hs : ∀ (n : Nat) (a1 : A1) (a2 : A2) (a3 : A3) (a4 : A4) (a5 : A5), I a1 a2 a3 a4 a5 → (∀ (b1 : A1) (b2 : A2) (b3 : A3) (b4 : A4) (b5 : A5), I b1 b2 b3 b4 b5 → μ b1 b2 b3 b4 b5 < μ a1 a2 a3 a4 a5 → W n b1 b2 b3 b4 b5) → W (n + 1) a1 a2 a3 a4 a5) (a1 : A1) (a2 : A2) (a3 : A3) (a4 : A4) (a5 : A5) (h : I a1 a2 a3 a4 a5) : ∃ n, W n a1 a2 a3 a4 a5 :=
  loop_m (σ := A1 × A2 × A3 × A4 × A5) (fun n s => W n s.1 s.2.1 s.2.2.1 s.2.2.2.1 s.2.2.2.2) (fun s => I s.1 s.2.1 s.2.2.1 s.2.2.2.1 s.2.2.2.2) (fun s => μ s.1 s.2.1 s.2.2.1 s.2.2.2.1 s.2.2.2.2) (fun n s hI hk => hs n s.1 s.2.1 s.2.2.1 s.2.2.2.1 s.2.2.2.2 hI (fun b1 b2 b3 b4 b5 h9 hm => hk (b1, b2, b3, b4, b5) h9 hm)) (a1, a2, a3, a4, a5) h
theorem lp6 {A1 A2 A3 A4 A5 A6 : Type} (W : Nat → A1 → A2 → A3 → A4 → A5 → A6 → Prop) (I : A1 → A2 → A3 → A4 → A5 → A6 → Prop) (μ : A1 → A2 → A3 → A4 → A5 → A6 → Nat) (hs : ∀ (n : Nat) (a1 : A1) (a2 : A2) (a3 : A3) (a4 : A4) (a5 : A5) (a6 : A6), I a1 a2 a3 a4 a5 a6 → (∀ (b1 : A1) (b2 : A2) (b3 : A3) (b4 : A4) (b5 : A5) (b6 : A6), I b1 b2 b3 b4 b5 b6 → μ b1 b2 b3 b4 b5 b6 < μ a1 a2 a3 a4 a5 a6 → W n b1 b2 b3 b4 b5 b6) → W (n + 1) a1 a2 a3 a4 a5 a6) (a1 : A1) (a2 : A2) (a3 : A3) (a4 : A4) (a5 : A5) (a6 : A6) (h : I a1 a2 a3 a4 a5 a6) : ∃ n, W n a1 a2 a3 a4 a5 a6 :=
  loop_m (σ := A1 × A2 × A3 × A4 × A5 × A6) (fun n s => W n s.1 s.2.1 s.2.2.1 s.2.2.2.1 s.2.2.2.2.1 s.2.2.2.2.2) (fun s => I s.1 s.2.1 s.2.2.1 s.2.2.2.1 s.2.2.2.2.1 s.2.2.2.2.2) (fun s => μ s.1 s.2.1 s.2.2.1 s.2.2.2.1 s.2.2.2.2.1 s.2.2.2.2.2) (fun n s hI hk => hs n s.1 s.2.1 s.2.2.1 s.2.2.2.1 s.2.2.2.2.1 s.2.2.2.2.2 hI (fun b1 b2 b3 b4 b5 b6 h9 hm => hk (b1, b2, b3, b4, b5, b6) h9 hm)) (a1, a2, a3, a4, a5, a6) h
theorem lp7 {A1 A2 A3 A4 A5 A6 A7 : Type} (W : Nat → A1 → A2 → A3 → A4 → A5 → A6 → A7 → Prop) (I : A1 → A2 → A3 → A4 → A5 → A6 → A7 → Prop) (μ : A1 → A2 → A3 → A4 → A5 → A6 → A7 → Nat) (hs : ∀ (n : Nat) (a1 : A1) (a2 : A2) (a3 : A3) (a4 : A4) (a5 : A5) (a6 : A6) (a7 : A7), I a1 a2 a3 a4 a5 a6 a7 → (∀ (b1 : A1) (b2 : A2) (b3 : A3) (b4 : A4) (b5 : A5) (b6 : A6) (b7 : A7), I b1 b2 b3 b4 b5 b6 b7 → μ b1 b2 b3 b4 b5 b6 b7 < μ a1 a2 a3 a4 a5 a6 a7 → W n b1 b2 b3 b4 b5 b6 b7) → W (n + 1) a1 a2 a3 a4 a5 a6 a7) (a1 : A1) (a2 : A2) (a3 : A3) (a4 : A4) (a5 : A5) (a6 : A6) (a7 : A7) (h : I a1 a2 a3 a4 a5 a6 a7) : ∃ n, W n a1 a2 a3 a4 a5 a6 a7 :=
  loop_m (σ := A1 × A2 × A3 × A4 × A5 × A6 × A7) (fun n s => W n s.1 s.2.1 s.2.2.1 s.2.2.2.1 s.2.2.2.2.1 s.2.2.2.2.2.1 s.2.2.2.2.2.2) (fun s => I s.1 s.2.1 s.2.2.1 s.2.2.2.1 s.2.2.2.2.1 s.2.2.2.2.2.1 s.2.2.2.2.2.2) (fun s => μ s.1 s.2.1 s.2.2.1 s.2.2.2.1 s.2.2.2.2.1 s.2.2.2.2.2.1 s.2.2.2.2.2.2) (fun n s hI hk => hs n s.1 s.2.1 s.2.2.1 s.2.2.2.1 s.2.2.2.2.1 s.2.2.2.2.2.1 s.2.2.2.2.2.2 hI (fun b1 b2 b3 b4 b5 b6 b7 h9 hm => hk (b1, b2, b3, b4, b5, b6, b7) h9 hm)) (a1, a2, a3, a4, a5, a6, a7) h
theorem lp8 {A1 A2 A3 A4 A5 A6 A7 A8 : Type} (W : Nat → A1 → A2 → A3 → A4 → A5 → A6 → A7 → A8 → Prop) (I : A1 → A2 → A3 → A4 → A5 → A6 → A7 → A8 → Prop) (μ : A1 → A2 → A3 → A4 → A5 → A6 → A7 → A8 → Nat) (hs : ∀ (n : Nat) (a1 : A1) (a2 : A2) (a3 : A3) (a4 : A4) (a5 : A5) (a6 : A6) (a7 : A7) (a8 : A8), I a1 a2 a3 a4 a5 a6 a7 a8 → (∀ (b1 : A1) (b2 : A2) (b3 : A3) (b4 : A4) (b5 : A5) (b6 : A6) (b7 : A7) (b8 : A8), I b1 b2 b3 b4 b5 b6 b7 b8 → μ b1 b2 b3 b4 b5 b6 b7 b8 < μ a1 a2 a3 a4 a5 a6 a7 a8 → W n b1 b2 b3 b4 b5 b6 b7 b8) → W (n + 1) a1 a2 a3 a4 a5 a6 a7 a8) (a1 : A1) (a2 : A2) (a3 : A3) (a4 : A4) (a5 : A5) (a6 : A6) (a7 : A7) (a8 : A8) (h : I a1 a2 a3 a4 a5 a6 a7 a8) : ∃ n, W n a1 a2 a3 a4 a5 a6 a7 a8 :=
  loop_m (σ := A1 × A2 × A3 × A4 × A5 × A6 × A7 × A8) (fun n s => W n s.1 s.2.1 s.2.2.1 s.2.2.2.1 s.2.2.2.2.1 s.2.2.2.2.2.1 s.2.2.2.2.2.2.1 s.2.2.2.2.2.2.2) (fun s => I s.1 s.2.1 s.2.2.1 s.2.2.2.1 s.2.2.2.2.1 s.2.2.2.2.2.1 s.2.2.2.2.2.2.1 s.2.2.2.2.2.2.2) (fun s => μ s.1 s.2.1 s.2.2.1 s.2.2.2.1 s.2.2.2.2.1 s.2.2.2.2.2.1 s.2.2.2.2.2.2.1 s.2.2.2.2.2.2.2) (fun n s hI hk => hs n s.1 s.2.1 s.2.2.1 s.2.2.2.1 s.2.2.2.2.1 s.2.2.2.2.2.1 s.2.2.2.2.2.2.1 s.2.2.2.2.2.2.2 hI (fun b1 b2 b3 b4 b5 b6 b7 b8 h9 hm => hk (b1, b2, b3, b4, b5, b6, b7, b8) h9 hm)) (a1, a2, a3, a4, a5, a6, a7, a8) h
theorem lp9 {A1 A2 A3 A4 A5 A6 A7 A8 A9 : Type} (W : Nat → A1 → A2 → A3 → A4 → A5 → A6 → A7 → A8 → A9 → Prop) (I : A1 → A2 → A3 → A4 → A5 → A6 → A7 → A8 → A9 → Prop) (μ : A1 → A2 → A3 → A4 → A5 → A6 → A7 → A8 → A9 → Nat) (hs : ∀ (n : Nat) (a1 : A1) (a2 : A2) (a3 : A3) (a4 : A4) (a5 : A5) (a6 : A6) (a7 : A7) (a8 : A8) (a9 : A9), I a1 a2 a3 a4 a5 a6 a7 a8 a9 → (∀ (b1 : A1) (b2 : A2) (b3 : A3) (b4 : A4) (b5 : A5) (b6 : A6) (b7 : A7) (b8 : A8) (b9 : A9), I b1 b2 b3 b4 b5 b6 b7 b8 b9 → μ b1 b2 b3 b4 b5 b6 b7 b8 b9 < μ a1 a2 a3 a4 a5 a6 a7 a8 a9 → W n b1 b2 b3 b4 b5 b6 b7 b8 b9) → W (n + 1) a1 a2 a3 a4 a5 a6 a7 a8 a9) (a1 : A1) (a2 : A2) (a3 : A3) (a4 : A4) (a5 : A5) (a6 : A6) (a7 : A7) (a8 : A8) (a9 : A9) (h : I a1 a2 a3 a4 a5 a6 a7 a8 a9) : ∃ n, W n a1 a2 a3 a4 a5 a6 a7 a8 a9 :=
  loop_m (σ := A1 × A2 × A3 × A4 × A5 × A6 × A7 × A8 × A9) (fun n s => W n s.1 s.2.1 s.2.2.1 s.2.2.2.1 s.2.2.2.2.1 s.2.2.2.2.2.1 s.2.2.2.2.2.2.1 s.2.2.2.2.2.2.2.1 s.2.2.2.2.2.2.2.2) (fun s => I s.1 s.2.1 s.2.2.1 s.2.2.2.1 s.2.2.2.2.1 s.2.2.2.2.2.1 s.2.2.2.2.2.2.1 s.2.2.2.2.2.2.2.1 s.2.2.2.2.2.2.2.2) (fun s => μ s.1 s.2.1 s.2.2.1 s.2.2.2.1 s.2.2.2.2.1 s.2.2.2.2.2.1 s.2.2.2.2.2.2.1 s.2.2.2.2.2.2.2.1 s.2.2.2.2.2.2.2.2) (fun n s hI hk => hs n s.1 s.2.1 s.2.2.1 s.2.2.2.1 s.2.2.2.2.1 s.2.2.2.2.2.1 s.2.2.2.2.2.2.1 s.2.2.2.2.2.2.2.1 s.2.2.2.2.2.2.2.2 hI (fun b1 b2 b3 b4 b5 b6 b7 b8 b9 h9 hm => hk (b1, b2, b3, b4, b5, b6, b7, b8, b9) h9 hm)) (a1, a2, a3, a4, a5, a6, a7, a8, a9) h
theorem lp10 {A1 A2 A3 A4 A5 A6 A7 A8 A9 A10 : Type} (W : Nat → A1 → A2 → A3 → A4 → A5 → A6 → A7 → A8 → A9 → A10 → Prop) (I : A1 → A2 → A3 → A4 → A5 → A6 → A7 → A8 → A9 → A10 → Prop) (μ : A1 → A2 → A3 → A4 → A5 → A6 → A7 → A8 → A9 → A10 → Nat) (hs : ∀ (n : Nat) (a1 : A1) (a2 : A2) (a3 : A3) (a4 : A4) (a5 : A5) (a6 : A6) (a7 : A7) (a8 : A8) (a9 : A9) (a10 : A10), I a1 a2 a3 a4 a5 a6 a7 a8 a9 a10 → (∀ (b1 : A1) (b2 : A2) (b3 : A3) (b4 : A4) (b5 : A5) (b6 : A6) (b7 : A7) (b8 : A8) (b9 : A9) (b10 : A10), I b1 b2 b3 b4 b5 b6 b7 b8 b9 b10 → μ b1 b2 b3 b4 b5 b6 b7 b8 b9 b10 < μ a1 a2 a3 a4 a5 a6 a7 a8 a9 a10 → W n b1 b2 b3 b4 b5 b6 b7 b8 b9 b10) → W (n + 1) a1 a2 a3 a4 a5 a6 a7 a8 a9 a10) (a1 : A1) (a2 : A2) (a3 : A3) (a4 : A4) (a5 : A5) (a6 : A6) (a7 : A7) (a8 : A8) (a9 : A9) (a10 : A10) (h : I a1 a2 a3 a4 a5 a6 a7 a8 a9 a10) : ∃ n, W n a1 a2 a3 a4 a5 a6 a7 a8 a9 a10 :=
  loop_m (σ := A1 × A2 × A3 × A4 × A5 × A6 × A7 × A8 × A9 × A10) (fun n s => W n s.1 s.2.1 s.2.2.1 s.2.2.2.1 s.2.2.2.2.1 s.2.2.2.2.2.1 s.2.2.2.2.2.2.1 s.2.2.2.2.2.2.2.1 s.2.2.2.2.2.2.2.2.1 s.2.2.2.2.2.2.2.2.2) (fun s => I s.1 s.2.1 s.2.2.1 s.2.2.2.1 s.2.2.2.2.1 s.2.2.2.2.2.1 s.2.2.2.2.2.2.1 s.2.2.2.2.2.2.2.1 s.2.2.2.2.2.2.2.2.1 s.2.2.2.2.2.2.2.2.2) (fun s => μ s.1 s.2.1 s.2.2.1 s.2.2.2.1 s.2.2.2.2.1 s.2.2.2.2.2.1 s.2.2.2.2.2.2.1 s.2.2.2.2.2.2.2.1 s.2.2.2.2.2.2.2.2.1 s.2.2.2.2.2.2.2.2.2) (fun n s hI hk => hs n s.1 s.2.1 s.2.2.1 s.2.2.2.1 s.2.2.2.2.1 s.2.2.2.2.2.1 s.2.2.2.2.2.2.1 s.2.2.2.2.2.2.2.1 s.2.2.2.2.2.2.2.2.1 s.2.2.2.2.2.2.2.2.2 hI (fun b1 b2 b3 b4 b5 b6 b7 b8 b9 b10 h9 hm => hk (b1, b2, b3, b4, b5, b6, b7, b8, b9, b10) h9 hm)) (a1, a2, a3, a4, a5, a6, a7, a8, a9, a10) h
theorem lp11 {A1 A2 A3 A4 A5 A6 A7 A8 A9 A10 A11 : Type} (W : Nat → A1 → A2 → A3 → A4 → A5 → A6 → A7 → A8 → A9 → A10 → A11 → Prop) (I : A1 → A2 → A3 → A4 → A5 → A6 → A7 → A8 → A9 → A10 → A11 → Prop) (μ : A1 → A2 → A3 → A4 → A5 → A6 → A7 → A8 → A9 → A10 → A11 → Nat) (hs : ∀ (n : Nat) (a1 : A1) (a2 : A2) (a3 : A3) (a4 : A4) (a5 : A5) (a6 : A6) (a7 : A7) (a8 : A8) (a9 : A9) (a10 : A10) (a11 : A11), I a1 a2 a3 a4 a5 a6 a7 a8 a9 a10 a11 → (∀ (b1 : A1) (b2 : A2) (b3 : A3) (b4 : A4) (b5 : A5) (b6 : A6) (b7 : A7) (b8 : A8) (b9 : A9) (b10 : A10) (b11 : A11), I b1 b2 b3 b4 b5 b6 b7 b8 b9 b10 b11 → μ b1 b2 b3 b4 b5 b6 b7 b8 b9 b10 b11 < μ a1 a2 a3 a4 a5 a6 a7 a8 a9 a10 a11 → W n b1 b2 b3 b4 b5 b6 b7 b8 b9 b10 b11) → W (n + 1) a1 a2 a3 a4 a5 a6 a7 a8 a9 a10 a11) (a1 : A1) (a2 : A2) (a3 : A3) (a4 : A4) (a5 : A5) (a6 : A6) (a7 : A7) (a8 : A8) (a9 : A9) (a10 : A10) (a11 : A11) (h : I a1 a2 a3 a4 a5 a6 a7 a8 a9 a10 a11) : ∃ n, W n a1 a2 a3 a4 a5 a6 a7 a8 a9 a10 a11 :=
  loop_m (σ := A1 × A2 × A3 × A4 × A5 × A6 × A7 × A8 × A9 × A10 × A11) (fun n s => W n s.1 s.2.1 s.2.2.1 s.2.2.2.1 s.2.2.2.2.1 s.2.2.2.2.2.1 s.2.2.2.2.2.2.1 s.2.2.2.2.2.2.2.1 s.2.2.2.2.2.2.2.2.1 s.2.2.2.2.2.2.2.2.2.1 s.2.2.2.2.2.2.2.2.2.2) (fun s => I s.1 s.2.1 s.2.2.1 s.2.2.2.1 s.2.2.2.2.1 s.2.2.2.2.2.1 s.2.2.2.2.2.2.1 s.2.2.2.2.2.2.2.1 s.2.2.2.2.2.2.2.2.1 s.2.2.2.2.2.2.2.2.2.1 s.2.2.2.2.2.2.2.2.2.2) (fun s => μ s.1 s.2.1 s.2.2.1 s.2.2.2.1 s.2.2.2.2.1 s.2.2.2.2.2.1 s.2.2.2.2.2.2.1 s.2.2.2.2.2.2.2.1 s.2.2.2.2.2.2.2.2.1 s.2.2.2.2.2.2.2.2.2.1 s.2.2.2.2.2.2.2.2.2.2) (fun n s hI hk => hs n s.1 s.2.1 s.2.2.1 s.2.2.2.1 s.2.2.2.2.1 s.2.2.2.2.2.1 s.2.2.2.2.2.2.1 s.2.2.2.2.2.2.2.1 s.2.2.2.2.2.2.2.2.1 s.2.2.2.2.2.2.2.2.2.1 s.2.2.2.2.2.2.2.2.2.2 hI (fun b1 b2 b3 b4 b5 b6 b7 b8 b9 b10 b11 h9 hm => hk (b1, b2, b3, b4, b5, b6, b7, b8, b9, b10, b11) h9 hm)) (a1, a2, a3, a4, a5, a6, a7, a8, a9, a10, a11) h
theorem lp12 {A1 A2 A3 A4 A5 A6 A7 A8 A9 A10 A11 A12 : Type} (W : Nat → A1 → A2 → A3 → A4 → A5 → A6 → A7 → A8 → A9 → A10 → A11 → A12 → Prop) (I : A1 → A2 → A3 → A4 → A5 → A6 → A7 → A8 → A9 → A10 → A11 → A12 → Prop) (μ : A1 → A2 → A3 → A4 → A5 → A6 → A7 → A8 → A9 → A10 → A11 → A12 → Nat) (hs : ∀ (n : Nat) (a1 : A1) (a2 : A2) (a3 : A3) (a4 : A4) (a5 : A5) (a6 : A6) (a7 : A7) (a8 : A8) (a9 : A9) (a10 : A10) (a11 : A11) (a12 : A12), I a1 a2 a3 a4 a5 a6 a7 a8 a9 a10 a11 a12 → (∀ (b1 : A1) (b2 : A2) (b3 : A3) (b4 : A4) (b5 : A5) (b6 : A6) (b7 : A7) (b8 : A8) (b9 : A9) (b10 : A10) (b11 : A11) (b12 : A12), I b1 b2 b3 b4 b5 b6 b7 b8 b9 b10 b11 b12 → μ b1 b2 b3 b4 b5 b6 b7 b8 b9 b10 b11 b12 < μ a1 a2 a3 a4 a5 a6 a7 a8 a9 a10 a11 a12 → W n b1 b2 b3 b4 b5 b6 b7 b8 b9 b10 b11 b12) → W (n + 1) a1 a2 a3 a4 a5 a6 a7 a8 a9 a10 a11 a12) (a1 : A1) (a2 : A2) (a3 : A3) (a4 : A4) (a5 : A5) (a6 : A6) (a7 : A7) (a8 : A8) (a9 : A9) (a10 : A10) (a11 : A11) (a12 : A12) (h : I a1 a2 a3 a4 a5 a6 a7 a8 a9 a10 a11 a12) : ∃ n, W n a1 a2 a3 a4 a5 a6 a7 a8 a9 a10 a11 a12 :=
  loop_m (σ := A1 × A2 × A3 × A4 × A5 × A6 × A7 × A8 × A9 × A10 × A11 × A12) (fun n s => W n s.1 s.2.1 s.2.2.1 s.2.2.2.1 s.2.2.2.2.1 s.2.2.2.2.2.1 s.2.2.2.2.2.2.1 s.2.2.2.2.2.2.2.1 s.2.2.2.2.2.2.2.2.1 s.2.2.2.2.2.2.2.2.2.1 s.2.2.2.2.2.2.2.2.2.2.1 s.2.2.2.2.2.2.2.2.2.2.2) (fun s => I s.1 s.2.1 s.2.2.1 s.2.2.2.1 s.2.2.2.2.1 s.2.2.2.2.2.1 s.2.2.2.2.2.2.1 s.2.2.2.2.2.2.2.1 s.2.2.2.2.2.2.2.2.1 s.2.2.2.2.2.2.2.2.2.1 s.2.2.2.2.2.2.2.2.2.2.1 s.2.2.2.2.2.2.2.2.2.2.2) (fun s => μ s.1 s.2.1 s.2.2.1 s.2.2.2.1 s.2.2.2.2.1 s.2.2.2.2.2.1 s.2.2.2.2.2.2.1 s.2.2.2.2.2.2.2.1 s.2.2.2.2.2.2.2.2.1 s.2.2.2.2.2.2.2.2.2.1 s.2.2.2.2.2.2.2.2.2.2.1 s.2.2.2.2.2.2.2.2.2.2.2) (fun n s hI hk => hs n s.1 s.2.1 s.2.2.1 s.2.2.2.1 s.2.2.2.2.1 s.2.2.2.2.2.1 s.2.2.2.2.2.2.1 s.2.2.2.2.2.2.2.1 s.2.2.2.2.2.2.2.2.1 s.2.2.2.2.2.2.2.2.2.1 s.2.2.2.2.2.2.2.2.2.2.1 s.2.2.2.2.2.2.2.2.2.2.2 hI (fun b1 b2 b3 b4 b5 b6 b7 b8 b9 b10 b11 b12 h9 hm => hk (b1, b2, b3, b4, b5, b6, b7, b8, b9, b10, b11, b12) h9 hm)) (a1, a2, a3, a4, a5, a6, a7, a8, a9, a10, a11, a12) h
theorem lp13 {A1 A2 A3 A4 A5 A6 A7 A8 A9 A10 A11 A12 A13 : Type} (W : Nat → A1 → A2 → A3 → A4 → A5 → A6 → A7 → A8 → A9 → A10 → A11 → A12 → A13 → Prop) (I : A1 → A2 → A3 → A4 → A5 → A6 → A7 → A8 → A9 → A10 → A11 → A12 → A13 → Prop) (μ : A1 → A2 → A3 → A4 → A5 → A6 → A7 → A8 → A9 → A10 → A11 → A12 → A13 → Nat) (hs : ∀ (n : Nat) (a1 : A1) (a2 : A2) (a3 : A3) (a4 : A4) (a5 : A5) (a6 : A6) (a7 : A7) (a8 : A8) (a9 : A9) (a10 : A10) (a11 : A11) (a12 : A12) (a13 : A13), I a1 a2 a3 a4 a5 a6 a7 a8 a9 a10 a11 a12 a13 → (∀ (b1 : A1) (b2 : A2) (b3 : A3) (b4 : A4) (b5 : A5) (b6 : A6) (b7 : A7) (b8 : A8) (b9 : A9) (b10 : A10) (b11 : A11) (b12 : A12) (b13 : A13), I b1 b2 b3 b4 b5 b6 b7 b8 b9 b10 b11 b12 b13 → μ b1 b2 b3 b4 b5 b6 b7 b8 b9 b10 b11 b12 b13 < μ a1 a2 a3 a4 a5 a6 a7 a8 a9 a10 a11 a12 a13 → W n b1 b2 b3 b4 b5 b6 b7 b8 b9 b10 b11 b12 b13) → W (n + 1) a1 a2 a3 a4 a5 a6 a7 a8 a9 a10 a11 a12 a13) (a1 : A1) (a2 : A2) (a3 : A3) (a4 : A4) (a5 : A5) (a6 : A6) (a7 : A7) (a8 : A8) (a9 : A9) (a10 : A10) (a11 : A11) (a12 : A12) (a13 : A13) (h : I a1 a2 a3 a4 a5 a6 a7 a8 a9 a10 a11 a12 a13) : ∃ n, W n a1 a2 a3 a4 a5 a6 a7 a8 a9 a10 a11 a12 a13 :=
  loop_m (σ := A1 × A2 × A3 × A4 × A5 × A6 × A7 × A8 × A9 × A10 × A11 × A12 × A13) (fun n s => W n s.1 s.2.1 s.2.2.1 s.2.2.2.1 s.2.2.2.2.1 s.2.2.2.2.2.1 s.2.2.2.2.2.2.1 s.2.2.2.2.2.2.2.1 s.2.2.2.2.2.2.2.2.1 s.2.2.2.2.2.2.2.2.2.1 s.2.2.2.2.2.2.2.2.2.2.1 s.2.2.2.2.2.2.2.2.2.2.2.1 s.2.2.2.2.2.2.2.2.2.2.2.2) (fun s => I s.1 s.2.1 s.2.2.1 s.2.2.2.1 s.2.2.2.2.1 s.2.2.2.2.2.1 s.2.2.2.2.2.2.1 s.2.2.2.2.2.2.2.1 s.2.2.2.2.2.2.2.2.1 s.2.2.2.2.2.2.2.2.2.1 s.2.2.2.2.2.2.2.2.2.2.1 s.2.2.2.2.2.2.2.2.2.2.2.1 s.2.2.2.2.2.2.2.2.2.2.2.2) (fun s => μ s.1 s.2.1 s.2.2.1 s.2.2.2.1 s.2.2.2.2.1 s.2.2.2.2.2.1 s.2.2.2.2.2.2.1 s.2.2.2.2.2.2.2.1 s.2.2.2.2.2.2.2.2.1 s.2.2.2.2.2.2.2.2.2.1 s.2.2.2.2.2.2.2.2.2.2.1 s.2.2.2.2.2.2.2.2.2.2.2.1 s.2.2.2.2.2.2.2.2.2.2.2.2) (fun n s hI hk => hs n s.1 s.2.1 s.2.2.1 s.2.2.2.1 s.2.2.2.2.1 s.2.2.2.2.2.1 s.2.2.2.2.2.2.1 s.2.2.2.2.2.2.2.1 s.2.2.2.2.2.2.2.2.1 s.2.2.2.2.2.2.2.2.2.1 s.2.2.2.2.2.2.2.2.2.2.1 s.2.2.2.2.2.2.2.2.2.2.2.1 s.2.2.2.2.2.2.2.2.2.2.2.2 hI (fun b1 b2 b3 b4 b5 b6 b7 b8 b9 b10 b11 b12 b13 h9 hm => hk (b1, b2, b3, b4, b5, b6, b7, b8, b9, b10, b11, b12, b13) h9 hm)) (a1, a2, a3, a4, a5, a6, a7, a8, a9, a10, a11, a12, a13) h
theorem lp14 {A1 A2 A3 A4 A5 A6 A7 A8 A9 A10 A11 A12 A13 A14 : Type} (W : Nat → A1 → A2 → A3 → A4 → A5 → A6 → A7 → A8 → A9 → A10 → A11 → A12 → A13 → A14 → Prop) (I : A1 → A2 → A3 → A4 → A5 → A6 → A7 → A8 → A9 → A10 → A11 → A12 → A13 → A14 → Prop) (μ : A1 → A2 → A3 → A4 → A5 → A6 → A7 → A8 → A9 → A10 → A11 → A12 → A13 → A14 → Nat) (hs : ∀ (n : Nat) (a1 : A1) (a2 : A2) (a3 : A3) (a4 : A4) (a5 : A5) (a6 : A6) (a7 : A7) (a8 : A8) (a9 : A9) (a10 : A10) (a11 : A11) (a12 : A12) (a13 : A13) (a14 : A14), I a1 a2 a3 a4 a5 a6 a7 a8 a9 a10 a11 a12 a13 a14 → (∀ (b1 : A1) (b2 : A2) (b3 : A3) (b4 : A4) (b5 : A5) (b6 : A6) (b7 : A7) (b8 : A8) (b9 : A9) (b10 : A10) (b11 : A11) (b12 : A12) (b13 : A13) (b14 : A14), I b1 b2 b3 b4 b5 b6 b7 b8 b9 b10 b11 b12 b13 b14 → μ b1 b2 b3 b4 b5 b6 b7 b8 b9 b10 b11 b12 b13 b14 < μ a1 a2 a3 a4 a5 a6 a7 a8 a9 a10 a11 a12 a13 a14 → W n b1 b2 b3 b4 b5 b6 b7 b8 b9 b10 b11 b12 b13 b14) → W (n + 1) a1 a2 a3 a4 a5 a6 a7 a8 a9 a10 a11 a12 a13 a14) (a1 : A1) (a2 : A2) (a3 : A3) (a4 : A4) (a5 : A5) (a6 : A6) (a7 : A7) (a8 : A8) (a9 : A9) (a10 : A10) (a11 : A11) (a12 : A12) (a13 : A13) (a14 : A14) (h : I a1 a2 a3 a4 a5 a6 a7 a8 a9 a10 a11 a12 a13 a14) : ∃ n, W n a1 a2 a3 a4 a5 a6 a7 a8 a9 a10 a11 a12 a13 a14 :=
  loop_m (σ := A1 × A2 × A3 × A4 × A5 × A6 × A7 × A8 × A9 × A10 × A11 × A12 × A13 × A14) (fun n s => W n s.1 s.2.1 s.2.2.1 s.2.2.2.1 s.2.2.2.2.1 s.2.2.2.2.2.1 s.2.2.2.2.2.2.1 s.2.2.2.2.2.2.2.1 s.2.2.2.2.2.2.2.2.1 s.2.2.2.2.2.2.2.2.2.1 s.2.2.2.2.2.2.2.2.2.2.1 s.2.2.2.2.2.2.2.2.2.2.2.1 s.2.2.2.2.2.2.2.2.2.2.2.2.1 s.2.2.2.2.2.2.2.2.2.2.2.2.2) (fun s => I s.1 s.2.1 s.2.2.1 s.2.2.2.1 s.2.2.2.2.1 s.2.2.2.2.2.1 s.2.2.2.2.2.2.1 s.2.2.2.2.2.2.2.1 s.2.2.2.2.2.2.2.2.1 s.2.2.2.2.2.2.2.2.2.1 s.2.2.2.2.2.2.2.2.2.2.1 s.2.2.2.2.2.2.2.2.2.2.2.1 s.2.2.2.2.2.2.2.2.2.2.2.2.1 s.2.2.2.2.2.2.2.2.2.2.2.2.2) (fun s => μ s.1 s.2.1 s.2.2.1 s.2.2.2.1 s.2.2.2.2.1 s.2.2.2.2.2.1 s.2.2.2.2.2.2.1 s.2.2.2.2.2.2.2.1 s.2.2.2.2.2.2.2.2.1 s.2.2.2.2.2.2.2.2.2.1 s.2.2.2.2.2.2.2.2.2.2.1 s.2.2.2.2.2.2.2.2.2.2.2.1 s.2.2.2.2.2.2.2.2.2.2.2.2.1 s.2.2.2.2.2.2.2.2.2.2.2.2.2) (fun n s hI hk => hs n s.1 s.2.1 s.2.2.1 s.2.2.2.1 s.2.2.2.2.1 s.2.2.2.2.2.1 s.2.2.2.2.2.2.1 s.2.2.2.2.2.2.2.1 s.2.2.2.2.2.2.2.2.1 s.2.2.2.2.2.2.2.2.2.1 s.2.2.2.2.2.2.2.2.2.2.1 s.2.2.2.2.2.2.2.2.2.2.2.1 s.2.2.2.2.2.2.2.2.2.2.2.2.1 s.2.2.2.2.2.2.2.2.2.2.2.2.2 hI (fun b1 b2 b3 b4 b5 b6 b7 b8 b9 b10 b11 b12 b13 b14 h9 hm => hk (b1, b2, b3, b4, b5, b6, b7, b8, b9, b10, b11, b12, b13, b14) h9 hm)) (a1, a2, a3, a4, a5, a6, a7, a8, a9, a10, a11, a12, a13, a14) h
theorem lp15 {A1 A2 A3 A4 A5 A6 A7 A8 A9 A10 A11 A12 A13 A14 A15 : Type} (W : Nat → A1 → A2 → A3 → A4 → A5 → A6 → A7 → A8 → A9 → A10 → A11 → A12 → A13 → A14 → A15 → Prop) (I : A1 → A2 → A3 → A4 → A5 → A6 → A7 → A8 → A9 → A10 → A11 → A12 → A13 → A14 → A15 → Prop) (μ : A1 → A2 → A3 → A4 → A5 → A6 → A7 → A8 → A9 → A10 → A11 → A12 → A13 → A14 → A15 → Nat) (hs : ∀ (n : Nat) (a1 : A1) (a2 : A2) (a3 : A3) (a4 : A4) (a5 : A5) (a6 : A6) (a7 : A7) (a8 : A8) (a9 : A9) (a10 : A10) (a11 : A11) (a12 : A12) (a13 : A13) (a14 : A14) (a15 : A15), I a1 a2 a3 a4 a5 a6 a7 a8 a9 a10 a11 a12 a13 a14 a15 → (∀ (b1 : A1) (b2 : A2) (b3 : A3) (b4 : A4) (b5 : A5) (b6 : A6) (b7 : A7) (b8 : A8) (b9 : A9) (b10 : A10) (b11 : A11) (b12 : A12) (b13 : A13) (b14 : A14) (b15 : A15), I b1 b2 b3 b4 b5 b6 b7 b8 b9 b10 b11 b12 b13 b14 b15 → μ b1 b2 b3 b4 b5 b6 b7 b8 b9 b10 b11 b12 b13 b14 b15 < μ a1 a2 a3 a4 a5 a6 a7 a8 a9 a10 a11 a12 a13 a14 a15 → W n b1 b2 b3 b4 b5 b6 b7 b8 b9 b10 b11 b12 b13 b14 b15) → W (n + 1) a1 a2 a3 a4 a5 a6 a7 a8 a9 a10 a11 a12 a13 a14 a15) (a1 : A1) (a2 : A2) (a3 : A3) (a4 : A4) (a5 : A5) (a6 : A6) (a7 : A7) (a8 : A8) (a9 : A9) (a10 : A10) (a11 : A11) (a12 : A12) (a13 : A13) (a14 : A14) (a15 : A15) (h : I a1 a2 a3 a4 a5 a6 a7 a8 a9 a10 a11 a12 a13 a14 a15) : ∃ n, W n a1 a2 a3 a4 a5 a6 a7 a8 a9 a10 a11 a12 a13 a14 a15 :=
  loop_m (σ := A1 × A2 × A3 × A4 × A5 × A6 × A7 × A8 × A9 × A10 × A11 × A12 × A13 × A14 × A15) (fun n s => W n s.1 s.2.1 s.2.2.1 s.2.2.2.1 s.2.2.2.2.1 s.2.2.2.2.2.1 s.2.2.2.2.2.2.1 s.2.2.2.2.2.2.2.1 s.2.2.2.2.2.2.2.2.1 s.2.2.2.2.2.2.2.2.2.1 s.2.2.2.2.2.2.2.2.2.2.1 s.2.2.2.2.2.2.2.2.2.2.2.1 s.2.2.2.2.2.2.2.2.2.2.2.2.1 s.2.2.2.2.2.2.2.2.2.2.2.2.2.1 s.2.2.2.2.2.2.2.2.2.2.2.2.2.2) (fun s => I s.1 s.2.1 s.2.2.1 s.2.2.2.1 s.2.2.2.2.1 s.2.2.2.2.2.1 s.2.2.2.2.2.2.1 s.2.2.2.2.2.2.2.1 s.2.2.2.2.2.2.2.2.1 s.2.2.2.2.2.2.2.2.2.1 s.2.2.2.2.2.2.2.2.2.2.1 s.2.2.2.2.2.2.2.2.2.2.2.1 s.2.2.2.2.2.2.2.2.2.2.2.2.1 s.2.2.2.2.2.2.2.2.2.2.2.2.2.1 s.2.2.2.2.2.2.2.2.2.2.2.2.2.2) (fun s => μ s.1 s.2.1 s.2.2.1 s.2.2.2.1 s.2.2.2.2.1 s.2.2.2.2.2.1 s.2.2.2.2.2.2.1 s.2.2.2.2.2.2.2.1 s.2.2.2.2.2.2.2.2.1 s.2.2.2.2.2.2.2.2.2.1 s.2.2.2.2.2.2.2.2.2.2.1 s.2.2.2.2.2.2.2.2.2.2.2.1 s.2.2.2.2.2.2.2.2.2.2.2.2.1 s.2.2.2.2.2.2.2.2.2.2.2.2.2.1 s.2.2.2.2.2.2.2.2.2.2.2.2.2.2) (fun n s hI hk => hs n s.1 s.2.1 s.2.2.1 s.2.2.2.1 s.2.2.2.2.1 s.2.2.2.2.2.1 s.2.2.2.2.2.2.1 s.2.2.2.2.2.2.2.1 s.2.2.2.2.2.2.2.2.1 s.2.2.2.2.2.2.2.2.2.1 s.2.2.2.2.2.2.2.2.2.2.1 s.2.2.2.2.2.2.2.2.2.2.2.1 s.2.2.2.2.2.2.2.2.2.2.2.2.1 s.2.2.2.2.2.2.2.2.2.2.2.2.2.1 s.2.2.2.2.2.2.2.2.2.2.2.2.2.2 hI (fun b1 b2 b3 b4 b5 b6 b7 b8 b9 b10 b11 b12 b13 b14 b15 h9 hm => hk (b1, b2, b3, b4, b5, b6, b7, b8, b9, b10, b11, b12, b13, b14, b15) h9 hm)) (a1, a2, a3, a4, a5, a6, a7, a8, a9, a10, a11, a12, a13, a14, a15) h
theorem lp16 {A1 A2 A3 A4 A5 A6 A7 A8 A9 A10 A11 A12 A13 A14 A15 A16 : Type} (W : Nat → A1 → A2 → A3 → A4 → A5 → A6 → A7 → A8 → A9 → A10 → A11 → A12 → A13 → A14 → A15 → A16 → Prop) (I : A1 → A2 → A3 → A4 → A5 → A6 → A7 → A8 → A9 → A10 → A11 → A12 → A13 → A14 → A15 → A16 → Prop) (μ : A1 → A2 → A3 → A4 → A5 → A6 → A7 → A8 → A9 → A10 → A11 → A12 → A13 → A14 → A15 → A16 → Nat) (hs : ∀ (n : Nat) (a1 : A1) (a2 : A2) (a3 : A3) (a4 : A4) (a5 : A5) (a6 : A6) (a7 : A7) (a8 : A8) (a9 : A9) (a10 : A10) (a11 : A11) (a12 : A12) (a13 : A13) (a14 : A14) (a15 : A15) (a16 : A16), I a1 a2 a3 a4 a5 a6 a7 a8 a9 a10 a11 a12 a13 a14 a15 a16 → (∀ (b1 : A1) (b2 : A2) (b3 : A3) (b4 : A4) (b5 : A5) (b6 : A6) (b7 : A7) (b8 : A8) (b9 : A9) (b10 : A10) (b11 : A11) (b12 : A12) (b13 : A13) (b14 : A14) (b15 : A15) (b16 : A16), I b1 b2 b3 b4 b5 b6 b7 b8 b9 b10 b11 b12 b13 b14 b15 b16 → μ b1 b2 b3 b4 b5 b6 b7 b8 b9 b10 b11 b12 b13 b14 b15 b16 < μ a1 a2 a3 a4 a5 a6 a7 a8 a9 a10 a11 a12 a13 a14 a15 a16 → W n b1 b2 b3 b4 b5 b6 b7 b8 b9 b10 b11 b12 b13 b14 b15 b16) → W (n + 1) a1 a2 a3 a4 a5 a6 a7 a8 a9 a10 a11 a12 a13 a14 a15 a16) (a1 : A1) (a2 : A2) (a3 : A3) (a4 : A4) (a5 : A5) (a6 : A6) (a7 : A7) (a8 : A8) (a9 : A9) (a10 : A10) (a11 : A11) (a12 : A12) (a13 : A13) (a14 : A14) (a15 : A15) (a16 : A16) (h : I a1 a2 a3 a4 a5 a6 a7 a8 a9 a10 a11 a12 a13 a14 a15 a16) : ∃ n, W n a1 a2 a3 a4 a5 a6 a7 a8 a9 a10 a11 a12 a13 a14 a15 a16 :=
  loop_m (σ := A1 × A2 × A3 × A4 × A5 × A6 × A7 × A8 × A9 × A10 × A11 × A12 × A13 × A14 × A15 × A16) (fun n s => W n s.1 s.2.1 s.2.2.1 s.2.2.2.1 s.2.2.2.2.1 s.2.2.2.2.2.1 s.2.2.2.2.2.2.1 s.2.2.2.2.2.2.2.1 s.2.2.2.2.2.2.2.2.1 s.2.2.2.2.2.2.2.2.2.1 s.2.2.2.2.2.2.2.2.2.2.1 s.2.2.2.2.2.2.2.2.2.2.2.1 s.2.2.2.2.2.2.2.2.2.2.2.2.1 s.2.2.2.2.2.2.2.2.2.2.2.2.2.1 s.2.2.2.2.2.2.2.2.2.2.2.2.2.2.1 s.2.2.2.2.2.2.2.2.2.2.2.2.2.2.2) (fun s => I s.1 s.2.1 s.2.2.1 s.2.2.2.1 s.2.2.2.2.1 s.2.2.2.2.2.1 s.2.2.2.2.2.2.1 s.2.2.2.2.2.2.2.1 s.2.2.2.2.2.2.2.2.1 s.2.2.2.2.2.2.2.2.2.1 s.2.2.2.2.2.2.2.2.2.2.1 s.2.2.2.2.2.2.2.2.2.2.2.1 s.2.2.2.2.2.2.2.2.2.2.2.2.1 s.2.2.2.2.2.2.2.2.2.2.2.2.2.1 s.2.2.2.2.2.2.2.2.2.2.2.2.2.2.1 s.2.2.2.2.2.2.2.2.2.2.2.2.2.2.2) (fun s => μ s.1 s.2.1 s.2.2.1 s.2.2.2.1 s.2.2.2.2.1 s.2.2.2.2.2.1 s.2.2.2.2.2.2.1 s.2.2.2.2.2.2.2.1 s.2.2.2.2.2.2.2.2.1 s.2.2.2.2.2.2.2.2.2.1 s.2.2.2.2.2.2.2.2.2.2.1 s.2.2.2.2.2.2.2.2.2.2.2.1 s.2.2.2.2.2.2.2.2.2.2.2.2.1 s.2.2.2.2.2.2.2.2.2.2.2.2.2.1 s.2.2.2.2.2.2.2.2.2.2.2.2.2.2.1 s.2.2.2.2.2.2.2.2.2.2.2.2.2.2.2) (fun n s hI hk => hs n s.1 s.2.1 s.2.2.1 s.2.2.2.1 s.2.2.2.2.1 s.2.2.2.2.2.1 s.2.2.2.2.2.2.1 s.2.2.2.2.2.2.2.1 s.2.2.2.2.2.2.2.2.1 s.2.2.2.2.2.2.2.2.2.1 s.2.2.2.2.2.2.2.2.2.2.1 s.2.2.2.2.2.2.2.2.2.2.2.1 s.2.2.2.2.2.2.2.2.2.2.2.2.1 s.2.2.2.2.2.2.2.2.2.2.2.2.2.1 s.2.2.2.2.2.2.2.2.2.2.2.2.2.2.1 s.2.2.2.2.2.2.2.2.2.2.2.2.2.2.2 hI (fun b1 b2 b3 b4 b5 b6 b7 b8 b9 b10 b11 b12 b13 b14 b15 b16 h9 hm => hk (b1, b2, b3, b4, b5, b6, b7, b8, b9, b10, b11, b12, b13, b14, b15, b16) h9 hm)) (a1, a2, a3, a4, a5, a6, a7, a8, a9, a10, a11, a12, a13, a14, a15, a16) h
theorem pk_least (P : Nat → Prop) (h : ∃ k, P k) : ∃ k, P k ∧ ∀ j, j < k → ¬ P j := by
  obtain ⟨k, hk⟩ := h
  induction k using Nat.strongRecOn with
  | ind k ih =>
    by_cases e : ∃ j, j < k ∧ P j
    · obtain ⟨j, hj, pj⟩ := e
      exact ih j hj pj
    · exact ⟨k, hk, fun j hj pj => e ⟨j, hj, pj⟩⟩
theorem rp1 {ρ A1 : Type} (W : Nat → (ρ → Prop) → A1 → Prop) (ok : A1 → Prop) (μ : A1 → Nat) (val : A1 → ρ)
    (hs : ∀ (d : Nat) (post : ρ → Prop) (a1 : A1), ok a1 → post (val a1) → (∀ (post' : ρ → Prop) (b1 : A1), ok b1 → μ b1 < μ a1 → post' (val b1) → W d post' b1) → W (d + 1) post a1) :
    ∀ (d : Nat) (post : ρ → Prop) (a1 : A1), ok a1 → μ a1 < d → post (val a1) → W d post a1 := by
  intro d
  induction d with
  | zero => intro post a1 _ h; omega
  | succ d ih =>
    intro post a1 ho hm hp
    exact hs d post a1 ho hp (fun post' b1 ho' hm' hp' => ih post' b1 ho' (by omega) hp')
theorem rp2 {ρ A1 A2 : Type} (W : Nat → (ρ → Prop) → A1 → A2 → Prop) (ok : A1 → A2 → Prop) (μ : A1 → A2 → Nat) (val : A1 → A2 → ρ)
    (hs : ∀ (d : Nat) (post : ρ → Prop) (a1 : A1) (a2 : A2), ok a1 a2 → post (val a1 a2) → (∀ (post' : ρ → Prop) (b1 : A1) (b2 : A2), ok b1 b2 → μ b1 b2 < μ a1 a2 → post' (val b1 b2) → W d post' b1 b2) → W (d + 1) post a1 a2) :
    ∀ (d : Nat) (post : ρ → Prop) (a1 : A1) (a2 : A2), ok a1 a2 → μ a1 a2 < d → post (val a1 a2) → W d post a1 a2 := by
  intro d
  induction d with
  | zero => intro post a1 a2 _ h; omega
  | succ d ih =>
    intro post a1 a2 ho hm hp
    exact hs d post a1 a2 ho hp (fun post' b1 b2 ho' hm' hp' => ih post' b1 b2 ho' (by omega) hp')
theorem rp3 {ρ A1 A2 A3 : Type} (W : Nat → (ρ → Prop) → A1 → A2 → A3 → Prop) (ok : A1 → A2 → A3 → Prop) (μ : A1 → A2 → A3 → Nat) (val : A1 → A2 → A3 → ρ)
    (hs : ∀ (d : Nat) (post : ρ → Prop) (a1 : A1) (a2 : A2) (a3 : A3), ok a1 a2 a3 → post (val a1 a2 a3) → (∀ (post' : ρ → Prop) (b1 : A1) (b2 : A2) (b3 : A3), ok b1 b2 b3 → μ b1 b2 b3 < μ a1 a2 a3 → post' (val b1 b2 b3) → W d post' b1 b2 b3) → W (d + 1) post a1 a2 a3) :
    ∀ (d : Nat) (post : ρ → Prop) (a1 : A1) (a2 : A2) (a3 : A3), ok a1 a2 a3 → μ a1 a2 a3 < d → post (val a1 a2 a3) → W d post a1 a2 a3 := by
  intro d
  induction d with
  | zero => intro post a1 a2 a3 _ h; omega
  | succ d ih =>
    intro post a1 a2 a3 ho hm hp
    exact hs d post a1 a2 a3 ho hp (fun post' b1 b2 b3 ho' hm' hp' => ih post' b1 b2 b3 ho' (by omega) hp')
theorem rp4 {ρ A1 A2 A3 A4 : Type} (W : Nat → (ρ → Prop) → A1 → A2 → A3 → A4 → Prop) (ok : A1 → A2 → A3 → A4 → Prop) (μ : A1 → A2 → A3 → A4 → Nat) (val : A1 → A2 → A3 → A4 → ρ)
    (hs : ∀ (d : Nat) (post : ρ → Prop) (a1 : A1) (a2 : A2) (a3 : A3) (a4 : A4), ok a1 a2 a3 a4 → post (val a1 a2 a3 a4) → (∀ (post' : ρ → Prop) (b1 : A1) (b2 : A2) (b3 : A3) (b4 : A4), ok b1 b2 b3 b4 → μ b1 b2 b3 b4 < μ a1 a2 a3 a4 → post' (val b1 b2 b3 b4) → W d post' b1 b2 b3 b4) → W (d + 1) post a1 a2 a3 a4) :
    ∀ (d : Nat) (post : ρ → Prop) (a1 : A1) (a2 : A2) (a3 : A3) (a4 : A4), ok a1 a2 a3 a4 → μ a1 a2 a3 a4 < d → post (val a1 a2 a3 a4) → W d post a1 a2 a3 a4 := by
  intro d
  induction d with
  | zero => intro post a1 a2 a3 a4 _ h; omega
  | succ d ih =>
    intro post a1 a2 a3 a4 ho hm hp
    exact hs d post a1 a2 a3 a4 ho hp (fun post' b1 b2 b3 b4 ho' hm' hp' => ih post' b1 b2 b3 b4 ho' (by omega) hp')
theorem rp5 {ρ A1 A2 A3 A4 A5 : Type} (W : Nat → (ρ → Prop) → A1 → A2 → A3 → A4 → A5 → Prop) (ok : A1 → A2 → A3 → A4 → A5 → Prop) (μ : A1 → A2 → A3 → A4 → A5 → Nat) (val : A1 → A2 → A3 → A4 → A5 → ρ)
    (hs : ∀ (d : Nat) (post : ρ → Prop) (a1 : A1) (a2 : A2) (a3 : A3) (a4 : A4) (a5 : A5), ok a1 a2 a3 a4 a5 → post (val a1 a2 a3 a4 a5) → (∀ (post' : ρ → Prop) (b1 : A1) (b2 : A2) (b3 : A3) (b4 : A4) (b5 : A5), ok b1 b2 b3 b4 b5 → μ b1 b2 b3 b4 b5 < μ a1 a2 a3 a4 a5 → post' (val b1 b2 b3 b4 b5) → W d post' b1 b2 b3 b4 b5) → W (d + 1) post a1 a2 a3 a4 a5) :
    ∀ (d : Nat) (post : ρ → Prop) (a1 : A1) (a2 : A2) (a3 : A3) (a4 : A4) (a5 : A5), ok a1 a2 a3 a4 a5 → μ a1 a2 a3 a4 a5 < d → post (val a1 a2 a3 a4 a5) → W d post a1 a2 a3 a4 a5 := by
  intro d
  induction d with
  | zero => intro post a1 a2 a3 a4 a5 _ h; omega
  | succ d ih =>
    intro post a1 a2 a3 a4 a5 ho hm hp
    exact hs d post a1 a2 a3 a4 a5 ho hp (fun post' b1 b2 b3 b4 b5 ho' hm' hp' => ih post' b1 b2 b3 b4 b5 ho' (by omega) hp')
theorem rp6 {ρ A1 A2 A3 A4 A5 A6 : Type} (W : Nat → (ρ → Prop) → A1 → A2 → A3 → A4 → A5 → A6 → Prop) (ok : A1 → A2 → A3 → A4 → A5 → A6 → Prop) (μ : A1 → A2 → A3 → A4 → A5 → A6 → Nat) (val : A1 → A2 → A3 → A4 → A5 → A6 → ρ)
    (hs : ∀ (d : Nat) (post : ρ → Prop) (a1 : A1) (a2 : A2) (a3 : A3) (a4 : A4) (a5 : A5) (a6 : A6), ok a1 a2 a3 a4 a5 a6 → post (val a1 a2 a3 a4 a5 a6) → (∀ (post' : ρ → Prop) (b1 : A1) (b2 : A2) (b3 : A3) (b4 : A4) (b5 : A5) (b6 : A6), ok b1 b2 b3 b4 b5 b6 → μ b1 b2 b3 b4 b5 b6 < μ a1 a2 a3 a4 a5 a6 → post' (val b1 b2 b3 b4 b5 b6) → W d post' b1 b2 b3 b4 b5 b6) → W (d + 1) post a1 a2 a3 a4 a5 a6) :
    ∀ (d : Nat) (post : ρ → Prop) (a1 : A1) (a2 : A2) (a3 : A3) (a4 : A4) (a5 : A5) (a6 : A6), ok a1 a2 a3 a4 a5 a6 → μ a1 a2 a3 a4 a5 a6 < d → post (val a1 a2 a3 a4 a5 a6) → W d post a1 a2 a3 a4 a5 a6 := by
  intro d
  induction d with
  | zero => intro post a1 a2 a3 a4 a5 a6 _ h; omega
  | succ d ih =>
    intro post a1 a2 a3 a4 a5 a6 ho hm hp
    exact hs d post a1 a2 a3 a4 a5 a6 ho hp (fun post' b1 b2 b3 b4 b5 b6 ho' hm' hp' => ih post' b1 b2 b3 b4 b5 b6 ho' (by omega) hp')
theorem rec_p {σ ρ : Type} (W : Nat → (ρ → Prop) → σ → Prop) (ok : σ → Prop) (μ : σ → Nat) (val : σ → ρ)
    (hs : ∀ d s post, ok s → post (val s) → (∀ s' post', ok s' → μ s' < μ s → post' (val s') → W d post' s') → W (d + 1) post s) :
    ∀ d s post, ok s → μ s < d → post (val s) → W d post s := by
  intro d
  induction d with
  | zero => intro s post _ h; omega
  | succ d ih =>
    intro s post ho hm hp
    exact hs d s post ho hp (fun s' post' ho' hm' hp' => ih s' post' ho' (by omega) hp')
theorem rec_q {σ ρ : Type} (W : Nat → (ρ → Prop) → σ → Prop) (ok : σ → Prop) (μ : σ → Nat) (Q : σ → ρ → Prop)
    (hs : ∀ d s post, ok s → (∀ r, Q s r → post r) → (∀ s' post', ok s' → μ s' < μ s → (∀ r, Q s' r → post' r) → W d post' s') → W (d + 1) post s) :
    ∀ d s post, ok s → μ s < d → (∀ r, Q s r → post r) → W d post s := by
  intro d
  induction d with
  | zero => intro s post _ h; omega
  | succ d ih =>
    intro s post ho hm hp
    exact hs d s post ho hp (fun s' post' ho' hm' hp' => ih s' post' ho' (by omega) hp')
def bx_sum (f : Nat → Int32) : Nat → Int32
  | 0 => 0
  | n + 1 => bx_sum f n + f n
theorem ek_u {A : Prop} {B : Nat → Prop} {k N : Nat} (hk : k < N) (h : B k) : (some k = none → A) ∧ (∀ y : Nat, some k = some y → (y < N ∧ B y)) :=
  ⟨fun z => absurd z (Option.some_ne_none k), fun _ e => (by cases e; exact ⟨hk, h⟩)⟩
theorem ek_nu {A : Prop} {B : Nat → Prop} (h : A) : ((none : Option Nat) = none → A) ∧ (∀ y : Nat, (none : Option Nat) = some y → B y) :=
  ⟨fun _ => h, fun _ e => (by cases e)⟩
theorem ek_if {c d A B : Prop} (e : c ↔ d) (f : d → A) (g : ¬ d → B) : (c → A) ∧ (¬ c → B) :=
  ⟨fun z => f (e.mp z), fun z => g (fun y => z (e.mpr y))⟩
theorem ek_v {α : Sort _} {P : α → Prop} {a b : α} (e : a = b) (h : P b) : P a := e ▸ h
theorem co_some {x : Option Nat} {A : Prop} {B : Nat → Prop} (i : Nat) (h : B i) (hx : x = some i := by rfl) : (x = none → A) ∧ (∀ y : Nat, x = some y → B y) := by
  subst hx
  exact ⟨fun e => (nomatch e), fun y e => Option.some.inj e ▸ h⟩
theorem co_none {x : Option Nat} {A : Prop} {B : Nat → Prop} (h : A) (hx : x = none := by rfl) : (x = none → A) ∧ (∀ y : Nat, x = some y → B y) := by
  subst hx
  exact ⟨fun _ => h, fun y e => (nomatch e)⟩
theorem co_any {x : Option Nat} {A : Prop} {B : Nat → Prop} (hn : x = none → A) (hs : ∀ i : Nat, x = some i → B i) : (x = none → A) ∧ (∀ y : Nat, x = some y → B y) := ⟨hn, hs⟩
theorem co_2 {P : Nat → Prop} (h0 : P 0) (h1 : P 1) {i : Nat} (hi : i < 2) : P i :=
  match i, hi with
  | 0, _ => h0
  | 1, _ => h1
theorem co_3 {P : Nat → Prop} (h0 : P 0) (h1 : P 1) (h2 : P 2) {i : Nat} (hi : i < 3) : P i :=
  match i, hi with
  | 0, _ => h0
  | 1, _ => h1
  | 2, _ => h2
theorem co_4 {P : Nat → Prop} (h0 : P 0) (h1 : P 1) (h2 : P 2) (h3 : P 3) {i : Nat} (hi : i < 4) : P i :=
  match i, hi with
  | 0, _ => h0
  | 1, _ => h1
  | 2, _ => h2
  | 3, _ => h3
theorem co_dec {N : Nat} {P : Nat → Prop} [DecidablePred P] (h : (List.range N).all (fun i => decide (P i)) = true) {i : Nat} (hi : i < N) : P i := by
  have := List.all_eq_true.mp h i (List.mem_range.mpr hi)
  exact of_decide_eq_true this
theorem co_tab {α : Type} {l : List α} {d : α} {P : α → Prop} (h : ∀ a, a ∈ l → P a) {i : Nat} (hi : i < l.length) : P (l.getD i d) := by
  rw [List.getD_eq_getElem?_getD, List.getElem?_eq_getElem hi]
  exact h _ (List.getElem_mem hi)
theorem pk_mu {x : Int32} {L : Nat} (h0 : ¬ x < 0) (h : ¬ nI L ≤ x) (hL : L < 2 ^ 31) : ∃ j : Nat, j < L ∧ x = nI j ∧ x + 1 = nI (j + 1) ∧ x.toNatClampNeg = j ∧ L - (x + 1).toNatClampNeg < L - x.toNatClampNeg := by
  obtain ⟨j, hj, rfl⟩ := nI_of h0
  have hl : j < L := Nat.not_le.mp fun q => h (nI_le q hj)
  refine ⟨j, hl, rfl, nI_1 j, nI_clamp hj, ?_⟩
  rw [nI_1, nI_clamp (by omega), nI_clamp hj]
  omega
theorem op_s {α : Type} {r : Option α} {A : Prop} {B : α → Prop} {y : α} (h : r = some y) (b : B y) : (r = none → A) ∧ ∀ z, r = some z → B z :=
  ⟨fun e => (by rw [h] at e; cases e), fun z e => (by rw [h] at e; cases e; exact b)⟩
def l_holds {α : Type} (a : Nat → Option Nat) (LP : List Nat) (p : Nat → α) (c : Nat) (b : Nat → α) : Prop :=
  ∀ j, j < c → ∃ y, a j = some y ∧ y ∈ LP ∧ p y = b j
theorem l_holds_0 {α : Type} {a : Nat → Option Nat} {LP : List Nat} {p b : Nat → α} : l_holds a LP p 0 b := fun j h => absurd h (Nat.not_lt_zero j)
theorem l_in_new (LP : List Nat) (q : Nat) : q ∈ LP ++ [q] := List.mem_append.mpr (Or.inr (List.mem_singleton.mpr rfl))
def l_sum (b : Nat → Int32) : Nat → Int32
  | 0 => 0
  | k + 1 => l_sum b k + b k
theorem sb_shr0 (x : Int32) : x >>> ((0 : Int32) &&& 31) = x := by
  rw [show ((0 : Int32) &&& 31) = 0 by decide]
  simp
theorem sb_shl0 (x : Int32) : x <<< ((0 : Int32) &&& 31) = x := by
  rw [show ((0 : Int32) &&& 31) = 0 by decide]
  simp
theorem sb_cl0 : (0 : Int32).toNatClampNeg = 0 := by decide
theorem sb_m1 {p : Nat} (h : 0 < p) : nI p + (-1) = nI (p - 1) := by
  obtain ⟨q, rfl⟩ : ∃ q, p = q + 1 := ⟨p - 1, by omega⟩
  exact pk_m1 q
def sb_b (c : Nat) : Int32 := (nI c).toInt8.toInt32
theorem sb_byte : ∀ c, c < 256 → sb_b c &&& 255 = nI c ∧ ((nI c).toUInt32 % 65536).toInt32 = nI c ∧ nI c ≤ 255 := by decide +kernel
def sb_Fit (a : Nat → Int32) : Prop := ∀ j, fits .byte (.int (a j)) = true
def sb_Lat (t : Nat → Nat) (n : Nat) (a : Nat → Int32) : Prop := ∀ j, j < n → t j < 256 ∧ a j = sb_b (t j)
theorem sb_fitB (c : Nat) : fits .byte (.int (sb_b c)) = true := pk_fb _
theorem sb_fit0 : sb_Fit (fun _ => 0) := fun _ => by
  show fits .byte (.int 0) = true
  decide
theorem sb_fitU {a : Nat → Int32} {k : Nat} {x : Int32} (h : sb_Fit a) (hx : fits .byte (.int x) = true) : sb_Fit (upd a k x) := by
  intro j
  by_cases e : j = k
  · subst e
    rw [pk_us]
    exact hx
  · rw [pk_un e]
    exact h j
def sb_cat (t : Nat → Nat) (n : Nat) (s : Nat → Nat) : Nat → Nat := fun j => if j < n then t j else s (j - n)
theorem sb_cat_lo {t s : Nat → Nat} {n j : Nat} (h : j < n) : sb_cat t n s j = t j := if_pos h
theorem sb_cat_hi {t s : Nat → Nat} {n j : Nat} : sb_cat t n s (n + j) = s j := by
  show (if n + j < n then t (n + j) else s (n + j - n)) = s j
  rw [if_neg (by omega), Nat.add_sub_cancel_left]
theorem sb_latPut {t s : Nat → Nat} {n w : Nat} {a a' : Nat → Int32} (h : sb_Lat t n a) (hk : ∀ j, j < n → a' j = a j) (hs : ∀ i, i < w → s i < 256 ∧ a' (n + i) = sb_b (s i)) : sb_Lat (sb_cat t n s) (n + w) a' := by
  intro j hj
  by_cases e : j < n
  · rw [sb_cat_lo e, hk j e]
    exact h j e
  · obtain ⟨i, rfl⟩ : ∃ i, j = n + i := ⟨j - n, by omega⟩
    rw [sb_cat_hi]
    exact hs i (by omega)
theorem sb_latKeep {t : Nat → Nat} {n : Nat} {a a' : Nat → Int32} (h : sb_Lat t n a) (hk : ∀ j, j < n → a' j = a j) : sb_Lat t n a' := fun j hj => by
  rw [hk j hj]
  exact h j hj
def sb_cap (q m : Nat) : Nat := if q ≤ m then m else if 2 * m + 2 < q then q else 2 * m + 2
def sb_Room (q m mc ms : Nat) : Prop := q ≤ m ∨ (1 ≤ mc ∧ sb_cap q m ≤ ms ∧ sb_cap q m ≤ 65536)
theorem sb_cap_ge (q m : Nat) : q ≤ sb_cap q m := by
  unfold sb_cap
  split
  · omega
  · split <;> omega
theorem sb_cap_gem (q m : Nat) : m ≤ sb_cap q m := by
  unfold sb_cap
  split
  · omega
  · split <;> omega
theorem sb_cap_le {q m mc ms : Nat} (hm : m ≤ 65536) (hr : sb_Room q m mc ms) : sb_cap q m ≤ 65536 := by
  rcases hr with h | h
  · rw [sb_cap, if_pos h]
    exact hm
  · exact h.2.2
theorem sb_at {P : Int32 → Prop} {x y : Int32} (e : x = y) (h : P y) : P x := e ▸ h
def sb_dg (w : Nat) : Nat := if w < 10 then 1 else if w < 100 then 2 else if w < 1000 then 3 else if w < 10000 then 4 else if w < 100000 then 5 else if w < 1000000 then 6 else if w < 10000000 then 7 else if w < 100000000 then 8 else if w < 1000000000 then 9 else 10
def sb_dec (v : Nat) : Nat → Nat := fun i => 48 + v / 10 ^ (sb_dg v - 1 - i) % 10
theorem sb_dg_in (w : Nat) : 1 ≤ sb_dg w ∧ sb_dg w ≤ 10 := by
  unfold sb_dg
  constructor <;> (repeat' split) <;> omega
theorem sb_dg100 {w : Nat} (h : 100 ≤ w) (hw : w < 2 ^ 31) : sb_dg w = sb_dg (w / 100) + 2 := by
  rw [sb_dg, sb_dg, if_neg (show ¬ w < 10 by omega), if_neg (show ¬ w < 100 by omega)]
  by_cases h3 : w < 1000
  · rw [if_pos h3, if_pos (show w / 100 < 10 by omega)]
  rw [if_neg h3, if_neg (show ¬ w / 100 < 10 by omega)]
  by_cases h4 : w < 10000
  · rw [if_pos h4, if_pos (show w / 100 < 100 by omega)]
  rw [if_neg h4, if_neg (show ¬ w / 100 < 100 by omega)]
  by_cases h5 : w < 100000
  · rw [if_pos h5, if_pos (show w / 100 < 1000 by omega)]
  rw [if_neg h5, if_neg (show ¬ w / 100 < 1000 by omega)]
  by_cases h6 : w < 1000000
  · rw [if_pos h6, if_pos (show w / 100 < 10000 by omega)]
  rw [if_neg h6, if_neg (show ¬ w / 100 < 10000 by omega)]
  by_cases h7 : w < 10000000
  · rw [if_pos h7, if_pos (show w / 100 < 100000 by omega)]
  rw [if_neg h7, if_neg (show ¬ w / 100 < 100000 by omega)]
  by_cases h8 : w < 100000000
  · rw [if_pos h8, if_pos (show w / 100 < 1000000 by omega)]
  rw [if_neg h8, if_neg (show ¬ w / 100 < 1000000 by omega)]
  by_cases h9 : w < 1000000000
  · rw [if_pos h9, if_pos (show w / 100 < 10000000 by omega)]
  rw [if_neg h9, if_neg (show ¬ w / 100 < 10000000 by omega)]
  rw [if_pos (show w / 100 < 100000000 by omega)]
theorem sb_negT {w : Nat} (h : w < 2 ^ 31) : (-nI w).toInt = -(w : Int) := by
  rw [Int32.toInt_neg, nI_toInt h]
  exact Int.bmod_eq_of_le (by omega) (by omega)
theorem sb_nle {a b : Nat} (ha : a < 2 ^ 31) (hb : b < 2 ^ 31) : -nI a ≤ -nI b ↔ b ≤ a := by
  rw [Int32.le_iff_toInt_le, sb_negT ha, sb_negT hb]
  omega
theorem sb_nlt {a b : Nat} (ha : a < 2 ^ 31) (hb : b < 2 ^ 31) : -nI a < -nI b ↔ b < a := by
  rw [Int32.lt_iff_toInt_lt, sb_negT ha, sb_negT hb]
  omega
theorem sb_cmp {A B : Prop} {x : Int32} (v c : Nat) (f : c ≤ v → A) (g : v < c → B) (hv : v < 2 ^ 31) (hx : x = -nI c := by rfl) (hc : c < 2 ^ 31 := by omega) : (-nI v ≤ x → A) ∧ (¬ -nI v ≤ x → B) := by
  subst hx
  rw [sb_nle hv hc]
  exact ⟨f, fun z => g (by omega)⟩
theorem sb_ndiv {w : Nat} (hw : w < 2 ^ 31) : (-nI w) / 100 = -nI (w / 100) := by
  apply Int32.toInt_inj.mp
  have h100 : (100 : Int32).toInt = 100 := by decide
  rw [Int32.toInt_div, sb_negT hw, h100, sb_negT (by omega), Int.neg_tdiv, Int.tdiv_eq_ediv_of_nonneg (by omega), Int.bmod_eq_of_le (by omega) (by omega)]
  omega
theorem sb_nrem {w : Nat} (hw : w < 2 ^ 31) : (-nI (w / 100)) * 100 - (-nI w) = nI (w % 100) := by
  have h := pk_rem (a := w) (d := 100) hw (by decide) (by decide)
  rw [pk_div hw (by decide) (by decide)] at h
  rw [← h]
  show (-nI (w / 100)) * nI 100 - (-nI w) = nI w - nI (w / 100) * nI 100
  rw [Int32.neg_mul, Int32.sub_neg, Int32.add_comm, ← Int32.sub_eq_add_neg]
end
section
/-! rows on bits, shifts and unsigned numbers, to paste: each family out of a closed proof of our own, whole with what it rests on; each by itself clean at Lean in its own claim (generation 39, form 5). Take a family whole -/
/-! ===== Int32 by its bits: bt x i ===== -/
def bt (x : Int32) (i : Nat) : Bool := x.toBitVec.getLsbD i
theorem b_ext {x y : Int32} (h : ∀ i, i < 32 → bt x i = bt y i) : x = y := Int32.toBitVec_inj.mp (BitVec.eq_of_getLsbD_eq (fun i hi => h i hi))
theorem b_or (x y : Int32) (i : Nat) : bt (x ||| y) i = (bt x i || bt y i) := by unfold bt; rw [Int32.toBitVec_or, BitVec.getLsbD_or]
theorem b_and (x y : Int32) (i : Nat) : bt (x &&& y) i = (bt x i && bt y i) := by unfold bt; rw [Int32.toBitVec_and, BitVec.getLsbD_and]
theorem b_xor (x y : Int32) (i : Nat) : bt (x ^^^ y) i = (bt x i ^^ bt y i) := by unfold bt; rw [Int32.toBitVec_xor, BitVec.getLsbD_xor]
theorem b_big {x : Int32} {i : Nat} (h : 32 ≤ i) : bt x i = false := BitVec.getLsbD_of_ge _ _ h
theorem b_255 (i : Nat) : bt 255 i = decide (i < 8) := by
  rcases Nat.lt_or_ge i 32 with h | h
  · exact (by decide +kernel : ∀ i, i < 32 → bt 255 i = decide (i < 8)) i h
  · rw [b_big h, decide_eq_false (by omega)]
theorem b_65535 (i : Nat) : bt 65535 i = decide (i < 16) := by
  rcases Nat.lt_or_ge i 32 with h | h
  · exact (by decide +kernel : ∀ i, i < 32 → bt 65535 i = decide (i < 16)) i h
  · rw [b_big h, decide_eq_false (by omega)]
theorem b_m1 : ∀ i, i < 32 → bt (-1) i = true := by decide +kernel
theorem b_0 (i : Nat) : bt 0 i = false := BitVec.getLsbD_zero
theorem s_l : ∀ n, n < 32 → ((nI n &&& 31).toBitVec.smod 32).toNat = n := by decide +kernel
theorem s_u : ∀ n, n < 32 → (((nI n).toUInt32 &&& Int32.toUInt32 31).toBitVec % 32).toNat = n := by decide +kernel
theorem b_shl (n : Nat) (hn : n < 32) (x : Int32) {i : Nat} (hi : i < 32) : bt (x <<< (nI n &&& 31)) i = (decide (n ≤ i) && bt x (i - n)) := by
  unfold bt
  rw [Int32.toBitVec_shiftLeft]
  show (x.toBitVec <<< ((nI n &&& 31).toBitVec.smod 32).toNat).getLsbD i = _
  rw [s_l n hn, BitVec.getLsbD_shiftLeft]
  rcases Nat.lt_or_ge i n with h | h
  · simp [h, Nat.not_le.mpr h]
  · simp [hi, h, Nat.not_lt.mpr h]
theorem b_ushr (n : Nat) (hn : n < 32) (x : Int32) (i : Nat) : bt ((x.toUInt32 >>> ((nI n).toUInt32 &&& Int32.toUInt32 31)).toInt32) i = bt x (n + i) := by
  show (x.toUInt32 >>> ((nI n).toUInt32 &&& Int32.toUInt32 31)).toBitVec.getLsbD i = x.toUInt32.toBitVec.getLsbD (n + i)
  rw [UInt32.toBitVec_shiftRight]
  show (x.toUInt32.toBitVec >>> (((nI n).toUInt32 &&& Int32.toUInt32 31).toBitVec % 32).toNat).getLsbD i = _
  rw [s_u n hn, BitVec.getLsbD_ushiftRight]
theorem b_sshr (n : Nat) (hn : n < 32) (x : Int32) {i : Nat} (hi : i < 32) : bt (x >>> (nI n &&& 31)) i = if n + i < 32 then bt x (n + i) else bt x 31 := by
  unfold bt
  rw [Int32.toBitVec_shiftRight]
  show (x.toBitVec.sshiftRight ((nI n &&& 31).toBitVec.smod 32).toNat).getLsbD i = _
  rw [s_l n hn, BitVec.getLsbD_sshiftRight, BitVec.msb_eq_getLsbD_last]
  simp [hi]
theorem b_shl8 (x : Int32) {i : Nat} (hi : i < 32) : bt (x <<< ((8 : Int32) &&& 31)) i = (decide (8 ≤ i) && bt x (i - 8)) := b_shl 8 (by omega) x hi
theorem b_shl16 (x : Int32) {i : Nat} (hi : i < 32) : bt (x <<< ((16 : Int32) &&& 31)) i = (decide (16 ≤ i) && bt x (i - 16)) := b_shl 16 (by omega) x hi
theorem b_shl24 (x : Int32) {i : Nat} (hi : i < 32) : bt (x <<< ((24 : Int32) &&& 31)) i = (decide (24 ≤ i) && bt x (i - 24)) := b_shl 24 (by omega) x hi
theorem b_sshr8 (x : Int32) {i : Nat} (hi : i < 32) : bt (x >>> ((8 : Int32) &&& 31)) i = if 8 + i < 32 then bt x (8 + i) else bt x 31 := b_sshr 8 (by omega) x hi
/-! ===== nI under and, xor, >>>, one bit, 65535 ===== -/
theorem nx_and (a b : Nat) : nI a &&& nI b = nI (a &&& b) := by
  apply Int32.toBitVec_inj.1
  show BitVec.ofNat 32 a &&& BitVec.ofNat 32 b = BitVec.ofNat 32 (a &&& b)
  apply BitVec.eq_of_getLsbD_eq
  intro i hi
  simp [hi]
theorem nx_xor (a b : Nat) : nI a ^^^ nI b = nI (a ^^^ b) := by
  apply Int32.toBitVec_inj.1
  show BitVec.ofNat 32 a ^^^ BitVec.ofNat 32 b = BitVec.ofNat 32 (a ^^^ b)
  apply BitVec.eq_of_getLsbD_eq
  intro i hi
  simp [hi]
theorem nx_cnt : ∀ j : Fin 32, (UInt32.ofNat j.val &&& Int32.toUInt32 31).toNat % 32 = j.val := by decide +kernel
theorem nx_ush {k j : Nat} (hk : k < 65536) (hj : j < 32) : ((nI k).toUInt32 >>> ((nI j).toUInt32 &&& Int32.toUInt32 31)).toInt32 = nI (k >>> j) := by
  have hs : k >>> j ≤ k := by
    rw [Nat.shiftRight_eq_div_pow]
    exact Nat.div_le_self _ _
  have e2 : UInt32.ofNat k >>> (UInt32.ofNat j &&& Int32.toUInt32 31) = UInt32.ofNat (k >>> j) := by
    apply UInt32.toNat_inj.1
    have h1 : (UInt32.ofNat k).toNat = k := Nat.mod_eq_of_lt (by omega)
    have h2 : (UInt32.ofNat (k >>> j)).toNat = k >>> j := Nat.mod_eq_of_lt (by omega)
    rw [UInt32.toNat_shiftRight, nx_cnt ⟨j, hj⟩, h1, h2]
  show (UInt32.ofNat k >>> (UInt32.ofNat j &&& Int32.toUInt32 31)).toInt32 = _
  rw [e2]
  rfl
theorem nx_bit {k j : Nat} (hk : k < 65536) (hj : j < 16) : (((nI k).toUInt32 >>> ((nI j).toUInt32 &&& Int32.toUInt32 31)).toInt32 &&& 1) = 0 ↔ k.testBit j = false := by
  rw [nx_ush hk (by omega)]
  show nI (k >>> j) &&& nI 1 = 0 ↔ _
  rw [nx_and, Nat.and_one_is_mod, ← nI_0, nI_eq (by omega) (by omega), Nat.testBit_eq_decide_div_mod_eq, Nat.shiftRight_eq_div_pow, decide_eq_false_iff_not]
  generalize k / 2 ^ j = z
  omega
theorem nx_mod (k : Nat) : nI k &&& 65535 = nI (k % 65536) := by
  show nI k &&& nI 65535 = _
  rw [nx_and, show (65535 : Nat) = 2 ^ 16 - 1 from rfl, Nat.and_two_pow_sub_one_eq_mod]
theorem nx_m16 {k : Nat} (h : k < 65536) : nI k &&& 65535 = nI k := by rw [nx_mod, Nat.mod_eq_of_lt h]
theorem nx_mask (x : Int32) : ∃ k, k < 65536 ∧ x &&& 65535 = nI k := by
  have e : x = nI x.toBitVec.toNat := by
    apply Int32.toBitVec_inj.1
    show x.toBitVec = BitVec.ofNat 32 x.toBitVec.toNat
    simp
  refine ⟨x.toBitVec.toNat % 65536, Nat.mod_lt _ (by omega), ?_⟩
  rw [← nx_mod, ← e]
/-! ===== Int32 as a set of bits: test, set ===== -/
def nf_M (m : Int32) : Nat := 4294967296 - m.toBitVec.toNat
theorem nf_sh : ∀ l, l < 32 → ((1 : Int32) <<< (nI l &&& 31)).toBitVec = BitVec.twoPow 32 l := by decide +kernel
theorem nf_sl : ∀ l, l < 32 → (((nI l).toUInt32 &&& Int32.toUInt32 31).toBitVec % 32).toNat = l := by decide +kernel
theorem nf_tp : ∀ l, l < 32 → BitVec.twoPow 32 l ≠ 0#32 := by decide +kernel
theorem nf_bit (m : Int32) (l : Nat) (hl : l < 32) : ((m.toUInt32 >>> ((nI l).toUInt32 &&& Int32.toUInt32 31)).toInt32 &&& 1) = 0 ↔ (m &&& ((1 : Int32) <<< (nI l &&& 31))) = 0 := by
  have e : ((m.toUInt32 >>> ((nI l).toUInt32 &&& Int32.toUInt32 31)).toInt32).toBitVec = m.toBitVec >>> l := by
    show m.toBitVec >>> (((nI l).toUInt32 &&& Int32.toUInt32 31).toBitVec % 32) = m.toBitVec >>> l
    rw [BitVec.ushiftRight_eq', nf_sl l hl]
  rw [← Int32.toBitVec_inj, ← Int32.toBitVec_inj, Int32.toBitVec_and, Int32.toBitVec_and, nf_sh l hl, e, BitVec.and_twoPow]
  show (m.toBitVec >>> l &&& 1#32) = 0#32 ↔ _ = 0#32
  rw [BitVec.and_one_eq_setWidth_ofBool_getLsbD, BitVec.getLsbD_ushiftRight, Nat.add_zero]
  cases hb : m.toBitVec.getLsbD l
  · exact ⟨fun _ => by simp, fun _ => by decide⟩
  · exact ⟨fun z => absurd z (by decide), fun z => absurd ((if_pos rfl).symm.trans z) (nf_tp l hl)⟩
theorem nf_gr (m k : Int32) (h : m &&& k = 0) (hk : k ≠ 0) : nf_M (m ||| k) < nf_M m := by
  have hm := m.toBitVec.isLt
  have hm' := (m ||| k).toBitVec.isLt
  have h1 : m.toBitVec.toNat ≤ (m ||| k).toBitVec.toNat := by
    rw [Int32.toBitVec_or, BitVec.toNat_or]
    exact Nat.left_le_or
  have h2 : m.toBitVec.toNat ≠ (m ||| k).toBitVec.toNat := by
    intro e
    have e2 : m = m ||| k := Int32.toBitVec_inj.mp (BitVec.eq_of_toNat_eq e)
    apply hk
    apply Int32.toBitVec_inj.mp
    show k.toBitVec = 0#32
    apply BitVec.eq_of_getLsbD_eq
    intro i hi
    have a : m.toBitVec.getLsbD i = (m.toBitVec.getLsbD i || k.toBitVec.getLsbD i) := by rw [← BitVec.getLsbD_or, ← Int32.toBitVec_or, ← e2]
    have b : (m.toBitVec.getLsbD i && k.toBitVec.getLsbD i) = false := by
      rw [← BitVec.getLsbD_and, ← Int32.toBitVec_and, h]
      exact BitVec.getLsbD_zero
    rw [BitVec.getLsbD_zero]
    revert a b
    cases m.toBitVec.getLsbD i <;> cases k.toBitVec.getLsbD i <;> simp
  unfold nf_M
  omega
/-! ===== a byte read unsigned ===== -/
theorem bp_b (x : Int32) : x.toInt8.toInt32 &&& 255 = x &&& 255 := by
  apply Int32.toBitVec_inj.mp
  rw [Int32.toBitVec_and, Int32.toBitVec_and, Int8.toBitVec_toInt32, Int32.toBitVec_toInt8]
  apply BitVec.eq_of_getLsbD_eq
  intro i hi
  rw [BitVec.getLsbD_and, BitVec.getLsbD_and]
  have hm : ∀ i < 32, 8 ≤ i → (255 : Int32).toBitVec.getLsbD i = false := by decide
  rcases Nat.lt_or_ge i 8 with z | z
  · rw [BitVec.getLsbD_signExtend, BitVec.getLsbD_signExtend, if_pos z, if_pos hi]
    simp only [z, hi, decide_true, Bool.true_and]
  · rw [hm i hi z]; simp
/-! ===== the char cast and 65535 ===== -/
theorem em_w (v : Int32) : ∃ w : Nat, w < 65536 ∧ (v.toUInt32 % 65536).toInt32 = nI w ∧ v &&& 65535 = nI w := by
  have hr := lw_u16_r v
  have h0 : (0 : Int32).toInt = 0 := by decide
  obtain ⟨w, h1, h2⟩ := nI_of (x := lw_u16 v) (by rw [Int32.lt_iff_toInt_lt]; omega)
  have h3 : (v.toUInt32 % 65536).toInt32 = nI w := h2
  rw [h2, nI_toInt h1] at hr
  exact ⟨w, by omega, h3, by rw [← lg_i2c_mask, ← lg_i2c_nf, h3]⟩
/-! ===== Int64 as a set of bits: test, set, clear ===== -/
theorem ts_nf {x : Bool} (h : ¬ x = false) : x = true := by cases x <;> first | rfl | exact absurd rfl h
theorem ts_nt {x : Bool} (h : ¬ x = true) : x = false := by cases x <;> first | rfl | exact absurd rfl h
theorem ts_bit {w : Int64} {s : UInt64} {j : Nat} (hj : j < 64) (hs : s.toNat = j) : ((w.toUInt64 >>> s).toInt64 &&& 1) = 0 ↔ w.toBitVec.getLsbD j = false := by
  have e : (w.toUInt64 >>> s).toInt64.toBitVec = w.toBitVec >>> j := by
    apply BitVec.eq_of_toNat_eq
    show (w.toUInt64 >>> s).toNat = _
    rw [UInt64.toNat_shiftRight, hs, Nat.mod_eq_of_lt hj, BitVec.toNat_ushiftRight]
    rfl
  rw [← Int64.toBitVec_inj, Int64.toBitVec_and, e]
  show w.toBitVec >>> j &&& 1#64 = 0#64 ↔ _
  constructor
  · intro h
    have t := congrArg (fun x => x.getLsbD 0) h
    simpa using t
  · intro h
    apply BitVec.eq_of_getLsbD_eq
    intro i hi
    cases i with
    | zero => simp [h]
    | succ i => simp
theorem ts_or {w m : Int64} {j : Nat} (hj : j < 64) (hm : m.toBitVec = BitVec.twoPow 64 j) : (w ||| m) = w ↔ w.toBitVec.getLsbD j = true := by
  rw [← Int64.toBitVec_inj, Int64.toBitVec_or, hm]
  constructor
  · intro h
    have t := congrArg (fun x => x.getLsbD j) h
    simp only [BitVec.getLsbD_or, BitVec.getLsbD_twoPow] at t
    simpa [hj] using t.symm
  · intro h
    apply BitVec.eq_of_getLsbD_eq
    intro i hi
    rw [BitVec.getLsbD_or, BitVec.getLsbD_twoPow]
    by_cases e : j = i
    · subst e; rw [h, Bool.true_or]
    · simp [e]
theorem ts_and {w m : Int64} {j : Nat} (hj : j < 64) (hm : m.toBitVec = BitVec.twoPow 64 j) : (w &&& (m ^^^ (-1))) = w ↔ w.toBitVec.getLsbD j = false := by
  have ha : (-1 : Int64).toBitVec = BitVec.allOnes 64 := by decide
  rw [← Int64.toBitVec_inj, Int64.toBitVec_and, Int64.toBitVec_xor, hm, ha]
  constructor
  · intro h
    have t := congrArg (fun x => x.getLsbD j) h
    simp only [BitVec.getLsbD_and, BitVec.getLsbD_xor, BitVec.getLsbD_twoPow, BitVec.getLsbD_allOnes] at t
    simpa [hj] using t.symm
  · intro h
    apply BitVec.eq_of_getLsbD_eq
    intro i hi
    rw [BitVec.getLsbD_and, BitVec.getLsbD_xor, BitVec.getLsbD_twoPow, BitVec.getLsbD_allOnes]
    by_cases e : j = i
    · subst e; rw [h, Bool.false_and]
    · simp [e, hi]
/-! ===== lN n to 2^64: shifts, and, or, masks, one bit ===== -/
theorem wb_tb (n : Nat) : (lN n).toBitVec = BitVec.ofNat 64 n := rfl
theorem wb_inj {a b : Int64} (h : a.toBitVec = b.toBitVec) : a = b := Int64.toBitVec_inj.mp h
theorem wb_tn {n : Nat} (h : n < 2 ^ 64) : (lN n).toBitVec.toNat = n := by rw [wb_tb, BitVec.toNat_ofNat, Nat.mod_eq_of_lt h]
theorem wb_of (x : Int64) : ∃ n, n < 2 ^ 64 ∧ x = lN n := ⟨x.toBitVec.toNat, x.toBitVec.isLt, wb_inj (by rw [wb_tb]; simp)⟩
theorem wb_of32 (x : Int32) : ∃ n, n < 2 ^ 32 ∧ x = nI n := ⟨x.toBitVec.toNat, x.toBitVec.isLt, Int32.toBitVec_inj.mp (by show _ = BitVec.ofNat 32 _; simp)⟩
theorem wb_c : ∀ k, k < 64 → ((nI k).toInt64 &&& 63) = lN k := by decide +kernel
theorem wb_cu : ∀ k, k < 64 → ((nI k).toInt64.toUInt64 &&& Int64.toUInt64 63) = UInt64.ofNat k := by decide +kernel
theorem wb_sm : ∀ k, k < 64 → (BitVec.ofNat 64 k).smod 64 = BitVec.ofNat 64 k := by decide +kernel
theorem wb_pw {a b : Nat} (h : a ≤ b) : 2 ^ b = 2 ^ a * 2 ^ (b - a) := by rw [← Nat.pow_add]; congr 1; omega
theorem wb_lt2 {a b : Nat} (h : a < b) : 2 ^ a < 2 ^ b := Nat.pow_lt_pow_right (by decide) h
theorem wb_mod (n : Nat) : lN n = lN (n % 2 ^ 64) := wb_inj (by rw [wb_tb, wb_tb]; apply BitVec.eq_of_toNat_eq; rw [BitVec.toNat_ofNat, BitVec.toNat_ofNat, Nat.mod_mod])
theorem wb_shr {n k : Nat} (hn : n < 2 ^ 64) (hk : k < 64) : ((lN n).toUInt64 >>> ((nI k).toInt64.toUInt64 &&& Int64.toUInt64 63)).toInt64 = lN (n / 2 ^ k) := by
  rw [wb_cu k hk]
  apply wb_inj
  apply BitVec.eq_of_toNat_eq
  show ((lN n).toUInt64 >>> UInt64.ofNat k).toNat = (BitVec.ofNat 64 _).toNat
  have h1 : (UInt64.ofNat k).toNat = k := by
    show (BitVec.ofNat 64 k).toNat = k
    rw [BitVec.toNat_ofNat, Nat.mod_eq_of_lt (by omega)]
  have h2 : (lN n).toUInt64.toNat = n := wb_tn hn
  rw [UInt64.toNat_shiftRight, h1, h2, Nat.mod_eq_of_lt hk, Nat.shiftRight_eq_div_pow, BitVec.toNat_ofNat, Nat.mod_eq_of_lt (Nat.lt_of_le_of_lt (Nat.div_le_self _ _) hn)]
theorem wb_shl (n : Nat) {k : Nat} (hk : k < 64) : lN n <<< ((nI k).toInt64 &&& 63) = lN (n * 2 ^ k) := by
  rw [wb_c k hk]
  apply wb_inj
  rw [Int64.toBitVec_shiftLeft, wb_tb, wb_tb, wb_tb, wb_sm k hk]
  apply BitVec.eq_of_toNat_eq
  rw [BitVec.shiftLeft_eq', BitVec.toNat_shiftLeft, BitVec.toNat_ofNat, BitVec.toNat_ofNat, BitVec.toNat_ofNat, Nat.mod_eq_of_lt (show k < 2 ^ 64 by omega), Nat.shiftLeft_eq, Nat.mul_mod, Nat.mod_mod, ← Nat.mul_mod]
theorem wb_and {a b : Nat} (ha : a < 2 ^ 64) (hb : b < 2 ^ 64) : lN a &&& lN b = lN (a &&& b) := by
  apply wb_inj
  rw [Int64.toBitVec_and, wb_tb, wb_tb, wb_tb]
  apply BitVec.eq_of_toNat_eq
  rw [BitVec.toNat_and, BitVec.toNat_ofNat, BitVec.toNat_ofNat, BitVec.toNat_ofNat, Nat.mod_eq_of_lt ha, Nat.mod_eq_of_lt hb, Nat.mod_eq_of_lt (Nat.and_lt_two_pow _ hb)]
theorem wb_or {a b : Nat} (ha : a < 2 ^ 64) (hb : b < 2 ^ 64) : lN a ||| lN b = lN (a ||| b) := by
  apply wb_inj
  rw [Int64.toBitVec_or, wb_tb, wb_tb, wb_tb]
  apply BitVec.eq_of_toNat_eq
  rw [BitVec.toNat_or, BitVec.toNat_ofNat, BitVec.toNat_ofNat, BitVec.toNat_ofNat, Nat.mod_eq_of_lt ha, Nat.mod_eq_of_lt hb, Nat.mod_eq_of_lt (Nat.or_lt_two_pow ha hb)]
theorem wb_mask {n k : Nat} (hn : n < 2 ^ 64) (hk : k < 64) : lN n &&& lN (2 ^ k - 1) = lN (n % 2 ^ k) := by
  rw [wb_and hn (by have := wb_lt2 hk; omega), Nat.and_two_pow_sub_one_eq_mod]
theorem wb_a1 {n : Nat} (hn : n < 2 ^ 64) : lN n &&& 1 = lN (n % 2) := wb_mask (k := 1) hn (by decide)
theorem wb_bit {n k : Nat} (hn : n < 2 ^ 64) (hk : k < 64) : ((lN n).toUInt64 >>> ((nI k).toInt64.toUInt64 &&& Int64.toUInt64 63)).toInt64 &&& 1 = lN (n / 2 ^ k % 2) := by
  rw [wb_shr hn hk, wb_a1 (Nat.lt_of_le_of_lt (Nat.div_le_self _ _) hn)]
theorem wb_xor {q k : Nat} (hk : k < 63) (h : 2 ^ k ≤ q) (h2 : q < 2 ^ (k + 1)) : lN q ^^^ lN (2 ^ k) = lN (q - 2 ^ k) := by
  obtain ⟨r, rfl⟩ : ∃ r, q = 2 ^ k + r := ⟨q - 2 ^ k, by omega⟩
  have hr : r < 2 ^ k := by rw [Nat.pow_succ] at h2; omega
  have hx : (2 ^ k + r) ^^^ 2 ^ k = r := by
    apply Nat.eq_of_testBit_eq
    intro i
    rw [Nat.testBit_xor, Nat.testBit_two_pow]
    rcases Nat.lt_trichotomy i k with h | h | h
    · rw [Nat.testBit_two_pow_add_gt h]
      simp [show ¬ k = i by omega]
    · subst h
      rw [Nat.testBit_two_pow_add_eq]
      simp
    · have a1 : 2 ^ (k + 1) ≤ 2 ^ i := Nat.pow_le_pow_right (by decide) h
      rw [Nat.testBit_lt_two_pow (show 2 ^ k + r < 2 ^ i by omega), Nat.testBit_lt_two_pow (show r < 2 ^ i by omega)]
      simp [show ¬ k = i by omega]
  have b1 := wb_lt2 (show k + 1 < 64 by omega)
  have b2 := wb_lt2 (show k < 64 by omega)
  apply wb_inj
  rw [Int64.toBitVec_xor, wb_tb, wb_tb, wb_tb]
  apply BitVec.eq_of_toNat_eq
  rw [BitVec.toNat_xor, BitVec.toNat_ofNat, BitVec.toNat_ofNat, BitVec.toNat_ofNat, Nat.mod_eq_of_lt (by omega : 2 ^ k + r < 2 ^ 64), Nat.mod_eq_of_lt b2, hx, Nat.add_sub_cancel_left, Nat.mod_eq_of_lt (by omega)]
/-! ===== lN: masks, 'or' of parts that don't overlap is a sum ===== -/
theorem u_tn {n : Nat} (h : n < 2 ^ 64) : (UInt64.ofNat n).toNat = n := Nat.mod_eq_of_lt h
theorem g_and {a b c : Nat} (ha : a < 2 ^ 64) (hb : b < 2 ^ 64) (hc : a &&& b = c) : lN a &&& lN b = lN c := by
  subst hc
  have h : UInt64.ofNat a &&& UInt64.ofNat b = UInt64.ofNat (a &&& b) := UInt64.toNat_inj.mp (by rw [UInt64.toNat_and, u_tn ha, u_tn hb, u_tn (Nat.and_lt_two_pow a hb)])
  have h2 := congrArg UInt64.toInt64 h
  exact h2
theorem g_and1 {a : Nat} (ha : a < 2 ^ 64) : lN a &&& 1 = lN (a % 2) := g_and (b := 1) ha (by decide) (Nat.and_two_pow_sub_one_eq_mod a 1)
theorem g_mask {a s p : Nat} (hp : 2 ^ s = p) (hs : s < 64) (ha : a < 2 ^ 64) : lN a &&& lN (p - 1) = lN (a % p) := by
  subst hp
  have := Nat.pow_lt_pow_right (show 1 < 2 by decide) hs
  exact g_and ha (by omega) (Nat.and_two_pow_sub_one_eq_mod a s)
theorem g_or {k p a b : Nat} (hp : 2 ^ k = p) (ha : a < p) (h : b * p + a < 2 ^ 64) : lN (b * p) ||| lN a = lN (b * p + a) := by
  subst hp
  have h1 : b * 2 ^ k ||| a = b * 2 ^ k + a := by rw [← Nat.shiftLeft_eq, Nat.shiftLeft_add_eq_or_of_lt ha]
  have h3 : UInt64.ofNat (b * 2 ^ k) ||| UInt64.ofNat a = UInt64.ofNat (b * 2 ^ k + a) := UInt64.toNat_inj.mp (by rw [UInt64.toNat_or, u_tn (by omega), u_tn (by omega), u_tn h, h1])
  have h2 := congrArg UInt64.toInt64 h3
  exact h2
theorem g_or' {k p a b : Nat} (hp : 2 ^ k = p) (ha : a < p) (h : a + b * p < 2 ^ 64) : lN a ||| lN (b * p) = lN (a + b * p) := by
  rw [Int64.or_comm, g_or hp ha (by omega), Nat.add_comm]
theorem g_ushr {a k p : Nat} {y : UInt64} (hy : y = UInt64.ofNat k) (hk : k < 64) (hp : 2 ^ k = p) (ha : a < 2 ^ 64) : ((lN a).toUInt64 >>> y).toInt64 = lN (a / p) := by
  subst hy hp
  have h : UInt64.ofNat a >>> UInt64.ofNat k = UInt64.ofNat (a / 2 ^ k) := UInt64.toNat_inj.mp (by rw [UInt64.toNat_shiftRight, u_tn ha, u_tn (by omega), u_tn (Nat.lt_of_le_of_lt (Nat.div_le_self _ _) ha), Nat.mod_eq_of_lt hk, Nat.shiftRight_eq_div_pow])
  have h2 := congrArg UInt64.toInt64 h
  exact h2
theorem g_shl {a k p : Nat} {y : Int64} (hy : y.toBitVec.smod 64 = BitVec.ofNat 64 k) (hk : k < 64) (hp : 2 ^ k = p) (ha : a < 2 ^ 64) : lN a <<< y = lN (a * p) := by
  subst hp
  apply Int64.toBitVec_inj.mp
  rw [Int64.toBitVec_shiftLeft, hy]
  apply BitVec.eq_of_toNat_eq
  have hb : (lN a).toBitVec.toNat = a := Nat.mod_eq_of_lt ha
  have hk' : (BitVec.ofNat 64 k).toNat = k := Nat.mod_eq_of_lt (by omega)
  have h : ((lN a).toBitVec <<< BitVec.ofNat 64 k).toNat = (a * 2 ^ k) % 2 ^ 64 := by simp only [BitVec.shiftLeft_eq', BitVec.toNat_shiftLeft, hb, hk', Nat.shiftLeft_eq]
  exact h
/-! ===== lN to 2^62 under >> and >>> ===== -/
theorem pf_lI {a : Nat} (h : a < 2 ^ 63) : (lN a).toInt = (a : Int) := lg_ofNat_toInt h
theorem pf_shr {a d : Nat} {D : Int64} (hD : (D.toBitVec.smod 64).toNat = d) (h : a < 2 ^ 62) : lN a >>> D = lN (a / 2 ^ d) := by
  have hd : a / 2 ^ d ≤ a := Nat.div_le_self _ _
  apply Int64.toInt_inj.mp
  have e : (lN a >>> D).toInt = (lN a).toInt >>> d := by
    rw [← hD]
    exact BitVec.toInt_sshiftRight ..
  rw [e, Int.shiftRight_eq_div_pow, pf_lI (by omega), pf_lI (by omega)]
  rfl
theorem pf_ushr {a d : Nat} {D : UInt64} (hD : D.toNat % 64 = d) (h : a < 2 ^ 62) : ((lN a).toUInt64 >>> D).toInt64 = lN (a / 2 ^ d) := by
  have hd : a / 2 ^ d ≤ a := Nat.div_le_self _ _
  have e : (lN a).toUInt64 >>> D = UInt64.ofNat (a / 2 ^ d) := UInt64.toNat_inj.mp (by
    rw [UInt64.toNat_shiftRight, hD, Nat.shiftRight_eq_div_pow, UInt64.toNat_ofNat']
    show (UInt64.ofNat a).toNat / 2 ^ d = _
    rw [UInt64.toNat_ofNat', Nat.mod_eq_of_lt (by omega), Nat.mod_eq_of_lt (by omega)])
  rw [e]
  rfl
theorem pf_andw (x : Int64) : ∃ m, m < 2 ^ 32 ∧ x &&& 4294967295 = lN m := ⟨x.toBitVec.toNat % 2 ^ 32, Nat.mod_lt _ (by decide), Int64.toBitVec_inj.mp (BitVec.eq_of_toNat_eq (by
  show (x.toBitVec &&& 4294967295#64).toNat = (BitVec.ofNat 64 (x.toBitVec.toNat % 2 ^ 32)).toNat
  rw [BitVec.toNat_and, show (4294967295#64).toNat = 2 ^ 32 - 1 from by decide, Nat.and_two_pow_sub_one_eq_mod, BitVec.toNat_ofNat]
  omega))⟩
/-! ===== Int64 as an unsigned number: uN x ===== -/
def uN (x : Int64) : Nat := x.toUInt64.toNat
theorem uN_lt (x : Int64) : uN x < 18446744073709551616 := x.toUInt64.toNat_lt
theorem uN_inj {x y : Int64} (h : uN x = uN y) : x = y := congrArg UInt64.toInt64 (UInt64.toNat_inj.mp h)
theorem uN_add (x y : Int64) : uN (x + y) = (uN x + uN y) % 18446744073709551616 := by
  show (x.toUInt64 + y.toUInt64).toNat = _
  exact UInt64.toNat_add _ _
theorem uN_mul (x y : Int64) : uN (x * y) = (uN x * uN y) % 18446744073709551616 := by
  show (x.toUInt64 * y.toUInt64).toNat = _
  exact UInt64.toNat_mul _ _
theorem uN_shl (x : Int64) : uN (x <<< ((1 : Int32).toInt64 &&& 63)) = (2 * uN x) % 18446744073709551616 := by
  have h : (((1 : Int32).toInt64 &&& 63).toBitVec.smod 64).toNat = 1 := by decide
  show (x.toBitVec <<< (((1 : Int32).toInt64 &&& 63).toBitVec.smod 64).toNat).toNat = _
  rw [h, BitVec.toNat_shiftLeft, Nat.shiftLeft_eq, Nat.mul_comm]
  rfl
theorem uN_shr (x : Int64) (s : UInt64) : uN (x.toUInt64 >>> s).toInt64 = uN x / 2 ^ (s.toNat % 64) := by
  show (x.toUInt64 >>> s).toNat = _
  rw [UInt64.toNat_shiftRight, Nat.shiftRight_eq_div_pow]
  rfl
theorem uN_s32 (x : Int64) : uN (x.toUInt64 >>> ((32 : Int32).toInt64.toUInt64 &&& Int64.toUInt64 63)).toInt64 = uN x / 4294967296 := by
  have h : ((32 : Int32).toInt64.toUInt64 &&& Int64.toUInt64 63).toNat % 64 = 32 := by decide
  rw [uN_shr, h]
theorem uN_s63 (x : Int64) : uN (x.toUInt64 >>> ((63 : Int32).toInt64.toUInt64 &&& Int64.toUInt64 63)).toInt64 = uN x / 9223372036854775808 := by
  have h : ((63 : Int32).toInt64.toUInt64 &&& Int64.toUInt64 63).toNat % 64 = 63 := by decide
  rw [uN_shr, h]
theorem uN_lo (x : Int64) : uN (x &&& 4294967295) = uN x % 4294967296 := by
  show (x.toUInt64 &&& Int64.toUInt64 4294967295).toNat = _
  rw [UInt64.toNat_and]
  exact Nat.and_two_pow_sub_one_eq_mod _ 32
theorem uN_bit (x : Int64) : (x &&& 1) = 0 ↔ uN x % 2 = 0 := by
  have h : uN (x &&& 1) = uN x % 2 := by
    show (x.toUInt64 &&& Int64.toUInt64 1).toNat = _
    rw [UInt64.toNat_and]
    exact Nat.and_two_pow_sub_one_eq_mod _ 1
  rw [← h]
  exact ⟨fun z => by rw [z]; rfl, fun z => uN_inj (z.trans rfl)⟩
theorem uN_or {x y : Int64} (hy : uN y < 2) : uN ((x <<< ((1 : Int32).toInt64 &&& 63)) ||| y) = (2 * uN x) % 18446744073709551616 + uN y := by
  have h1 : uN ((x <<< ((1 : Int32).toInt64 &&& 63)) ||| y) = uN (x <<< ((1 : Int32).toInt64 &&& 63)) ||| uN y := UInt64.toNat_or _ _
  have h2 : (2 * uN x) % 18446744073709551616 = 2 ^ 1 * (uN x % 9223372036854775808) := by omega
  rw [h1, uN_shl, h2]
  exact (Nat.two_pow_add_eq_or_of_lt (i := 1) hy _).symm
theorem nat_xor {a : Nat} (h : a < 18446744073709551616) : a ^^^ 2 ^ 63 = (a + 9223372036854775808) % 18446744073709551616 := by
  have h1 : (a ^^^ 2 ^ 63) % 2 ^ 63 = a % 2 ^ 63 := by rw [Nat.xor_mod_two_pow, Nat.mod_self, Nat.xor_zero]
  have h2 : (a ^^^ 2 ^ 63) / 2 ^ 63 = (a / 2 ^ 63) ^^^ 1 := by rw [Nat.xor_div_two_pow, Nat.div_self (Nat.two_pow_pos 63)]
  have h3 : a / 2 ^ 63 = 0 ∨ a / 2 ^ 63 = 1 := by omega
  generalize a ^^^ 2 ^ 63 = t at h1 h2
  rcases h3 with h3 | h3
  · rw [h3] at h2
    have h2 : t / 2 ^ 63 = 1 := h2
    omega
  · rw [h3] at h2
    have h2 : t / 2 ^ 63 = 0 := h2
    omega
theorem uN_xor (x : Int64) : uN (x ^^^ (-9223372036854775808)) = (uN x + 9223372036854775808) % 18446744073709551616 := by
  rw [← nat_xor (uN_lt x)]
  exact UInt64.toNat_xor _ _
theorem uN_int (x : Int64) : x.toInt = if 2 * uN x < 18446744073709551616 then (uN x : Int) else (uN x : Int) - 18446744073709551616 := BitVec.toInt_eq_toNat_cond _
theorem uN_le (x y : Int64) : (x ^^^ (-9223372036854775808)) ≤ (y ^^^ (-9223372036854775808)) ↔ uN x ≤ uN y := by
  have hx := uN_lt x
  have hy := uN_lt y
  rw [Int64.le_iff_toInt_le, uN_int, uN_int, uN_xor, uN_xor]
  omega
theorem uN_sk (x : Int64) {k : Nat} (hk : k < 64) : uN (x.toUInt64 >>> ((nI k).toInt64.toUInt64 &&& Int64.toUInt64 63)).toInt64 = uN x / 2 ^ k := by
  have h : ((nI k).toInt64.toUInt64 &&& Int64.toUInt64 63).toNat % 64 = k := by
    rw [nI_l (by omega), UInt64.toNat_and]
    have e : (lN k).toUInt64.toNat = k % 2 ^ 64 := rfl
    have e2 : (Int64.toUInt64 63).toNat = 2 ^ 6 - 1 := by decide
    rw [e, e2, Nat.and_two_pow_sub_one_eq_mod]
    omega
  rw [uN_shr, h]
/-! ===== unsigned comparison by xor with the least ===== -/
theorem lN_bv (n : Nat) : (lN n).toBitVec = BitVec.ofNat 64 n := rfl
theorem lN_nat {n : Nat} (h : n < 2 ^ 64) : (lN n).toBitVec.toNat = n := by rw [lN_bv, BitVec.toNat_ofNat]; exact Nat.mod_eq_of_lt h
theorem lN_xor (a b : Nat) : lN a ^^^ lN b = lN (a ^^^ b) := by
  apply Int64.toBitVec_inj.mp; rw [Int64.toBitVec_xor, lN_bv, lN_bv, lN_bv]; apply BitVec.eq_of_getLsbD_eq; intro i hi; simp [BitVec.getLsbD_ofNat, Nat.testBit_xor, hi]
theorem lN_ti {m : Nat} (h : m < 2 ^ 64) : (lN m).toInt = if m < 2 ^ 63 then (m : Int) else (m : Int) - 2 ^ 64 := by
  have c := BitVec.toInt_eq_toNat_cond (lN m).toBitVec
  rw [lN_nat h] at c
  show (lN m).toBitVec.toInt = _
  rw [c]
  split <;> split <;> omega
theorem xor63 {x : Nat} (h : x < 2 ^ 63) : x ^^^ 2 ^ 63 = 2 ^ 63 + x := by
  apply Nat.eq_of_testBit_eq
  intro i
  rw [Nat.testBit_xor, Nat.testBit_two_pow]
  rcases Nat.lt_trichotomy i 63 with z | z | z
  · rw [Nat.testBit_two_pow_add_gt z, decide_eq_false (by omega)]; simp
  · subst z; rw [Nat.testBit_two_pow_add_eq]; simp
  · have hp : 2 ^ 64 ≤ 2 ^ i := Nat.pow_le_pow_right (by decide) z
    rw [Nat.testBit_lt_two_pow (show x < 2 ^ i by omega), Nat.testBit_lt_two_pow (show 2 ^ 63 + x < 2 ^ i by omega), decide_eq_false (by omega)]; rfl
theorem xorS {a : Nat} (h : a < 2 ^ 64) : (lN a ^^^ (-9223372036854775808)).toInt = (a : Int) - 2 ^ 63 := by
  rw [show (-9223372036854775808 : Int64) = lN (2 ^ 63) from by decide +kernel, lN_xor]
  rcases Nat.lt_or_ge a (2 ^ 63) with z | z
  · rw [xor63 z, lN_ti (by omega), if_neg (by omega)]; omega
  · obtain ⟨x, rfl⟩ : ∃ x, a = 2 ^ 63 + x := ⟨a - 2 ^ 63, by omega⟩
    rw [← xor63 (by omega), Nat.xor_assoc, Nat.xor_self, Nat.xor_zero, lN_ti (by omega), if_pos (by omega), xor63 (by omega)]; omega
theorem ultL {a b : Nat} (ha : a < 2 ^ 64) (hb : b < 2 ^ 64) : ((lN b ^^^ (-9223372036854775808)) ≤ (lN a ^^^ (-9223372036854775808))) ↔ b ≤ a := by
  rw [Int64.le_iff_toInt_le, xorS ha, xorS hb]; omega
/-! ===== Int64 masks of n low bits ===== -/
theorem cr_bits (W U M : BitVec 64) : ((W &&& U) &&& (U &&& (M ^^^ BitVec.allOnes 64))) = 0#64 ↔ (W &&& U) &&& M = W &&& U := by
  constructor
  · intro h
    apply BitVec.eq_of_getLsbD_eq
    intro i hi
    have e := congrArg (fun x => BitVec.getLsbD x i) h
    simp only [BitVec.getLsbD_and, BitVec.getLsbD_xor, BitVec.getLsbD_allOnes, BitVec.getLsbD_zero, hi, decide_true] at e ⊢
    revert e
    cases W.getLsbD i <;> cases U.getLsbD i <;> cases M.getLsbD i <;> decide
  · intro h
    apply BitVec.eq_of_getLsbD_eq
    intro i hi
    have e := congrArg (fun x => BitVec.getLsbD x i) h
    simp only [BitVec.getLsbD_and, BitVec.getLsbD_xor, BitVec.getLsbD_allOnes, BitVec.getLsbD_zero, hi, decide_true] at e ⊢
    revert e
    cases W.getLsbD i <;> cases U.getLsbD i <;> cases M.getLsbD i <;> decide
theorem cr_mask (w U m : Int64) (n : Nat) (hm : m.toBitVec.toNat = 2 ^ n - 1) : ((w &&& U) &&& (U &&& (m ^^^ (-1)))) = 0 ↔ (w &&& U).toBitVec.toNat < 2 ^ n := by
  have e0 : (-1 : Int64).toBitVec = BitVec.allOnes 64 := by decide
  have z0 : (0 : Int64).toBitVec = 0#64 := by decide
  rw [← Int64.toBitVec_inj, z0, Int64.toBitVec_and, Int64.toBitVec_and, Int64.toBitVec_and, Int64.toBitVec_xor, e0, cr_bits]
  generalize w.toBitVec &&& U.toBitVec = T
  rw [← BitVec.toNat_inj, BitVec.toNat_and, hm, Nat.and_two_pow_sub_one_eq_mod]
  constructor
  · intro h
    have t := Nat.mod_lt T.toNat (Nat.two_pow_pos n)
    rw [h] at t
    exact t
  · exact Nat.mod_eq_of_lt
theorem cr_shr (t : Int64) (x : UInt64) (n : Nat) (hx : x.toNat % 64 = n) : (t.toUInt64 >>> x).toInt64 = 0 ↔ t.toBitVec.toNat < 2 ^ n := by
  rw [← Int64.toBitVec_inj, ← BitVec.toNat_inj]
  show (t.toUInt64 >>> x).toNat = 0 ↔ t.toUInt64.toNat < 2 ^ n
  rw [UInt64.toNat_shiftRight, hx, Nat.shiftRight_eq_div_pow]
  constructor
  · intro h
    have d : t.toUInt64.toNat / 2 ^ n < 1 := by
      rw [h]
      decide
    have e := (Nat.div_lt_iff_lt_mul (Nat.two_pow_pos n)).mp d
    rw [Nat.one_mul] at e
    exact e
  · exact Nat.div_eq_of_lt
theorem cr_amt (s : Int64) : ∃ n, n < 64 ∧ s &&& 63 = lN n ∧ (s.toUInt64 &&& Int64.toUInt64 63).toNat % 64 = n := by
  have e : (s.toUInt64 &&& Int64.toUInt64 63).toNat = s.toUInt64.toNat % 2 ^ 6 := by
    rw [UInt64.toNat_and, show (Int64.toUInt64 63).toNat = 2 ^ 6 - 1 from by decide, Nat.and_two_pow_sub_one_eq_mod]
  refine ⟨s.toUInt64.toNat % 2 ^ 6, by omega, ?_, by omega⟩
  rw [← Int64.toBitVec_inj, ← BitVec.toNat_inj]
  show (s.toUInt64 &&& Int64.toUInt64 63).toNat = (BitVec.ofNat 64 (s.toUInt64.toNat % 2 ^ 6)).toNat
  rw [e, BitVec.toNat_ofNat]
  omega
end
section
/-! numbers: zI, zL: an Int as an int, as a long; every sum is then a sum of Ints -/
def zI (z : Int) : Int32 := Int32.ofInt z
def zL (z : Int) : Int64 := Int64.ofInt z
/-- a difference of two numbers of 16 bits, as a short -/
def zo (z : Int) : Int := (z + 32768) % 65536 - 32768
theorem zI_nat (n : Nat) : zI n = nI n := Int32.ofInt_eq_ofNat
theorem zI_add (a b : Int) : zI a + zI b = zI (a + b) := (Int32.ofInt_add a b).symm
theorem zI_sub (a b : Int) : zI a - zI b = zI (a - b) := (Int32.ofInt_sub a b).symm
theorem zI_mul (a b : Int) : zI a * zI b = zI (a * b) := (Int32.ofInt_mul a b).symm
theorem zI_neg (a : Int) : -zI a = zI (-a) := (Int32.ofInt_neg a).symm
theorem zL_add (a b : Int) : zL a + zL b = zL (a + b) := (Int64.ofInt_add a b).symm
theorem zL_sub (a b : Int) : zL a - zL b = zL (a - b) := (Int64.ofInt_sub a b).symm
theorem zL_neg (a : Int) : -zL a = zL (-a) := (Int64.ofInt_neg a).symm
theorem zI_self (x : Int32) : zI x.toInt = x := Int32.ofInt_toInt x
theorem zL_self (x : Int64) : zL x.toInt = x := Int64.ofInt_toInt x
theorem zI_toInt {z : Int} (h : -2147483648 ≤ z ∧ z < 2147483648) : (zI z).toInt = z := Int32.toInt_ofInt_of_le h.1 h.2
theorem zL_toInt {z : Int} (h : -9223372036854775808 ≤ z ∧ z < 9223372036854775808) : (zL z).toInt = z := Int64.toInt_ofInt_of_le h.1 h.2
theorem zI_le {a b : Int} (h : -2147483648 ≤ a ∧ a < 2147483648 ∧ -2147483648 ≤ b ∧ b < 2147483648) : zI a ≤ zI b ↔ a ≤ b := by
  rw [Int32.le_iff_toInt_le, zI_toInt ⟨h.1, h.2.1⟩, zI_toInt h.2.2]
theorem zI_lt {a b : Int} (h : -2147483648 ≤ a ∧ a < 2147483648 ∧ -2147483648 ≤ b ∧ b < 2147483648) : zI a < zI b ↔ a < b := by
  rw [Int32.lt_iff_toInt_lt, zI_toInt ⟨h.1, h.2.1⟩, zI_toInt h.2.2]
theorem zI_eq {a b : Int} (h : -2147483648 ≤ a ∧ a < 2147483648 ∧ -2147483648 ≤ b ∧ b < 2147483648) : zI a = zI b ↔ a = b := by
  rw [← Int32.toInt_inj, zI_toInt ⟨h.1, h.2.1⟩, zI_toInt h.2.2]
theorem zL_le {a b : Int} (h : -9223372036854775808 ≤ a ∧ a < 9223372036854775808 ∧ -9223372036854775808 ≤ b ∧ b < 9223372036854775808) : zL a ≤ zL b ↔ a ≤ b := by
  rw [Int64.le_iff_toInt_le, zL_toInt ⟨h.1, h.2.1⟩, zL_toInt h.2.2]
theorem zL_lt {a b : Int} (h : -9223372036854775808 ≤ a ∧ a < 9223372036854775808 ∧ -9223372036854775808 ≤ b ∧ b < 9223372036854775808) : zL a < zL b ↔ a < b := by
  rw [Int64.lt_iff_toInt_lt, zL_toInt ⟨h.1, h.2.1⟩, zL_toInt h.2.2]
theorem zL_eq {a b : Int} (h : -9223372036854775808 ≤ a ∧ a < 9223372036854775808 ∧ -9223372036854775808 ≤ b ∧ b < 9223372036854775808) : zL a = zL b ↔ a = b := by
  rw [← Int64.toInt_inj, zL_toInt ⟨h.1, h.2.1⟩, zL_toInt h.2.2]
theorem zI_cl {z : Int} (h : -2147483648 ≤ z ∧ z < 2147483648) : (zI z).toNatClampNeg = z.toNat := Int32.toNatClampNeg_ofInt_of_le h.1 h.2
theorem zI_in {z : Int} {n : Nat} (h : 0 ≤ z ∧ z < n ∧ n < 2147483648) : vp_in (zI z) n := by
  rw [vp_in_iff, zI_toInt (by omega)]; omega
theorem zI_i (z : Int) : (zL z).toInt32 = zI z := Int64.toInt32_ofInt
theorem zI_l {z : Int} (h : -2147483648 ≤ z ∧ z < 2147483648) : (zI z).toInt64 = zL z := by
  rw [← Int64.toInt_inj, Int32.toInt_toInt64, zI_toInt h, zL_toInt (by omega)]
theorem zI_16 (z : Int) : (zI z).toInt16.toInt32 = zI (zo z) := by
  rw [← Int32.toInt_inj, Int16.toInt_toInt32, show zI z = Int32.ofInt z from rfl, Int32.toInt16_ofInt, Int16.toInt_ofInt, zI_toInt (by unfold zo; omega)]
  unfold zo
  rw [Int.bmod_def]
  rw [show (Int16.size : Int) = 65536 from rfl]
  split <;> omega
theorem zI_8 {z : Int} (h : -128 ≤ z ∧ z < 128) : (zI z).toInt8.toInt32 = zI z := by
  rw [← Int32.toInt_inj, Int8.toInt_toInt32, show zI z = Int32.ofInt z from rfl, Int32.toInt8_ofInt, Int8.toInt_ofInt, show Int32.ofInt z = zI z from rfl, zI_toInt (by omega)]
  rw [Int.bmod_def]
  rw [show (Int8.size : Int) = 256 from rfl]
  split <;> omega
theorem zI_n8 {z : Int} (h : -128 ≤ z ∧ z < 128) : vp_nar .byte (zI z) = zI z := by rw [vp_nar_byte, zI_8 h]
theorem zI_nb0 : vp_nar .boolean (zI 0) = zI 0 := by decide
theorem zI_nb1 : vp_nar .boolean (zI 1) = zI 1 := by decide
theorem zI_tb (z : Int) : (zI z).toBitVec.toNat = (z % 4294967296).toNat := by
  show (BitVec.ofInt 32 z).toNat = _
  rw [BitVec.toNat_ofInt]; rfl
theorem zI_mask (z : Int) (m : Int) (k : Nat) (hm : (zI m).toBitVec.toNat = 2 ^ k - 1) (h : ((z % 4294967296).toNat % 2 ^ k : Nat) = z % (2 ^ k : Nat)) : zI z &&& zI m = zI (z % (2 ^ k : Nat)) := by
  rw [pk_and (zI z) k hm, zI_tb, ← h, zI_nat]
theorem zI_m16 (z : Int) : zI z &&& zI 65535 = zI (z % 65536) := zI_mask z 65535 16 (by decide) (by omega)
theorem zI_m8 (z : Int) : zI z &&& zI 255 = zI (z % 256) := zI_mask z 255 8 (by decide) (by omega)
theorem zI_m5 (z : Int) : zI z &&& zI 31 = zI (z % 32) := zI_mask z 31 5 (by decide) (by omega)
theorem zI_m1 (z : Int) : zI z &&& zI 1 = zI (z % 2) := zI_mask z 1 1 (by decide) (by omega)
theorem zL_m6 (z : Int) : zL z &&& zL 63 = zL (z % 64) := by
  have e : zL 63 = lN (2 ^ 6 - 1) := rfl
  have f : zL z = lN (z % 18446744073709551616).toNat := by
    have h1 : (lN (z % 18446744073709551616).toNat) = zL ((z % 18446744073709551616).toNat : Nat) := Int64.ofInt_eq_ofNat.symm
    rw [h1, Int.toNat_of_nonneg (by omega)]
    show Int64.ofInt z = Int64.ofInt _
    rw [Int64.ofInt_eq_iff_bmod_eq_toInt, Int64.toInt_ofInt]
    show Int.bmod z (2^64) = Int.bmod (z % 18446744073709551616) (2^64)
    rw [Int.bmod_def, Int.bmod_def]
    have : ((2^64 : Nat) : Int) = 18446744073709551616 := rfl
    split <;> split <;> omega
  rw [f, e, wb_mask (by omega) (by decide)]
  rw [show lN ((z % 18446744073709551616).toNat % 2 ^ 6) = zL (((z % 18446744073709551616).toNat % 2 ^ 6 : Nat) : Int) from Int64.ofInt_eq_ofNat.symm]
  congr 1
  omega
theorem zI_div {a b : Int} (h : 0 ≤ a ∧ a < 2147483648 ∧ 0 < b ∧ b < 2147483648) : zI a / zI b = zI (a / b) := by
  obtain ⟨n, rfl⟩ := Int.eq_ofNat_of_zero_le h.1
  obtain ⟨m, rfl⟩ := Int.eq_ofNat_of_zero_le (Int.le_of_lt h.2.2.1)
  rw [zI_nat, zI_nat, pk_div (by omega) (by omega) (by omega), ← zI_nat]; rfl
theorem fl_1 {f : Int} (h : 0 ≤ f ∧ f < 16) : zI f &&& zI 1 = zI (f % 2) := zI_m1 f
theorem fl_all : ∀ f : Fin 16, zI (f.val : Int) &&& zI 2 = zI ((f.val : Int) / 2 % 2 * 2) ∧ zI (f.val : Int) &&& zI 4 = zI ((f.val : Int) / 4 % 2 * 4) ∧ zI (f.val : Int) &&& zI 8 = zI ((f.val : Int) / 8 % 2 * 8) ∧ zI (f.val : Int) >>> zI 2 = zI ((f.val : Int) / 4) := by decide
theorem fl_2 {f : Int} (h : 0 ≤ f ∧ f < 16) : zI f &&& zI 2 = zI (f / 2 % 2 * 2) := by
  obtain ⟨n, rfl⟩ := Int.eq_ofNat_of_zero_le h.1
  exact (fl_all ⟨n, by omega⟩).1
theorem fl_4 {f : Int} (h : 0 ≤ f ∧ f < 16) : zI f &&& zI 4 = zI (f / 4 % 2 * 4) := by
  obtain ⟨n, rfl⟩ := Int.eq_ofNat_of_zero_le h.1
  exact (fl_all ⟨n, by omega⟩).2.1
theorem fl_8 {f : Int} (h : 0 ≤ f ∧ f < 16) : zI f &&& zI 8 = zI (f / 8 % 2 * 8) := by
  obtain ⟨n, rfl⟩ := Int.eq_ofNat_of_zero_le h.1
  exact (fl_all ⟨n, by omega⟩).2.2.1
theorem fl_s {f : Int} (h : 0 ≤ f ∧ f < 16) : zI f >>> zI 2 = zI (f / 4) := by
  obtain ⟨n, rfl⟩ := Int.eq_ofNat_of_zero_le h.1
  exact (fl_all ⟨n, by omega⟩).2.2.2
theorem zo_id {z : Int} (h : -32768 ≤ z ∧ z < 32768) : zo z = z := by unfold zo; omega
theorem zo_pos {i p q : Int} (h : -32768 ≤ p - q ∧ p - q < 32768) : zo ((i + p) % 65536 - (i + q) % 65536) = p - q := by unfold zo; omega
theorem zo_r (z : Int) : -32768 ≤ zo z ∧ zo z < 32768 := by unfold zo; omega
theorem zm_eq {i p q : Int} (h : -65536 < p - q ∧ p - q < 65536) : (i + p) % 65536 = (i + q) % 65536 ↔ p = q := by omega
theorem zm_add (i p q : Int) : ((i + p) % 65536 + q) % 65536 = (i + (p + q)) % 65536 := by omega
theorem zm_sub (i p q : Int) : ((i + p) % 65536 - q) % 65536 = (i + (p - q)) % 65536 := by omega
/-! literals -/
theorem zl_0 : (0 : Int32) = zI 0 := rfl
theorem zl_1 : (1 : Int32) = zI 1 := rfl
theorem zl_2 : (2 : Int32) = zI 2 := rfl
theorem zl_3 : (3 : Int32) = zI 3 := rfl
theorem zl_4 : (4 : Int32) = zI 4 := rfl
theorem zl_5 : (5 : Int32) = zI 5 := rfl
theorem zl_6 : (6 : Int32) = zI 6 := rfl
theorem zl_7 : (7 : Int32) = zI 7 := rfl
theorem zl_8 : (8 : Int32) = zI 8 := rfl
theorem zl_9 : (9 : Int32) = zI 9 := rfl
theorem zl_10 : (10 : Int32) = zI 10 := rfl
theorem zl_11 : (11 : Int32) = zI 11 := rfl
theorem zl_12 : (12 : Int32) = zI 12 := rfl
theorem zl_13 : (13 : Int32) = zI 13 := rfl
theorem zl_15 : (15 : Int32) = zI 15 := rfl
theorem zl_16 : (16 : Int32) = zI 16 := rfl
theorem zl_20 : (20 : Int32) = zI 20 := rfl
theorem zl_24 : (24 : Int32) = zI 24 := rfl
theorem zl_31 : (31 : Int32) = zI 31 := rfl
theorem zl_32 : (32 : Int32) = zI 32 := rfl
theorem zl_56 : (56 : Int32) = zI 56 := rfl
theorem zl_64 : (64 : Int32) = zI 64 := rfl
theorem zl_255 : (255 : Int32) = zI 255 := rfl
theorem zl_1000 : (1000 : Int32) = zI 1000 := rfl
theorem zl_32767 : (32767 : Int32) = zI 32767 := rfl
theorem zl_65535 : (65535 : Int32) = zI 65535 := rfl
theorem zl_65536 : (65536 : Int32) = zI 65536 := rfl
theorem zk_0 : (0 : Int64) = zL 0 := rfl
theorem zk_1 : (1 : Int64) = zL 1 := rfl
theorem zk_2 : (2 : Int64) = zL 2 := rfl
theorem zk_8 : (8 : Int64) = zL 8 := rfl
theorem zk_63 : (63 : Int64) = zL 63 := rfl
theorem zk_255 : (255 : Int64) = zL 255 := rfl
end
section
/-! the relation: views of an end, invariants -/
/-- a ring of n cells of end e -/
def rg (n : Int) (e : Nat) (a : Nat → Int32) (z : Int) : Int32 := a ((n * e + z % n).toNat)
def nf (i p : Int) : Int := if p < 0 then -1 else (i + p) % 65536
theorem nf_p {i p : Int} (h : 0 ≤ p) : nf i p = (i + p) % 65536 := if_neg (by omega)
theorem nf_n {i p : Int} (h : p < 0) : nf i p = -1 := if_pos h
theorem nf_r (i p : Int) : -1 ≤ nf i p ∧ nf i p < 65536 := by unfold nf; split <;> omega
theorem nf_s {i p : Int} : nf i p < 0 ↔ p < 0 := by unfold nf; split <;> omega
theorem nf_s' {i p : Int} : 0 ≤ nf i p ↔ 0 ≤ p := by unfold nf; split <;> omega

/-- status -/
def E1 (st er tr cl : Int) : Prop := (0 ≤ st ∧ st ≤ 10) ∧ (0 ≤ er ∧ er ≤ 2 ∧ (st ≠ 0 → er = 0)) ∧ (0 ≤ tr ∧ tr ≤ 5) ∧ (0 ≤ cl ∧ cl ≤ 1) ∧ (st ≤ 4 ∨ st = 7 → cl = 0) ∧ (st = 5 ∨ st = 6 ∨ 8 ≤ st → cl = 1)
/-- its own positions -/
def E2 (L st iss una nxt mx la cl tm : Int) : Prop := (0 ≤ iss ∧ iss ≤ 65535) ∧ (0 ≤ una ∧ 1 ≤ la ∧ la ≤ L ∧ L ≤ 1099511627776) ∧ (st = 1 → una = 0 ∧ nxt = 0 ∧ mx = 0) ∧ (st < 2 → la = 1 ∧ una ≤ 1 ∧ tm = -1) ∧ (2 ≤ st → una ≤ nxt ∧ nxt ≤ mx ∧ mx ≤ la + cl ∧ la ≤ una + 33 ∧ (1 ≤ una → la ≤ una + 32)) ∧ (st = 2 ∨ st = 3 → una = 0 ∧ nxt = 1 ∧ mx = 1) ∧ (4 ≤ st → 1 ≤ una) ∧ (st = 6 ∨ st = 10 → una = mx) ∧ (tm = -1 ∨ una ≤ tm ∧ tm < mx)
/-- what came -/
def E3 (L st irs rcv fi un fst : Int) : Prop := (0 ≤ irs ∧ irs ≤ 65535) ∧ (0 ≤ rcv ∧ rcv ≤ L) ∧ (0 ≤ un ∧ un ≤ 24) ∧ (0 ≤ fst ∧ fst ≤ 65535) ∧ (fi = -1 ∨ 4 ≤ st ∧ st ≤ 6 ∧ rcv ≤ fi ∧ fi < rcv + 24 - un) ∧ (3 ≤ st → 1 ≤ rcv) ∧ (3 ≤ st ∧ st ≤ 6 → (fst + un) % 65536 = (irs + rcv) % 65536) ∧ (1 ≤ st ∧ st ≤ 3 → un = 0)
/-- windows -/
def E4 (wnd pk hf rto : Int) : Prop := (0 ≤ wnd ∧ wnd ≤ 24) ∧ (8 ≤ pk ∧ pk ≤ 64) ∧ (8 ≤ hf ∧ hf ≤ 64) ∧ (2 ≤ rto ∧ rto ≤ 64)
/-- times -/
def E5 (now st sa smo si rt wt rs nr nw ns : Int) : Prop := (0 ≤ now ∧ now ≤ 33554432) ∧ (0 ≤ sa ∧ sa ≤ 1) ∧ (sa = 1 → 0 ≤ smo ∧ smo ≤ 8 * now) ∧ (0 ≤ si ∧ si ≤ now) ∧ (rt = -1 ∨ nr ≤ rt ∧ rt ≤ now + 64) ∧ (wt = -1 ∨ nw ≤ wt ∧ wt ≤ now + 2) ∧ (rs = -1 ∨ ns ≤ rs ∧ rs ≤ now + 20) ∧ (st < 2 → rt = -1 ∧ rs = -1) ∧ (st ≤ 3 → wt = -1) ∧ (0 ≤ nr ∧ nr ≤ now + 1 ∧ 0 ≤ nw ∧ nw ≤ now + 1 ∧ 0 ≤ ns ∧ ns ≤ now + 1)
/-- bytes written -/
def EK (iss una la : Int) (kr wr : Int → Int32) : Prop := ∀ p : Int, 1 ≤ p → una ≤ p → p < la → wr p = kr (iss + p) &&& 255
/-- unread bytes -/
def EC (un fst : Int) (cm by_ : Int → Int32) : Prop := ∀ j : Int, 0 ≤ j → j < un → by_ j = cm (fst + j) &&& 255
/-- held bytes -/
def EH (st rcv un fst : Int) (hd : Int32) (cm mk hl : Int → Int32) : Prop :=
  (∀ i : Nat, 24 - un ≤ (i : Int) → bt hd i = false) ∧ (∀ z : Int, 0 ≤ z → z < 64 → mk (rcv + z) = if bt hd z.toNat = true then zI 1 else zI 0) ∧
  (∀ z : Int, 0 ≤ z → bt hd z.toNat = true → hl (rcv + z) = cm (fst + un + z) &&& 255) ∧ (st < 4 ∨ 7 ≤ st → hd = zI 0)
/-- one segment, in a slot s of X's and a place k of Y's -/
def SG (q f a w n : Int) (s k : Int) (sq sa sf sw sl : Int → Int32) (sb : Int → Int32) (yq yf ya yw yl : Int → Int32) (yd : Int → Int32) : Prop :=
  (sq s = zI q ∧ yq k = zI q ∧ 0 ≤ q ∧ q ≤ 65535) ∧ (sf s = zI f ∧ yf k = zI f ∧ 0 ≤ f ∧ f < 16) ∧ (sa s = zI a ∧ ya k = zI a ∧ 0 ≤ a ∧ a ≤ 65535 ∧ (f / 2 % 2 = 0 → a = 0)) ∧
  (sw s = zI w ∧ yw k = zI w ∧ 0 ≤ w ∧ w ≤ 24) ∧ (sl s = zI n ∧ yl k = zI n ∧ 0 ≤ n ∧ n ≤ 8) ∧ (∀ y : Int, 0 ≤ y → y < n → yd (8 * k + y) = sb (8 * s + y) &&& 255)
/-- the segments of a row, by Y's places; sg: X's slots -/
def ES (m : Nat) (sg : Nat → Nat) (tk : Int32) (sq sa sf sw sl : Int → Int32) (sb : Int → Int32) (yq yf ya yw yl : Int → Int32) (yd : Int → Int32) : Prop :=
  m ≤ 16 ∧ (∀ i, i < m → sg i < 16) ∧ (∀ i j, i < m → j < m → sg i = sg j → i = j) ∧ (∀ k : Nat, bt tk k = true ↔ ∃ i, i < m ∧ sg i = k) ∧
  (∀ i, i < m → ∃ q f a w n : Int, SG q f a w n (sg i) i sq sa sf sw sl sb yq yf ya yw yl yd)
/-- X's row -/
def ER (e : Nat) (m : Nat) (sg : Nat → Nat) (mn : Int32) (rw_ : Int → Int32) : Prop := mn = zI m ∧ ∀ i : Nat, i < m → rw_ i = zI (16 * e + sg i)
def EW (e : Nat) (sq sa sf sw sl : Int → Int32) (sb rw_ : Int → Int32) (mn tk : Int32) (yq yf ya yw yl : Int → Int32) (yd : Int → Int32) (rws : Int32) : Prop :=
  ∃ (m : Nat) (sg : Nat → Nat), rws = zI m ∧ ER e m sg mn rw_ ∧ ES m sg tk sq sa sf sw sl sb yq yf ya yw yl yd

section
abbrev VX : Type := Int32 × Int32 × Int32 × Int32 × Int32 × Int32 × Int32 × Int32 × Int32 × Int32 × (Int → Int32) × Int32 × Int32 × Int32 × Int32 × Int32 × (Int → Int32) × Int32 × Int32 × Int32 × Int32 × Int32 × Int32 × Int32 × Int32 × Int32 × Int32 × Int32 × Int32 × Int32 × Int32 × Int32 × Int32 × (Int → Int32) × (Int → Int32) × (Int → Int32) × (Int → Int32) × (Int → Int32) × (Int → Int32) × (Int → Int32) × Int32 × Int32
abbrev VY : Type := Int32 × (Int → Int32) × (Int → Int32) × (Int → Int32) × (Int → Int32) × (Int → Int32) × (Int → Int32) × Int32 × Int32 × Int32 × Int32 × Int64 × Int64 × Int64 × Int64 × Int32 × (Int → Int32) × Int32 × Int32 × (Int → Int32) × (Int → Int32) × Int64 × Int64 × (Int → Int32) × Int32 × Int32 × Int32 × Int32 × Int32 × Int32 × Int32 × Int32 × Int32 × Int32 × Int32 × Int32 × Int32 × Int32 × Int32 × Int32 × Int64
def vX (e : Nat) (u : SX) : VX := match u with
  | (f_now, f_sent, a_state, a_error, a_tries, a_iss, a_una, a_nxt, a_max, a_last, a_closing, a_kept, a_rcv, a_first, a_held, a_fin, a_unread, a_came, a_ended, a_wnd, a_peak, a_half, a_same, a_setBy, a_setAt, a_isSet, a_rto, a_smooth, a_spread, a_timed, a_since, a_retry, a_waits, a_rest, a_segSeq, a_segAck, a_segFlags, a_segWindow, a_segLength, a_segBytes, a_row, a_many, a_taken) => (f_now, a_state e, a_error e, a_tries e, a_iss e, a_una e, a_nxt e, a_max e, a_last e, a_closing e, rg 32 e a_kept, a_rcv e, a_first e, a_held e, a_fin e, a_unread e, rg 32 e a_came, a_ended e, a_wnd e, a_peak e, a_half e, a_same e, a_setBy e, a_setAt e, a_isSet e, a_rto e, a_smooth e, a_spread e, a_timed e, a_since e, a_retry e, a_waits e, a_rest e, rg 16 e a_segSeq, rg 16 e a_segAck, rg 16 e a_segFlags, rg 16 e a_segWindow, rg 16 e a_segLength, rg 128 e a_segBytes, rg 16 e a_row, a_many e, a_taken e)
def vY (e : Nat) (v : SY) : VY := match v with
  | (g_now, g_sent, b_seq, b_flags, b_acked, b_window, b_many, b_data, b_rows, b_state, b_error, b_iss, b_una, b_nxt, b_max, b_last, b_closed, b_written, b_irs, b_unread, b_bytes, b_held, b_rcv, b_finAt, b_marked, b_wnd, b_peak, b_half, b_rto, b_same, b_tries, b_smooth, b_spread, b_byNumber, b_byAck, b_sampled, b_told, b_retry, b_ackAt, b_waitAt, b_timedAt, b_timed) => (g_now, rg 16 e b_seq, rg 16 e b_flags, rg 16 e b_acked, rg 16 e b_window, rg 16 e b_many, rg 128 e b_data, b_rows e, b_state e, b_error e, b_iss e, b_una e, b_nxt e, b_max e, b_last e, b_closed e, rg 64 e b_written, b_irs e, b_unread e, rg 24 e b_bytes, rg 64 e b_held, b_rcv e, b_finAt e, rg 64 e b_marked, b_wnd e, b_peak e, b_half e, b_rto e, b_same e, b_tries e, b_smooth e, b_spread e, b_byNumber e, b_byAck e, b_sampled e, b_told e, b_retry e, b_ackAt e, b_waitAt e, b_timedAt e, b_timed e)
def RV (e : Nat) (L now st er tr iss una nxt mx la cl irs rcv fi un fst wnd pk hf rto sa smo tm si rt wt rs nr nw ns : Int) (x : VX) (y : VY) : Prop := match x, y with
  | (f_now, a_state, a_error, a_tries, a_iss, a_una, a_nxt, a_max, a_last, a_closing, a_kept, a_rcv, a_first, a_held, a_fin, a_unread, a_came, a_ended, a_wnd, a_peak, a_half, a_same, a_setBy, a_setAt, a_isSet, a_rto, a_smooth, a_spread, a_timed, a_since, a_retry, a_waits, a_rest, a_segSeq, a_segAck, a_segFlags, a_segWindow, a_segLength, a_segBytes, a_row, a_many, a_taken), (g_now, b_seq, b_flags, b_acked, b_window, b_many, b_data, b_rows, b_state, b_error, b_iss, b_una, b_nxt, b_max, b_last, b_closed, b_written, b_irs, b_unread, b_bytes, b_held, b_rcv, b_finAt, b_marked, b_wnd, b_peak, b_half, b_rto, b_same, b_tries, b_smooth, b_spread, b_byNumber, b_byAck, b_sampled, b_told, b_retry, b_ackAt, b_waitAt, b_timedAt, b_timed) => f_now = zI now ∧
  g_now = zI now ∧
  a_state = zI st ∧
  a_error = zI er ∧
  (st ≠ 0 → a_tries = zI tr) ∧
  a_iss = zI iss ∧
  (2 ≤ st → a_una = zI ((iss + una) % 65536)) ∧
  (2 ≤ st → a_nxt = zI ((iss + nxt) % 65536)) ∧
  (2 ≤ st → a_max = zI ((iss + mx) % 65536)) ∧
  (1 ≤ st → a_last = zI ((iss + la) % 65536)) ∧
  (1 ≤ st → a_closing = zI cl) ∧
  (1 ≤ st → a_rcv = zI ((irs + rcv) % 65536)) ∧
  a_first = zI fst ∧
  a_fin = zI (nf irs fi) ∧
  a_unread = zI un ∧
  (st ≠ 0 → a_ended = zI (if 6 < st then 1 else 0)) ∧
  a_wnd = zI wnd ∧
  a_peak = zI pk ∧
  a_half = zI hf ∧
  a_rto = zI rto ∧
  (st ≠ 0 → a_same = b_same) ∧
  a_setBy = b_byNumber ∧
  a_setAt = b_byAck ∧
  a_isSet = b_told ∧
  a_smooth = zI (if sa = 0 then -1 else smo) ∧
  (sa ≠ 0 → a_spread = b_spread) ∧
  a_timed = zI (nf iss tm) ∧
  a_since = zI si ∧
  a_retry = zI rt ∧
  a_waits = zI wt ∧
  a_rest = zI rs ∧
  b_state = zI st ∧
  b_error = zI er ∧
  b_tries = zI tr ∧
  b_iss = zI iss ∧
  b_una = zL una ∧
  b_nxt = zL nxt ∧
  b_max = zL mx ∧
  b_last = zL la ∧
  b_closed = zI cl ∧
  b_irs = zI irs ∧
  b_rcv = zL rcv ∧
  b_finAt = zL fi ∧
  b_unread = zI un ∧
  b_wnd = zI wnd ∧
  b_peak = zI pk ∧
  b_half = zI hf ∧
  b_rto = zI rto ∧
  b_sampled = zI sa ∧
  b_smooth = zI smo ∧
  b_timed = zL tm ∧
  b_timedAt = zI si ∧
  b_retry = zI rt ∧
  b_ackAt = zI wt ∧
  b_waitAt = zI rs ∧
  E1 st er tr cl ∧
  E3 L st irs rcv fi un fst ∧
  E4 wnd pk hf rto ∧
  E5 now st sa smo si rt wt rs nr nw ns ∧
  EK iss una la a_kept b_written ∧
  EC un fst a_came b_bytes ∧
  EH st rcv un fst a_held a_came b_marked b_held ∧
  EW e a_segSeq a_segAck a_segFlags a_segWindow a_segLength a_segBytes a_row a_many a_taken b_seq b_flags b_acked b_window b_many b_data b_rows
/-- the two states of an end agree -/
def RE (e : Nat) (L now st er tr iss una nxt mx la cl irs rcv fi un fst wnd pk hf rto sa smo tm si rt wt rs nr nw ns : Int) (u : SX) (v : SY) : Prop := RV e L now st er tr iss una nxt mx la cl irs rcv fi un fst wnd pk hf rto sa smo tm si rt wt rs nr nw ns (vX e u) (vY e v)
variable {e : Nat} {L now : Int} {st er tr iss una nxt mx la cl irs rcv fi un fst wnd pk hf rto sa smo tm si rt wt rs nr nw ns : Int} {f_now f_sent : Int32} {a_state a_error a_tries a_iss a_una a_nxt a_max a_last a_closing a_kept a_rcv a_first a_held a_fin a_unread a_came a_ended a_wnd a_peak a_half a_same a_setBy a_setAt a_isSet a_rto a_smooth a_spread a_timed a_since a_retry a_waits a_rest a_segSeq a_segAck a_segFlags a_segWindow a_segLength a_segBytes a_row a_many a_taken : Nat → Int32} {g_now g_sent : Int32} {b_seq b_flags b_acked b_window b_many b_data b_rows b_state b_error b_iss : Nat → Int32} {b_una b_nxt b_max b_last : Nat → Int64} {b_closed b_written b_irs b_unread b_bytes b_held : Nat → Int32} {b_rcv b_finAt : Nat → Int64} {b_marked b_wnd b_peak b_half b_rto b_same b_tries b_smooth b_spread b_byNumber b_byAck b_sampled b_told b_retry b_ackAt b_waitAt b_timedAt : Nat → Int32} {b_timed : Nat → Int64}
theorem RE_el (R : RE e L now st er tr iss una nxt mx la cl irs rcv fi un fst wnd pk hf rto sa smo tm si rt wt rs nr nw ns (f_now, f_sent, a_state, a_error, a_tries, a_iss, a_una, a_nxt, a_max, a_last, a_closing, a_kept, a_rcv, a_first, a_held, a_fin, a_unread, a_came, a_ended, a_wnd, a_peak, a_half, a_same, a_setBy, a_setAt, a_isSet, a_rto, a_smooth, a_spread, a_timed, a_since, a_retry, a_waits, a_rest, a_segSeq, a_segAck, a_segFlags, a_segWindow, a_segLength, a_segBytes, a_row, a_many, a_taken) (g_now, g_sent, b_seq, b_flags, b_acked, b_window, b_many, b_data, b_rows, b_state, b_error, b_iss, b_una, b_nxt, b_max, b_last, b_closed, b_written, b_irs, b_unread, b_bytes, b_held, b_rcv, b_finAt, b_marked, b_wnd, b_peak, b_half, b_rto, b_same, b_tries, b_smooth, b_spread, b_byNumber, b_byAck, b_sampled, b_told, b_retry, b_ackAt, b_waitAt, b_timedAt, b_timed)) : f_now = zI now ∧
  g_now = zI now ∧
  (a_state e) = zI st ∧
  (a_error e) = zI er ∧
  (st ≠ 0 → (a_tries e) = zI tr) ∧
  (a_iss e) = zI iss ∧
  (2 ≤ st → (a_una e) = zI ((iss + una) % 65536)) ∧
  (2 ≤ st → (a_nxt e) = zI ((iss + nxt) % 65536)) ∧
  (2 ≤ st → (a_max e) = zI ((iss + mx) % 65536)) ∧
  (1 ≤ st → (a_last e) = zI ((iss + la) % 65536)) ∧
  (1 ≤ st → (a_closing e) = zI cl) ∧
  (1 ≤ st → (a_rcv e) = zI ((irs + rcv) % 65536)) ∧
  (a_first e) = zI fst ∧
  (a_fin e) = zI (nf irs fi) ∧
  (a_unread e) = zI un ∧
  (st ≠ 0 → (a_ended e) = zI (if 6 < st then 1 else 0)) ∧
  (a_wnd e) = zI wnd ∧
  (a_peak e) = zI pk ∧
  (a_half e) = zI hf ∧
  (a_rto e) = zI rto ∧
  (st ≠ 0 → (a_same e) = (b_same e)) ∧
  (a_setBy e) = (b_byNumber e) ∧
  (a_setAt e) = (b_byAck e) ∧
  (a_isSet e) = (b_told e) ∧
  (a_smooth e) = zI (if sa = 0 then -1 else smo) ∧
  (sa ≠ 0 → (a_spread e) = (b_spread e)) ∧
  (a_timed e) = zI (nf iss tm) ∧
  (a_since e) = zI si ∧
  (a_retry e) = zI rt ∧
  (a_waits e) = zI wt ∧
  (a_rest e) = zI rs ∧
  (b_state e) = zI st ∧
  (b_error e) = zI er ∧
  (b_tries e) = zI tr ∧
  (b_iss e) = zI iss ∧
  (b_una e) = zL una ∧
  (b_nxt e) = zL nxt ∧
  (b_max e) = zL mx ∧
  (b_last e) = zL la ∧
  (b_closed e) = zI cl ∧
  (b_irs e) = zI irs ∧
  (b_rcv e) = zL rcv ∧
  (b_finAt e) = zL fi ∧
  (b_unread e) = zI un ∧
  (b_wnd e) = zI wnd ∧
  (b_peak e) = zI pk ∧
  (b_half e) = zI hf ∧
  (b_rto e) = zI rto ∧
  (b_sampled e) = zI sa ∧
  (b_smooth e) = zI smo ∧
  (b_timed e) = zL tm ∧
  (b_timedAt e) = zI si ∧
  (b_retry e) = zI rt ∧
  (b_ackAt e) = zI wt ∧
  (b_waitAt e) = zI rs ∧
  E1 st er tr cl ∧
  E3 L st irs rcv fi un fst ∧
  E4 wnd pk hf rto ∧
  E5 now st sa smo si rt wt rs nr nw ns ∧
  EK iss una la (rg 32 e a_kept) (rg 64 e b_written) ∧
  EC un fst (rg 32 e a_came) (rg 24 e b_bytes) ∧
  EH st rcv un fst (a_held e) (rg 32 e a_came) (rg 64 e b_marked) (rg 64 e b_held) ∧
  EW e (rg 16 e a_segSeq) (rg 16 e a_segAck) (rg 16 e a_segFlags) (rg 16 e a_segWindow) (rg 16 e a_segLength) (rg 128 e a_segBytes) (rg 16 e a_row) (a_many e) (a_taken e) (rg 16 e b_seq) (rg 16 e b_flags) (rg 16 e b_acked) (rg 16 e b_window) (rg 16 e b_many) (rg 128 e b_data) (b_rows e) := R
theorem RE_in (R : f_now = zI now ∧
  g_now = zI now ∧
  (a_state e) = zI st ∧
  (a_error e) = zI er ∧
  (st ≠ 0 → (a_tries e) = zI tr) ∧
  (a_iss e) = zI iss ∧
  (2 ≤ st → (a_una e) = zI ((iss + una) % 65536)) ∧
  (2 ≤ st → (a_nxt e) = zI ((iss + nxt) % 65536)) ∧
  (2 ≤ st → (a_max e) = zI ((iss + mx) % 65536)) ∧
  (1 ≤ st → (a_last e) = zI ((iss + la) % 65536)) ∧
  (1 ≤ st → (a_closing e) = zI cl) ∧
  (1 ≤ st → (a_rcv e) = zI ((irs + rcv) % 65536)) ∧
  (a_first e) = zI fst ∧
  (a_fin e) = zI (nf irs fi) ∧
  (a_unread e) = zI un ∧
  (st ≠ 0 → (a_ended e) = zI (if 6 < st then 1 else 0)) ∧
  (a_wnd e) = zI wnd ∧
  (a_peak e) = zI pk ∧
  (a_half e) = zI hf ∧
  (a_rto e) = zI rto ∧
  (st ≠ 0 → (a_same e) = (b_same e)) ∧
  (a_setBy e) = (b_byNumber e) ∧
  (a_setAt e) = (b_byAck e) ∧
  (a_isSet e) = (b_told e) ∧
  (a_smooth e) = zI (if sa = 0 then -1 else smo) ∧
  (sa ≠ 0 → (a_spread e) = (b_spread e)) ∧
  (a_timed e) = zI (nf iss tm) ∧
  (a_since e) = zI si ∧
  (a_retry e) = zI rt ∧
  (a_waits e) = zI wt ∧
  (a_rest e) = zI rs ∧
  (b_state e) = zI st ∧
  (b_error e) = zI er ∧
  (b_tries e) = zI tr ∧
  (b_iss e) = zI iss ∧
  (b_una e) = zL una ∧
  (b_nxt e) = zL nxt ∧
  (b_max e) = zL mx ∧
  (b_last e) = zL la ∧
  (b_closed e) = zI cl ∧
  (b_irs e) = zI irs ∧
  (b_rcv e) = zL rcv ∧
  (b_finAt e) = zL fi ∧
  (b_unread e) = zI un ∧
  (b_wnd e) = zI wnd ∧
  (b_peak e) = zI pk ∧
  (b_half e) = zI hf ∧
  (b_rto e) = zI rto ∧
  (b_sampled e) = zI sa ∧
  (b_smooth e) = zI smo ∧
  (b_timed e) = zL tm ∧
  (b_timedAt e) = zI si ∧
  (b_retry e) = zI rt ∧
  (b_ackAt e) = zI wt ∧
  (b_waitAt e) = zI rs ∧
  E1 st er tr cl ∧
  E3 L st irs rcv fi un fst ∧
  E4 wnd pk hf rto ∧
  E5 now st sa smo si rt wt rs nr nw ns ∧
  EK iss una la (rg 32 e a_kept) (rg 64 e b_written) ∧
  EC un fst (rg 32 e a_came) (rg 24 e b_bytes) ∧
  EH st rcv un fst (a_held e) (rg 32 e a_came) (rg 64 e b_marked) (rg 64 e b_held) ∧
  EW e (rg 16 e a_segSeq) (rg 16 e a_segAck) (rg 16 e a_segFlags) (rg 16 e a_segWindow) (rg 16 e a_segLength) (rg 128 e a_segBytes) (rg 16 e a_row) (a_many e) (a_taken e) (rg 16 e b_seq) (rg 16 e b_flags) (rg 16 e b_acked) (rg 16 e b_window) (rg 16 e b_many) (rg 128 e b_data) (b_rows e)) : RE e L now st er tr iss una nxt mx la cl irs rcv fi un fst wnd pk hf rto sa smo tm si rt wt rs nr nw ns (f_now, f_sent, a_state, a_error, a_tries, a_iss, a_una, a_nxt, a_max, a_last, a_closing, a_kept, a_rcv, a_first, a_held, a_fin, a_unread, a_came, a_ended, a_wnd, a_peak, a_half, a_same, a_setBy, a_setAt, a_isSet, a_rto, a_smooth, a_spread, a_timed, a_since, a_retry, a_waits, a_rest, a_segSeq, a_segAck, a_segFlags, a_segWindow, a_segLength, a_segBytes, a_row, a_many, a_taken) (g_now, g_sent, b_seq, b_flags, b_acked, b_window, b_many, b_data, b_rows, b_state, b_error, b_iss, b_una, b_nxt, b_max, b_last, b_closed, b_written, b_irs, b_unread, b_bytes, b_held, b_rcv, b_finAt, b_marked, b_wnd, b_peak, b_half, b_rto, b_same, b_tries, b_smooth, b_spread, b_byNumber, b_byAck, b_sampled, b_told, b_retry, b_ackAt, b_waitAt, b_timedAt, b_timed) := R
/-- the other end is as it was -/
def FR (e : Nat) (u0 : SX) (v0 : SY) (u : SX) (v : SY) : Prop := vX (1 - e) u = vX (1 - e) u0 ∧ vY (1 - e) v = vY (1 - e) v0 ∧ u.2.1 - v.2.1 = u0.2.1 - v0.2.1
def RZ (e : Nat) (L now st er tr iss una nxt mx la cl irs rcv fi un fst wnd pk hf rto sa smo tm si rt wt rs nr nw ns : Int) (u0 : SX) (v0 : SY) (u : SX) (v : SY) : Prop := RE e L now st er tr iss una nxt mx la cl irs rcv fi un fst wnd pk hf rto sa smo tm si rt wt rs nr nw ns u v ∧ FR e u0 v0 u v
end
/-! bounds, and changes of one -/
section
variable {L now : Int} {st er tr iss una nxt mx la cl irs rcv fi un fst wnd pk hf rto sa smo tm si rt wt rs nr nw ns : Int}
theorem E5_b (h : E5 now st sa smo si rt wt rs nr nw ns) : (0 ≤ now ∧ now ≤ 33554432) ∧ (0 ≤ sa ∧ sa ≤ 1) ∧ (0 ≤ si ∧ si ≤ now) ∧ (-1 ≤ rt ∧ rt ≤ now + 64) ∧ (-1 ≤ wt ∧ wt ≤ now + 2) ∧ (-1 ≤ rs ∧ rs ≤ now + 20) := by
  unfold E5 at h; omega
theorem E5_rt {rt' : Int} (h : E5 now st sa smo si rt wt rs nr nw ns) (h2 : rt' = -1 ∨ 2 ≤ st ∧ now < rt' ∧ rt' ≤ now + 64) : E5 now st sa smo si rt' wt rs nr nw ns := by
  obtain ⟨a1, a2, a3, a4, a5, a6, a7, a8, a9, a10⟩ := h
  exact ⟨a1, a2, a3, a4, by omega, a6, a7, by omega, a9, a10⟩
theorem E5_wt {wt' : Int} (h : E5 now st sa smo si rt wt rs nr nw ns) (h2 : wt' = -1 ∨ 4 ≤ st ∧ now < wt' ∧ wt' ≤ now + 2) : E5 now st sa smo si rt wt' rs nr nw ns := by
  obtain ⟨a1, a2, a3, a4, a5, a6, a7, a8, a9, a10⟩ := h
  exact ⟨a1, a2, a3, a4, a5, by omega, a7, a8, by omega, a10⟩
theorem E5_rs {rs' : Int} (h : E5 now st sa smo si rt wt rs nr nw ns) (h2 : rs' = -1 ∨ 2 ≤ st ∧ now < rs' ∧ rs' ≤ now + 20) : E5 now st sa smo si rt wt rs' nr nw ns := by
  obtain ⟨a1, a2, a3, a4, a5, a6, a7, a8, a9, a10⟩ := h
  exact ⟨a1, a2, a3, a4, a5, a6, by omega, by omega, a9, a10⟩
theorem E5_si (h : E5 now st sa smo si rt wt rs nr nw ns) : E5 now st sa smo now rt wt rs nr nw ns := by
  obtain ⟨a1, a2, a3, a4, a5, a6, a7, a8, a9, a10⟩ := h
  exact ⟨a1, a2, a3, by omega, a5, a6, a7, a8, a9, a10⟩
theorem E5_sa {smo' : Int} (h : E5 now st sa smo si rt wt rs nr nw ns) (h2 : 0 ≤ smo' ∧ smo' ≤ 8 * now) : E5 now st 1 smo' si rt wt rs nr nw ns := by
  obtain ⟨a1, a2, a3, a4, a5, a6, a7, a8, a9, a10⟩ := h
  exact ⟨a1, by omega, fun _ => h2, a4, a5, a6, a7, a8, a9, a10⟩
theorem E2_b (h : E2 L st iss una nxt mx la cl tm) (h2 : 2 ≤ st) : (0 ≤ iss ∧ iss ≤ 65535) ∧ (0 ≤ una ∧ 1 ≤ la ∧ la ≤ L ∧ L ≤ 1099511627776) ∧ una ≤ nxt ∧ nxt ≤ mx ∧ mx ≤ la + cl ∧ la ≤ una + 33 ∧ (-1 ≤ tm ∧ tm < mx + 1) := by
  obtain ⟨a1, a2, a3, a4, a5, a6, a7, a8, a9⟩ := h
  have := a5 h2
  omega
end
end
section
/-! both sides together: there is an outcome of both, and each side's walk follows from its own -/
def LK {α β πX πY : Type} (ap : α → πX → Prop) (aq : β → πY → Prop) (WX : πX → Prop) (WY : πY → Prop) (Q : α → β → Prop) : Prop :=
  ∃ a b, Q a b ∧ (∀ p, ap a p → WX p) ∧ (∀ p, aq b p → WY p)
def ap0 (u : SX) (p : SX → Prop) : Prop := p u
def aq0 (v : SY) (p : SY → Prop) : Prop := p v
def ap1 (a : Int32 × SX) (p : Int32 → SX → Prop) : Prop := p a.1 a.2
def aq1 (a : Int32 × SY) (p : Int32 → SY → Prop) : Prop := p a.1 a.2
def ap2 (a : Int64 × SX) (p : Int64 → SX → Prop) : Prop := p a.1 a.2
def aq2 (a : Int64 × SY) (p : Int64 → SY → Prop) : Prop := p a.1 a.2
section
variable {α β πX πY : Type} {ap : α → πX → Prop} {aq : β → πY → Prop} {WX WX' : πX → Prop} {WY WY' : πY → Prop} {Q Q' : α → β → Prop}
theorem LK_x (h : ∀ p, WX' p → WX p) (k : LK ap aq WX' WY Q) : LK ap aq WX WY Q := by
  obtain ⟨a, b, q, hx, hy⟩ := k
  exact ⟨a, b, q, fun p hp => h p (hx p hp), hy⟩
theorem LK_y (h : ∀ p, WY' p → WY p) (k : LK ap aq WX WY' Q) : LK ap aq WX WY Q := by
  obtain ⟨a, b, q, hx, hy⟩ := k
  exact ⟨a, b, q, hx, fun p hp => h p (hy p hp)⟩
theorem LK_m (h : ∀ a b, Q a b → Q' a b) (k : LK ap aq WX WY Q) : LK ap aq WX WY Q' := by
  obtain ⟨a, b, q, hx, hy⟩ := k
  exact ⟨a, b, h a b q, hx, hy⟩
theorem LK_r0 {u : SX} {v : SY} {Q : SX → SY → Prop} (h : Q u v) : LK ap0 aq0 (fun p => p u) (fun p => p v) Q := ⟨u, v, h, fun _ hp => hp, fun _ hp => hp⟩
theorem LK_r1 {u : SX} {v : SY} {r r' : Int32} {Q : Int32 × SX → Int32 × SY → Prop} (h : Q (r, u) (r', v)) : LK ap1 aq1 (fun p => p r u) (fun p => p r' v) Q := ⟨(r, u), (r', v), h, fun _ hp => hp, fun _ hp => hp⟩
theorem LK_r2 {u : SX} {v : SY} {r r' : Int64} {Q : Int64 × SX → Int64 × SY → Prop} (h : Q (r, u) (r', v)) : LK ap2 aq2 (fun p => p r u) (fun p => p r' v) Q := ⟨(r, u), (r', v), h, fun _ hp => hp, fun _ hp => hp⟩
theorem LK_b {VX0 : (SX → Prop) → Prop} {VY0 : (SY → Prop) → Prop} {Q0 : SX → SY → Prop} {KX : πX → SX → Prop} {KY : πY → SY → Prop} (h : LK ap0 aq0 VX0 VY0 Q0)
    (k : ∀ f_now f_sent a_state a_error a_tries a_iss a_una a_nxt a_max a_last a_closing a_kept a_rcv a_first a_held a_fin a_unread a_came a_ended a_wnd a_peak a_half a_same a_setBy a_setAt a_isSet a_rto a_smooth a_spread a_timed a_since a_retry a_waits a_rest a_segSeq a_segAck a_segFlags a_segWindow a_segLength a_segBytes a_row a_many a_taken g_now g_sent b_seq b_flags b_acked b_window b_many b_data b_rows b_state b_error b_iss b_una b_nxt b_max b_last b_closed b_written b_irs b_unread b_bytes b_held b_rcv b_finAt b_marked b_wnd b_peak b_half b_rto b_same b_tries b_smooth b_spread b_byNumber b_byAck b_sampled b_told b_retry b_ackAt b_waitAt b_timedAt b_timed, Q0 (f_now, f_sent, a_state, a_error, a_tries, a_iss, a_una, a_nxt, a_max, a_last, a_closing, a_kept, a_rcv, a_first, a_held, a_fin, a_unread, a_came, a_ended, a_wnd, a_peak, a_half, a_same, a_setBy, a_setAt, a_isSet, a_rto, a_smooth, a_spread, a_timed, a_since, a_retry, a_waits, a_rest, a_segSeq, a_segAck, a_segFlags, a_segWindow, a_segLength, a_segBytes, a_row, a_many, a_taken) (g_now, g_sent, b_seq, b_flags, b_acked, b_window, b_many, b_data, b_rows, b_state, b_error, b_iss, b_una, b_nxt, b_max, b_last, b_closed, b_written, b_irs, b_unread, b_bytes, b_held, b_rcv, b_finAt, b_marked, b_wnd, b_peak, b_half, b_rto, b_same, b_tries, b_smooth, b_spread, b_byNumber, b_byAck, b_sampled, b_told, b_retry, b_ackAt, b_waitAt, b_timedAt, b_timed) → LK ap aq (fun p => KX p (f_now, f_sent, a_state, a_error, a_tries, a_iss, a_una, a_nxt, a_max, a_last, a_closing, a_kept, a_rcv, a_first, a_held, a_fin, a_unread, a_came, a_ended, a_wnd, a_peak, a_half, a_same, a_setBy, a_setAt, a_isSet, a_rto, a_smooth, a_spread, a_timed, a_since, a_retry, a_waits, a_rest, a_segSeq, a_segAck, a_segFlags, a_segWindow, a_segLength, a_segBytes, a_row, a_many, a_taken)) (fun p => KY p (g_now, g_sent, b_seq, b_flags, b_acked, b_window, b_many, b_data, b_rows, b_state, b_error, b_iss, b_una, b_nxt, b_max, b_last, b_closed, b_written, b_irs, b_unread, b_bytes, b_held, b_rcv, b_finAt, b_marked, b_wnd, b_peak, b_half, b_rto, b_same, b_tries, b_smooth, b_spread, b_byNumber, b_byAck, b_sampled, b_told, b_retry, b_ackAt, b_waitAt, b_timedAt, b_timed)) Q) : LK ap aq (fun p => VX0 (KX p)) (fun p => VY0 (KY p)) Q := by
  obtain ⟨u, v, q, hx, hy⟩ := h
  have K : LK ap aq (fun p => KX p u) (fun p => KY p v) Q := k _ _ _ _ _ _ _ _ _ _ _ _ _ _ _ _ _ _ _ _ _ _ _ _ _ _ _ _ _ _ _ _ _ _ _ _ _ _ _ _ _ _ _ _ _ _ _ _ _ _ _ _ _ _ _ _ _ _ _ _ _ _ _ _ _ _ _ _ _ _ _ _ _ _ _ _ _ _ _ _ _ _ _ _ _ q
  exact LK_x (fun p hp => hx _ hp) (LK_y (fun p hp => hy _ hp) K)
theorem LK_b1 {VX0 : (Int32 → SX → Prop) → Prop} {VY0 : (Int32 → SY → Prop) → Prop} {Q0 : Int32 × SX → Int32 × SY → Prop} {KX : πX → Int32 → SX → Prop} {KY : πY → Int32 → SY → Prop} (h : LK ap1 aq1 VX0 VY0 Q0)
    (k : ∀ r r' f_now f_sent a_state a_error a_tries a_iss a_una a_nxt a_max a_last a_closing a_kept a_rcv a_first a_held a_fin a_unread a_came a_ended a_wnd a_peak a_half a_same a_setBy a_setAt a_isSet a_rto a_smooth a_spread a_timed a_since a_retry a_waits a_rest a_segSeq a_segAck a_segFlags a_segWindow a_segLength a_segBytes a_row a_many a_taken g_now g_sent b_seq b_flags b_acked b_window b_many b_data b_rows b_state b_error b_iss b_una b_nxt b_max b_last b_closed b_written b_irs b_unread b_bytes b_held b_rcv b_finAt b_marked b_wnd b_peak b_half b_rto b_same b_tries b_smooth b_spread b_byNumber b_byAck b_sampled b_told b_retry b_ackAt b_waitAt b_timedAt b_timed, Q0 (r, (f_now, f_sent, a_state, a_error, a_tries, a_iss, a_una, a_nxt, a_max, a_last, a_closing, a_kept, a_rcv, a_first, a_held, a_fin, a_unread, a_came, a_ended, a_wnd, a_peak, a_half, a_same, a_setBy, a_setAt, a_isSet, a_rto, a_smooth, a_spread, a_timed, a_since, a_retry, a_waits, a_rest, a_segSeq, a_segAck, a_segFlags, a_segWindow, a_segLength, a_segBytes, a_row, a_many, a_taken)) (r', (g_now, g_sent, b_seq, b_flags, b_acked, b_window, b_many, b_data, b_rows, b_state, b_error, b_iss, b_una, b_nxt, b_max, b_last, b_closed, b_written, b_irs, b_unread, b_bytes, b_held, b_rcv, b_finAt, b_marked, b_wnd, b_peak, b_half, b_rto, b_same, b_tries, b_smooth, b_spread, b_byNumber, b_byAck, b_sampled, b_told, b_retry, b_ackAt, b_waitAt, b_timedAt, b_timed)) → LK ap aq (fun p => KX p r (f_now, f_sent, a_state, a_error, a_tries, a_iss, a_una, a_nxt, a_max, a_last, a_closing, a_kept, a_rcv, a_first, a_held, a_fin, a_unread, a_came, a_ended, a_wnd, a_peak, a_half, a_same, a_setBy, a_setAt, a_isSet, a_rto, a_smooth, a_spread, a_timed, a_since, a_retry, a_waits, a_rest, a_segSeq, a_segAck, a_segFlags, a_segWindow, a_segLength, a_segBytes, a_row, a_many, a_taken)) (fun p => KY p r' (g_now, g_sent, b_seq, b_flags, b_acked, b_window, b_many, b_data, b_rows, b_state, b_error, b_iss, b_una, b_nxt, b_max, b_last, b_closed, b_written, b_irs, b_unread, b_bytes, b_held, b_rcv, b_finAt, b_marked, b_wnd, b_peak, b_half, b_rto, b_same, b_tries, b_smooth, b_spread, b_byNumber, b_byAck, b_sampled, b_told, b_retry, b_ackAt, b_waitAt, b_timedAt, b_timed)) Q) : LK ap aq (fun p => VX0 (KX p)) (fun p => VY0 (KY p)) Q := by
  obtain ⟨⟨r, u⟩, ⟨r', v⟩, q, hx, hy⟩ := h
  have K : LK ap aq (fun p => KX p r u) (fun p => KY p r' v) Q := k r r' _ _ _ _ _ _ _ _ _ _ _ _ _ _ _ _ _ _ _ _ _ _ _ _ _ _ _ _ _ _ _ _ _ _ _ _ _ _ _ _ _ _ _ _ _ _ _ _ _ _ _ _ _ _ _ _ _ _ _ _ _ _ _ _ _ _ _ _ _ _ _ _ _ _ _ _ _ _ _ _ _ _ _ _ _ q
  exact LK_x (fun p hp => hx _ hp) (LK_y (fun p hp => hy _ hp) K)
/-- what is owed -/
theorem LK_top1 {WX : (Int32 → SX → Prop) → Prop} {WY : (Int32 → SY → Prop) → Prop} {R : SX → SY → Prop} (h : LK ap1 aq1 WX WY (fun a b => b.1 = a.1 ∧ R a.2 b.2)) : WX (fun r u => WY (fun r' v => r' = r ∧ R u v)) := by
  obtain ⟨a, b, q, hx, hy⟩ := h
  exact hx _ (hy _ q)
theorem LK_top2 {WX : (Int64 → SX → Prop) → Prop} {WY : (Int64 → SY → Prop) → Prop} {R : SX → SY → Prop} (h : LK ap2 aq2 WX WY (fun a b => b.1 = a.1 ∧ R a.2 b.2)) : WX (fun r u => WY (fun r' v => r' = r ∧ R u v)) := by
  obtain ⟨a, b, q, hx, hy⟩ := h
  exact hx _ (hy _ q)
end
/-! steps at the head of a side's walk -/
section
variable {α β πX πY : Type} {ap : α → πX → Prop} {aq : β → πY → Prop} {WX A B : πX → Prop} {WY C D : πY → Prop} {Q : α → β → Prop}
theorem LX_a {c : Prop} (h : c) (k : LK ap aq WX WY Q) : LK ap aq (fun p => c ∧ WX p) WY Q := LK_x (fun _ hp => ⟨h, hp⟩) k
theorem LY_a {c : Prop} (h : c) (k : LK ap aq WX WY Q) : LK ap aq WX (fun p => c ∧ WY p) Q := LK_y (fun _ hp => ⟨h, hp⟩) k
theorem LX_t {c : Prop} (h : c) (k : LK ap aq A WY Q) : LK ap aq (fun p => (c → A p) ∧ (¬ c → B p)) WY Q := LK_x (fun _ hp => br_t h hp) k
theorem LX_f {c : Prop} (h : ¬ c) (k : LK ap aq B WY Q) : LK ap aq (fun p => (c → A p) ∧ (¬ c → B p)) WY Q := LK_x (fun _ hp => br_f h hp) k
theorem LY_t {c : Prop} (h : c) (k : LK ap aq WX C Q) : LK ap aq WX (fun p => (c → C p) ∧ (¬ c → D p)) Q := LK_y (fun _ hp => br_t h hp) k
theorem LY_f {c : Prop} (h : ¬ c) (k : LK ap aq WX D Q) : LK ap aq WX (fun p => (c → C p) ∧ (¬ c → D p)) Q := LK_y (fun _ hp => br_f h hp) k
theorem LX_n {γ : Type} {e : γ} {P : γ → πX → Prop} (k : LK ap aq (P e) WY Q) : LK ap aq (fun p => ∀ x, x = e → P x p) WY Q := LK_x (fun _ hp => nm_e hp) k
theorem LY_n {γ : Type} {e : γ} {P : γ → πY → Prop} (k : LK ap aq WX (P e) Q) : LK ap aq WX (fun p => ∀ x, x = e → P x p) Q := LK_y (fun _ hp => nm_e hp) k
theorem LX_e {P : Nat → πX → Prop} (n : Nat) (k : LK ap aq (P n) WY Q) : LK ap aq (fun p => ∃ n, P n p) WY Q := LK_x (fun _ hp => ⟨n, hp⟩) k
theorem LY_e {P : Nat → πY → Prop} (n : Nat) (k : LK ap aq WX (P n) Q) : LK ap aq WX (fun p => ∃ n, P n p) Q := LK_y (fun _ hp => ⟨n, hp⟩) k
end
end
section
/-! methods that only read -/
section
variable {e : Nat} {L now : Int} {st er tr iss una nxt mx la cl irs rcv fi un fst wnd pk hf rto sa smo tm si rt wt rs nr nw ns : Int} {f_now f_sent : Int32} {a_state a_error a_tries a_iss a_una a_nxt a_max a_last a_closing a_kept a_rcv a_first a_held a_fin a_unread a_came a_ended a_wnd a_peak a_half a_same a_setBy a_setAt a_isSet a_rto a_smooth a_spread a_timed a_since a_retry a_waits a_rest a_segSeq a_segAck a_segFlags a_segWindow a_segLength a_segBytes a_row a_many a_taken : Nat → Int32} {g_now g_sent : Int32} {b_seq b_flags b_acked b_window b_many b_data b_rows b_state b_error b_iss : Nat → Int32} {b_una b_nxt b_max b_last : Nat → Int64} {b_closed b_written b_irs b_unread b_bytes b_held : Nat → Int32} {b_rcv b_finAt : Nat → Int64} {b_marked b_wnd b_peak b_half b_rto b_same b_tries b_smooth b_spread b_byNumber b_byAck b_sampled b_told b_retry b_ackAt b_waitAt b_timedAt : Nat → Int32} {b_timed : Nat → Int64}
theorem e_in (he : e < 2) : vp_in (zI e) 2 := zI_in (by omega)
theorem e_cl (he : e < 2) : (zI e).toNatClampNeg = e := by rw [zI_cl (by omega)]; omega
theorem x_isEnd {post : Int32 → Prop} (he : e < 2) : wpX_isEnd post (zI e) = post 1 := by
  have h : e = 0 ∨ e = 1 := by omega
  unfold wpX_isEnd
  rcases h with rfl | rfl
  · simp only [show zI ((0 : Nat) : Int) = 0 from rfl, true_and, and_true, true_implies, false_implies, forall_eq, not_true_eq_false, not_false_eq_true, implies_true, forall_const]
  · simp only [show zI ((1 : Nat) : Int) = 1 from rfl, show ¬ (1 : Int32) = 0 by decide, true_and, and_true, true_implies, false_implies, forall_eq, not_true_eq_false, not_false_eq_true, implies_true, forall_const]
theorem y_no : wpY_no = wpX_outside := rfl
theorem y_end {post : Int32 → Prop} (he : e < 2) : wpY_no post (zI e) 0 1 = post 0 := by
  have h : e = 0 ∨ e = 1 := by omega
  unfold wpY_no
  rcases h with rfl | rfl
  · simp only [show zI ((0 : Nat) : Int) = 0 from rfl, show ¬ (0 : Int32) < 0 by decide, show (0 : Int32) ≤ 1 by decide, true_and, and_true, true_implies, false_implies, forall_eq, not_true_eq_false, not_false_eq_true, implies_true, forall_const]
  · simp only [show zI ((1 : Nat) : Int) = 1 from rfl, show ¬ (1 : Int32) < 0 by decide, show (1 : Int32) ≤ 1 by decide, true_and, and_true, true_implies, false_implies, forall_eq, not_true_eq_false, not_false_eq_true, implies_true, forall_const]
theorem x_offset {post : Int32 → Prop} {a b : Int} : wpX_offset post (zI a) (zI b) = post (zI (zo (a - b))) := by
  unfold wpX_offset; rw [zI_sub, zI_16]
theorem y_offset' {post : Int32 → Prop} {a b : Int} : wpY_offset post (zI a) (zI b) = post (zI (zo (a - b))) := by
  unfold wpY_offset
  simp only [forall_eq, zl_65535, zl_32767, zl_65536, zI_sub, zI_m16]
  by_cases h : (a - b) % 65536 ≤ 32767
  · simp only [zI_le (a := (a - b) % 65536) (b := 32767) (by omega), h, true_and, and_true, true_implies, false_implies, forall_eq, not_true_eq_false, not_false_eq_true, implies_true, forall_const]
    rw [show zo (a - b) = (a - b) % 65536 by unfold zo; omega]
  · simp only [zI_le (a := (a - b) % 65536) (b := 32767) (by omega), h, true_and, and_true, true_implies, false_implies, forall_eq, not_true_eq_false, not_false_eq_true, implies_true, forall_const]
    rw [show zo (a - b) = (a - b) % 65536 - 65536 by unfold zo; omega]
theorem y_offset : wpY_offset = wpX_offset := by
  funext post a b
  rw [← zI_self a, ← zI_self b, y_offset', x_offset]
theorem x_window {post : Int32 → Prop} (he : e < 2) (xun : a_unread e = zI un) : wpX_window post (f_now, f_sent, a_state, a_error, a_tries, a_iss, a_una, a_nxt, a_max, a_last, a_closing, a_kept, a_rcv, a_first, a_held, a_fin, a_unread, a_came, a_ended, a_wnd, a_peak, a_half, a_same, a_setBy, a_setAt, a_isSet, a_rto, a_smooth, a_spread, a_timed, a_since, a_retry, a_waits, a_rest, a_segSeq, a_segAck, a_segFlags, a_segWindow, a_segLength, a_segBytes, a_row, a_many, a_taken) (zI e) = post (zI (24 - un)) := by
  unfold wpX_window; simp only [e_in he, e_cl he, xun, zl_24, zI_sub, true_and]
theorem y_own {post : Int32 → Prop} (he : e < 2) (yun : b_unread e = zI un) : wpY_own post (g_now, g_sent, b_seq, b_flags, b_acked, b_window, b_many, b_data, b_rows, b_state, b_error, b_iss, b_una, b_nxt, b_max, b_last, b_closed, b_written, b_irs, b_unread, b_bytes, b_held, b_rcv, b_finAt, b_marked, b_wnd, b_peak, b_half, b_rto, b_same, b_tries, b_smooth, b_spread, b_byNumber, b_byAck, b_sampled, b_told, b_retry, b_ackAt, b_waitAt, b_timedAt, b_timed) (zI e) = post (zI (24 - un)) := by
  unfold wpY_own; simp only [e_in he, e_cl he, yun, zl_24, zI_sub, true_and]
theorem y_number {post : Int32 → Prop} {p : Int} (he : e < 2) (yiss : b_iss e = zI iss) (h : 0 ≤ iss ∧ iss ≤ 65535) : wpY_number post (g_now, g_sent, b_seq, b_flags, b_acked, b_window, b_many, b_data, b_rows, b_state, b_error, b_iss, b_una, b_nxt, b_max, b_last, b_closed, b_written, b_irs, b_unread, b_bytes, b_held, b_rcv, b_finAt, b_marked, b_wnd, b_peak, b_half, b_rto, b_same, b_tries, b_smooth, b_spread, b_byNumber, b_byAck, b_sampled, b_told, b_retry, b_ackAt, b_waitAt, b_timedAt, b_timed) (zI e) (zL p) = post (zI ((iss + p) % 65536)) := by
  unfold wpY_number; simp only [e_in he, e_cl he, yiss, zI_l (z := iss) (by omega), zL_add, zI_i, zl_65535, zI_m16, true_and]
theorem y_due {post : Int32 → Prop} (he : e < 2) (yirs : b_irs e = zI irs) (yrcv : b_rcv e = zL rcv) (h : 0 ≤ irs ∧ irs ≤ 65535) : wpY_due post (g_now, g_sent, b_seq, b_flags, b_acked, b_window, b_many, b_data, b_rows, b_state, b_error, b_iss, b_una, b_nxt, b_max, b_last, b_closed, b_written, b_irs, b_unread, b_bytes, b_held, b_rcv, b_finAt, b_marked, b_wnd, b_peak, b_half, b_rto, b_same, b_tries, b_smooth, b_spread, b_byNumber, b_byAck, b_sampled, b_told, b_retry, b_ackAt, b_waitAt, b_timedAt, b_timed) (zI e) = post (zI ((irs + rcv) % 65536)) := by
  unfold wpY_due; simp only [e_in he, e_cl he, yirs, yrcv, zI_l (z := irs) (by omega), zL_add, zI_i, zl_65535, zI_m16, true_and]
theorem x_joined {post : Int32 → Prop} (he : e < 2) (xst : a_state e = zI st) (h : 0 ≤ st ∧ st ≤ 10) : wpX_joined post (f_now, f_sent, a_state, a_error, a_tries, a_iss, a_una, a_nxt, a_max, a_last, a_closing, a_kept, a_rcv, a_first, a_held, a_fin, a_unread, a_came, a_ended, a_wnd, a_peak, a_half, a_same, a_setBy, a_setAt, a_isSet, a_rto, a_smooth, a_spread, a_timed, a_since, a_retry, a_waits, a_rest, a_segSeq, a_segAck, a_segFlags, a_segWindow, a_segLength, a_segBytes, a_row, a_many, a_taken) (zI e) = post (if st ≤ 1 then 0 else 1) := by
  unfold wpX_joined; simp only [e_in he, e_cl he, xst, zl_1, zI_le (a := st) (b := 1) (by omega), true_and]
  by_cases h1 : st ≤ 1
  · simp only [h1, if_pos, true_and, and_true, true_implies, false_implies, forall_eq, not_true_eq_false, not_false_eq_true, implies_true, forall_const]
  · simp only [h1, if_neg, true_and, and_true, true_implies, false_implies, forall_eq, not_true_eq_false, not_false_eq_true, implies_true, forall_const]
theorem x_bytesFrom {post : Int32 → Prop} {p : Int} (he : e < 2) (xla : a_last e = zI ((iss + la) % 65536)) (h : -32768 ≤ la - p ∧ la - p < 32768) : wpX_bytesFrom post (f_now, f_sent, a_state, a_error, a_tries, a_iss, a_una, a_nxt, a_max, a_last, a_closing, a_kept, a_rcv, a_first, a_held, a_fin, a_unread, a_came, a_ended, a_wnd, a_peak, a_half, a_same, a_setBy, a_setAt, a_isSet, a_rto, a_smooth, a_spread, a_timed, a_since, a_retry, a_waits, a_rest, a_segSeq, a_segAck, a_segFlags, a_segWindow, a_segLength, a_segBytes, a_row, a_many, a_taken) (zI e) (zI ((iss + p) % 65536)) = post (zI (if p ≤ la then la - p else 0)) := by
  unfold wpX_bytesFrom
  simp only [e_in he, e_cl he, xla, x_offset, zo_pos (i := iss) h, zl_0, zI_le (a := 0) (b := la - p) (by omega), true_and]
  by_cases h1 : p ≤ la
  · rw [if_pos h1]; exact propext ⟨fun k => k.1 (by omega), fun k => ⟨fun _ => k, fun n => absurd (by omega) n⟩⟩
  · rw [if_neg h1]; exact propext ⟨fun k => k.2 (by omega), fun k => ⟨fun n => absurd n (by omega), fun _ => k⟩⟩
theorem x_roomOf {post : Int32 → Prop} (he : e < 2) (xnxt : a_nxt e = zI ((iss + nxt) % 65536)) (xuna : a_una e = zI ((iss + una) % 65536)) (xwnd : a_wnd e = zI wnd) (xpk : a_peak e = zI pk)
    (h : -32768 ≤ nxt - una ∧ nxt - una < 32768) (h4 : E4 wnd pk hf rto) : wpX_roomOf post (f_now, f_sent, a_state, a_error, a_tries, a_iss, a_una, a_nxt, a_max, a_last, a_closing, a_kept, a_rcv, a_first, a_held, a_fin, a_unread, a_came, a_ended, a_wnd, a_peak, a_half, a_same, a_setBy, a_setAt, a_isSet, a_rto, a_smooth, a_spread, a_timed, a_since, a_retry, a_waits, a_rest, a_segSeq, a_segAck, a_segFlags, a_segWindow, a_segLength, a_segBytes, a_row, a_many, a_taken) (zI e) = post (zI ((if pk ≤ wnd then pk else wnd) - (nxt - una))) := by
  unfold E4 at h4
  unfold wpX_roomOf wX_roomOf_30
  simp only [e_in he, e_cl he, xnxt, xuna, xwnd, xpk, x_offset, zo_pos (i := iss) h, zI_le (a := pk) (b := wnd) (by omega), zI_sub, true_and]
  by_cases h1 : pk ≤ wnd
  · simp only [h1, if_pos, true_and, and_true, true_implies, false_implies, forall_eq, not_true_eq_false, not_false_eq_true, implies_true, forall_const]
  · simp only [h1, if_neg, true_and, and_true, true_implies, false_implies, forall_eq, not_true_eq_false, not_false_eq_true, implies_true, forall_const]
theorem y_room {post : Int64 → Prop} (he : e < 2) (ynxt : b_nxt e = zL nxt) (yuna : b_una e = zL una) (ywnd : b_wnd e = zI wnd) (ypk : b_peak e = zI pk)
    (h4 : E4 wnd pk hf rto) : wpY_room post (g_now, g_sent, b_seq, b_flags, b_acked, b_window, b_many, b_data, b_rows, b_state, b_error, b_iss, b_una, b_nxt, b_max, b_last, b_closed, b_written, b_irs, b_unread, b_bytes, b_held, b_rcv, b_finAt, b_marked, b_wnd, b_peak, b_half, b_rto, b_same, b_tries, b_smooth, b_spread, b_byNumber, b_byAck, b_sampled, b_told, b_retry, b_ackAt, b_waitAt, b_timedAt, b_timed) (zI e) = post (zL ((if pk ≤ wnd then pk else wnd) - (nxt - una))) := by
  unfold E4 at h4
  unfold wpY_room wY_room_30
  simp only [e_in he, e_cl he, ynxt, yuna, ywnd, ypk, zI_le (a := pk) (b := wnd) (by omega), zL_sub, zI_l (z := pk) (by omega), zI_l (z := wnd) (by omega), true_and]
  by_cases h1 : pk ≤ wnd
  · simp only [h1, if_pos, true_and, and_true, true_implies, false_implies, forall_eq, not_true_eq_false, not_false_eq_true, implies_true, forall_const]
  · simp only [h1, if_neg, true_and, and_true, true_implies, false_implies, forall_eq, not_true_eq_false, not_false_eq_true, implies_true, forall_const]
theorem x_flows {post : Int32 → Prop} (he : e < 2) (xst : a_state e = zI st) (h : 0 ≤ st ∧ st ≤ 10) : wpX_flows post (f_now, f_sent, a_state, a_error, a_tries, a_iss, a_una, a_nxt, a_max, a_last, a_closing, a_kept, a_rcv, a_first, a_held, a_fin, a_unread, a_came, a_ended, a_wnd, a_peak, a_half, a_same, a_setBy, a_setAt, a_isSet, a_rto, a_smooth, a_spread, a_timed, a_since, a_retry, a_waits, a_rest, a_segSeq, a_segAck, a_segFlags, a_segWindow, a_segLength, a_segBytes, a_row, a_many, a_taken) (zI e) = post (if st < 4 ∨ st = 6 ∨ st = 10 then 0 else 1) := by
  unfold wpX_flows; simp only [e_in he, e_cl he, xst, zl_3, zl_10, zl_6, zI_le (a := st) (b := 3) (by omega), zI_le (a := 10) (b := st) (by omega), zI_eq (a := st) (b := 6) (by omega), true_and]
  by_cases h1 : st < 4 ∨ st = 6 ∨ st = 10
  · rw [if_pos h1]
    exact propext ⟨fun k => by
      by_cases a : st ≤ 3
      · exact k.1 a
      · by_cases b : 10 ≤ st
        · exact (k.2 a).1 b
        · exact ((k.2 a).2 b).1 (by omega), fun k => ⟨fun _ => k, fun _ => ⟨fun _ => k, fun _ => ⟨fun _ => k, fun n => absurd (by omega) n⟩⟩⟩⟩
  · rw [if_neg h1]
    exact propext ⟨fun k => ((k.2 (by omega)).2 (by omega)).2 (by omega), fun k => ⟨fun n => absurd n (by omega), fun _ => ⟨fun n => absurd n (by omega), fun _ => ⟨fun n => absurd n (by omega), fun _ => k⟩⟩⟩⟩
end
end
section
/-! bits of taken, slots, rows -/
theorem bb_1 : ∀ i, i < 32 → bt 1 i = decide (i = 0) := by decide
theorem bb_and1 (y : Int32) : (y &&& 1 = 0) ↔ bt y 0 = false := by
  constructor
  · intro h
    have := b_and y 1 0
    rw [h, b_0, bb_1 0 (by decide)] at this
    simpa using this.symm
  · intro h
    refine b_ext fun i hi => ?_
    rw [b_and, b_0, bb_1 i hi]
    by_cases z : i = 0
    · subst z; rw [h]; rfl
    · simp [z]
theorem bb_sh (x : Int32) (j : Nat) (hj : j < 32) : ((x >>> (zI j &&& zI 31)) &&& zI 1) = zI 0 ↔ bt x j = false := by
  rw [zI_nat]
  show ((x >>> (nI j &&& 31)) &&& 1) = 0 ↔ _
  rw [bb_and1, b_sshr j hj x (by decide : 0 < 32), if_pos (by omega)]
  rfl
theorem bb_set (x : Int32) (k : Nat) (hk : k < 32) (i : Nat) : bt (x ||| (zI 1 <<< (zI k &&& zI 31))) i = (bt x i || decide (i = k)) := by
  rw [zI_nat]
  show bt (x ||| ((1 : Int32) <<< (nI k &&& 31))) i = _
  by_cases hi : i < 32
  · rw [b_or, b_shl k hk 1 hi, bb_1 (i - k) (by omega)]
    congr 1
    by_cases z : i = k
    · subst z; simp
    · simp only [z, decide_false]
      by_cases h : k ≤ i
      · simp [show ¬ i - k = 0 by omega]
      · simp [h]
  · rw [b_big (by omega), b_big (by omega)]
    simp; omega
theorem bb_clr (x : Int32) (k : Nat) (hk : k < 32) (i : Nat) : bt (x &&& ((zI 1 <<< (zI k &&& zI 31)) ^^^ zI (-1))) i = (bt x i && !decide (i = k)) := by
  rw [zI_nat]
  show bt (x &&& (((1 : Int32) <<< (nI k &&& 31)) ^^^ (-1))) i = _
  by_cases hi : i < 32
  · rw [b_and, b_xor, b_m1 i hi, b_shl k hk 1 hi, bb_1 (i - k) (by omega)]
    congr 1
    by_cases z : i = k
    · subst z; simp
    · by_cases h : k ≤ i
      · simp [z, show ¬ i - k = 0 by omega]
      · simp [h, z]
  · rw [b_big (by omega), b_big (x := x) (by omega)]
    rfl
theorem pg_on : ∀ (n m : Nat) (s : Nat → Nat), (∀ k, k < n → ∃ i, i < m ∧ s i = k) → n ≤ m := by
  intro n
  induction n with
  | zero => intro m s _; omega
  | succ n ih =>
    intro m s h
    obtain ⟨i0, hi0, e0⟩ := h n (by omega)
    have := ih (m - 1) (fun i => if i < i0 then s i else s (i + 1)) (fun k hk => by
      obtain ⟨i, hi, ei⟩ := h k (by omega)
      have hne : i ≠ i0 := fun z => by subst z; omega
      by_cases l : i < i0
      · exact ⟨i, by omega, by simp only [if_pos l]; exact ei⟩
      · refine ⟨i - 1, by omega, ?_⟩
        have l2 : ¬ i - 1 < i0 := by omega
        simp only [if_neg l2]
        rw [show i - 1 + 1 = i by omega]; exact ei)
    omega
theorem sl_free {m : Nat} {sg : Nat → Nat} {tk : Int32} {sq sa sf sw sl sb yq yf ya yw yl yd : Int → Int32} (h : ES m sg tk sq sa sf sw sl sb yq yf ya yw yl yd) (hm : m < 16) :
    ∃ k, k < 16 ∧ bt tk k = false ∧ ∀ j, j < k → bt tk j = true := by
  have hex : ∃ k, k < 16 ∧ bt tk k = false := by
    apply Classical.byContradiction
    intro hn
    have := pg_on 16 m sg (fun k hk => (h.2.2.2.1 k).mp (by
      cases hb : bt tk k with
      | true => rfl
      | false => exact absurd ⟨k, hk, hb⟩ hn))
    omega
  obtain ⟨k, ⟨hk, hb⟩, hl⟩ := pk_least (fun k => k < 16 ∧ bt tk k = false) hex
  refine ⟨k, hk, hb, fun j hj => ?_⟩
  cases hb : bt tk j with
  | true => rfl
  | false => exact absurd ⟨by omega, hb⟩ (hl j hj)

/-! rings -/
theorem rg_in {n : Int} {e : Nat} {a : Nat → Int32} {w z : Int} {x : Int32} (hn : 0 < n) (hw : 0 ≤ w ∧ w < n) : rg n e (upd a ((n * e + w).toNat) x) z = if z % n = w then x else rg n e a z := by
  unfold rg upd
  have h0 : 0 ≤ n * (e : Int) := Int.mul_nonneg (by omega) (by omega)
  have h1 := Int.emod_nonneg z (show n ≠ 0 by omega)
  by_cases h : z % n = w
  · rw [if_pos h, if_pos (by rw [h])]
  · rw [if_neg h, if_neg (by generalize n * (e : Int) = ne at *; generalize z % n = zn at *; omega)]
theorem rg_out {n : Int} {e e' : Nat} {a : Nat → Int32} {w : Int} {x : Int32} (hn : 0 < n) (hw : 0 ≤ w ∧ w < n) (he : e < 2) (he' : e' < 2) (hne : e' ≠ e) : rg n e' (upd a ((n * e + w).toNat) x) = rg n e' a := by
  funext z
  unfold rg upd
  have h1 := Int.emod_nonneg z (show n ≠ 0 by omega)
  have h2 := Int.emod_lt_of_pos z hn
  have c : e = 0 ∨ e = 1 := by omega
  have c' : e' = 0 ∨ e' = 1 := by omega
  rw [if_neg]
  generalize z % n = zn at *
  rcases c with rfl | rfl <;> rcases c' with rfl | rfl <;> simp <;> omega
/-- another array, changed at cell k of end e's ring of n cells, or at w cells from k on -/
def ch (n : Int) (e : Nat) (k w : Int) (a a' : Nat → Int32) : Prop := rg n (1 - e) a' = rg n (1 - e) a ∧ ∀ z, 0 ≤ z → z < n → (z < k ∨ k + w ≤ z) → rg n e a' z = rg n e a z
theorem ch_0 {n : Int} {e : Nat} {k w : Int} {a : Nat → Int32} : ch n e k w a a := ⟨rfl, fun _ _ _ _ => rfl⟩
theorem ch_u {n : Int} {e : Nat} {k w i : Int} {a a' : Nat → Int32} {x : Int32} (hn : 0 < n) (he : e < 2) (hi : 0 ≤ i ∧ i < n ∧ k ≤ i ∧ i < k + w) (h : ch n e k w a a') : ch n e k w a (upd a' ((n * e + i).toNat) x) := by
  refine ⟨by rw [rg_out hn ⟨hi.1, hi.2.1⟩ he (by omega) (by omega)]; exact h.1, fun z h0 h1 hz => ?_⟩
  rw [rg_in hn ⟨hi.1, hi.2.1⟩, if_neg (by rw [Int.emod_eq_of_lt h0 h1]; omega)]
  exact h.2 z h0 h1 hz
/-- a segment comes into a row -/
theorem EW_put {e m : Nat} {sg : Nat → Nat} {k : Nat} {mn tk tk' : Int32} {q f a w n : Int} {a_segSeq a_segAck a_segFlags a_segWindow a_segLength a_segBytes a_row b_seq b_flags b_acked b_window b_many b_data c_segSeq c_segAck c_segFlags c_segWindow c_segLength c_segBytes d_seq d_flags d_acked d_window d_many d_data : Nat → Int32}
    (he : e < 2) (hR : ER e m sg mn (rg 16 e a_row)) (hS : ES m sg tk (rg 16 e a_segSeq) (rg 16 e a_segAck) (rg 16 e a_segFlags) (rg 16 e a_segWindow) (rg 16 e a_segLength) (rg 128 e a_segBytes) (rg 16 e b_seq) (rg 16 e b_flags) (rg 16 e b_acked) (rg 16 e b_window) (rg 16 e b_many) (rg 128 e b_data))
    (hm : m < 16) (hk : k < 16) (hb : bt tk k = false) (ht : ∀ i, bt tk' i = (bt tk i || decide (i = k)))
    (x1 : ch 16 e k 1 a_segSeq c_segSeq) (x2 : ch 16 e k 1 a_segAck c_segAck) (x3 : ch 16 e k 1 a_segFlags c_segFlags) (x4 : ch 16 e k 1 a_segWindow c_segWindow) (x5 : ch 16 e k 1 a_segLength c_segLength) (x6 : ch 128 e (8 * k) 8 a_segBytes c_segBytes)
    (y1 : ch 16 e m 1 b_seq d_seq) (y2 : ch 16 e m 1 b_flags d_flags) (y3 : ch 16 e m 1 b_acked d_acked) (y4 : ch 16 e m 1 b_window d_window) (y5 : ch 16 e m 1 b_many d_many) (y6 : ch 128 e (8 * m) 8 b_data d_data)
    (g : SG q f a w n k m (rg 16 e c_segSeq) (rg 16 e c_segAck) (rg 16 e c_segFlags) (rg 16 e c_segWindow) (rg 16 e c_segLength) (rg 128 e c_segBytes) (rg 16 e d_seq) (rg 16 e d_flags) (rg 16 e d_acked) (rg 16 e d_window) (rg 16 e d_many) (rg 128 e d_data)) :
    EW e (rg 16 e c_segSeq) (rg 16 e c_segAck) (rg 16 e c_segFlags) (rg 16 e c_segWindow) (rg 16 e c_segLength) (rg 128 e c_segBytes) (rg 16 e (upd a_row ((16 * (e : Int) + m).toNat) (zI (16 * (e : Int) + k)))) (zI (m + 1)) tk' (rg 16 e d_seq) (rg 16 e d_flags) (rg 16 e d_acked) (rg 16 e d_window) (rg 16 e d_many) (rg 128 e d_data) (zI (m + 1)) := by
  obtain ⟨s1, s2, s3, s4, s5⟩ := hS
  have hfree : ∀ i, i < m → sg i ≠ k := fun i hi z => by
    have := (s4 k).mpr ⟨i, hi, z⟩
    rw [hb] at this; cases this
  obtain ⟨sg', j1, j2⟩ : ∃ sg' : Nat → Nat, sg' m = k ∧ ∀ i, i ≠ m → sg' i = sg i := ⟨fun i => if i = m then k else sg i, if_pos rfl, fun i h => if_neg h⟩
  refine ⟨m + 1, sg', rfl, ⟨rfl, fun i hi => ?_⟩, by omega, fun i hi => ?_, fun i j hi hj hij => ?_, fun b => ?_, fun i hi => ?_⟩
  · rw [rg_in (by decide) (by omega)]
    by_cases z : i = m
    · subst z; rw [if_pos (by omega), j1]
    · rw [if_neg (by omega), j2 i z]; exact hR.2 i (by omega)
  · by_cases z : i = m
    · rw [z, j1]; exact hk
    · rw [j2 i z]; exact s2 i (by omega)
  · by_cases z : i = m
    · by_cases z' : j = m
      · omega
      · rw [z, j1, j2 j z'] at hij
        exact absurd hij.symm (hfree j (by omega))
    · by_cases z' : j = m
      · rw [j2 i z, z', j1] at hij
        exact absurd hij (hfree i (by omega))
      · rw [j2 i z, j2 j z'] at hij
        exact s3 i j (by omega) (by omega) hij
  · rw [ht b, Bool.or_eq_true, s4 b, decide_eq_true_iff]
    constructor
    · rintro (⟨i, hi, hs⟩ | rfl)
      · exact ⟨i, by omega, by rw [j2 i (by omega)]; exact hs⟩
      · exact ⟨m, by omega, j1⟩
    · rintro ⟨i, hi, hs⟩
      by_cases z : i = m
      · rw [z, j1] at hs; exact Or.inr hs.symm
      · rw [j2 i z] at hs; exact Or.inl ⟨i, by omega, hs⟩
  · by_cases z : i = m
    · subst z
      refine ⟨q, f, a, w, n, ?_⟩
      rw [j1]; exact g
    · rw [j2 i z]
      obtain ⟨q, f, a, w, n, g1, g2, g3, g4, g5, g6⟩ := s5 i (by omega)
      have h1 := s2 i (by omega)
      have h2 := hfree i (by omega)
      refine ⟨q, f, a, w, n, ?_, ?_, ?_, ?_, ?_, fun y hy hy' => ?_⟩
      · rw [x1.2 _ (by omega) (by omega) (by omega), y1.2 _ (by omega) (by omega) (by omega)]; exact g1
      · rw [x3.2 _ (by omega) (by omega) (by omega), y2.2 _ (by omega) (by omega) (by omega)]; exact g2
      · rw [x2.2 _ (by omega) (by omega) (by omega), y3.2 _ (by omega) (by omega) (by omega)]; exact g3
      · rw [x4.2 _ (by omega) (by omega) (by omega), y4.2 _ (by omega) (by omega) (by omega)]; exact g4
      · rw [x5.2 _ (by omega) (by omega) (by omega), y5.2 _ (by omega) (by omega) (by omega)]; exact g5
      · have := g5.2.2.2
        rw [x6.2 _ (by omega) (by omega) (by omega), y6.2 _ (by omega) (by omega) (by omega)]; exact g6 y hy hy'
end
section
/-! slots and rows: the walks -/
section
variable {e : Nat} {L now : Int} {st er tr iss una nxt mx la cl irs rcv fi un fst wnd pk hf rto sa smo tm si rt wt rs nr nw ns : Int} {f_now f_sent : Int32} {a_state a_error a_tries a_iss a_una a_nxt a_max a_last a_closing a_kept a_rcv a_first a_held a_fin a_unread a_came a_ended a_wnd a_peak a_half a_same a_setBy a_setAt a_isSet a_rto a_smooth a_spread a_timed a_since a_retry a_waits a_rest a_segSeq a_segAck a_segFlags a_segWindow a_segLength a_segBytes a_row a_many a_taken : Nat → Int32} {g_now g_sent : Int32} {b_seq b_flags b_acked b_window b_many b_data b_rows b_state b_error b_iss : Nat → Int32} {b_una b_nxt b_max b_last : Nat → Int64} {b_closed b_written b_irs b_unread b_bytes b_held : Nat → Int32} {b_rcv b_finAt : Nat → Int64} {b_marked b_wnd b_peak b_half b_rto b_same b_tries b_smooth b_spread b_byNumber b_byAck b_sampled b_told b_retry b_ackAt b_waitAt b_timedAt : Nat → Int32} {b_timed : Nat → Int64}
theorem x_enq_l {post : Int32 → SX → Prop} {m k : Nat} (he : e < 2) (xm : a_many e = zI m) (hm : m < 16) (hk : k < 16) (hb : bt (a_taken e) k = false) (hl : ∀ j, j < k → bt (a_taken e) j = true)
    (K : post (zI (16 * e + k)) (f_now, f_sent, a_state, a_error, a_tries, a_iss, a_una, a_nxt, a_max, a_last, a_closing, a_kept, a_rcv, a_first, a_held, a_fin, a_unread, a_came, a_ended, a_wnd, a_peak, a_half, a_same, a_setBy, a_setAt, a_isSet, a_rto, a_smooth, a_spread, a_timed, a_since, a_retry, a_waits, a_rest, a_segSeq, a_segAck, a_segFlags, a_segWindow, a_segLength, a_segBytes, upd a_row ((16 * (e : Int) + m).toNat) (zI (16 * (e : Int) + k)), upd a_many e (zI (m + 1)), upd a_taken e (a_taken e ||| (zI 1 <<< (zI k &&& zI 31))))) :
    ∀ d j n, j + d = k → d < n → wX_enqueue_15 post (zI e) f_now f_sent a_state a_error a_tries a_iss a_una a_nxt a_max a_last a_closing a_kept a_rcv a_first a_held a_fin a_unread a_came a_ended a_wnd a_peak a_half a_same a_setBy a_setAt a_isSet a_rto a_smooth a_spread a_timed a_since a_retry a_waits a_rest a_segSeq a_segAck a_segFlags a_segWindow a_segLength a_segBytes a_row a_many a_taken n (zI j) := by
  intro d
  induction d with
  | zero =>
    intro j n hj hn
    obtain ⟨n, rfl⟩ : ∃ n', n = n' + 1 := ⟨n - 1, by omega⟩
    have hj : j = k := by omega
    subst hj
    have hc := (bb_sh (a_taken e) j (by omega)).mpr hb
    rw [wX_enqueue_15]
    simp (disch := omega) only [e_in he, e_cl he, xm, hc, zl_0, zl_1, zl_2, zl_3, zl_4, zl_5, zl_6, zl_7, zl_8, zl_10, zl_16, zl_20, zl_24, zl_31, zl_32, zl_64, zl_255, zl_65535, zI_add, zI_mul, zI_8, zI_n8, zI_cl, zI_in, true_and, and_true, true_implies, false_implies, forall_eq, not_true_eq_false, not_false_eq_true, implies_true, forall_const]
    exact K
  | succ d ih =>
    intro j n hj hn
    obtain ⟨n, rfl⟩ : ∃ n', n = n' + 1 := ⟨n - 1, by omega⟩
    have hc : ¬ ((a_taken e >>> (zI j &&& zI 31)) &&& zI 1) = zI 0 := fun z => by
      have := (bb_sh (a_taken e) j (by omega)).mp z
      rw [hl j (by omega)] at this; cases this
    rw [wX_enqueue_15]
    simp only [e_in he, e_cl he, hc, zl_0, zl_1, zl_2, zl_3, zl_4, zl_5, zl_6, zl_7, zl_8, zl_10, zl_16, zl_20, zl_24, zl_31, zl_32, zl_64, zl_255, zl_65535, zI_add, true_and, and_true, true_implies, false_implies, forall_eq, not_true_eq_false, not_false_eq_true, implies_true, forall_const]
    exact ih (j + 1) n (by omega) (by omega)
theorem x_enq {post : Int32 → SX → Prop} {m k : Nat} (he : e < 2) (xm : a_many e = zI m) (hm : m < 16) (hk : k < 16) (hb : bt (a_taken e) k = false) (hl : ∀ j, j < k → bt (a_taken e) j = true)
    (K : post (zI (16 * e + k)) (f_now, f_sent, a_state, a_error, a_tries, a_iss, a_una, a_nxt, a_max, a_last, a_closing, a_kept, a_rcv, a_first, a_held, a_fin, a_unread, a_came, a_ended, a_wnd, a_peak, a_half, a_same, a_setBy, a_setAt, a_isSet, a_rto, a_smooth, a_spread, a_timed, a_since, a_retry, a_waits, a_rest, a_segSeq, a_segAck, a_segFlags, a_segWindow, a_segLength, a_segBytes, upd a_row ((16 * (e : Int) + m).toNat) (zI (16 * (e : Int) + k)), upd a_many e (zI (m + 1)), upd a_taken e (a_taken e ||| (zI 1 <<< (zI k &&& zI 31))))) :
    wpX_enqueue post (f_now, f_sent, a_state, a_error, a_tries, a_iss, a_una, a_nxt, a_max, a_last, a_closing, a_kept, a_rcv, a_first, a_held, a_fin, a_unread, a_came, a_ended, a_wnd, a_peak, a_half, a_same, a_setBy, a_setAt, a_isSet, a_rto, a_smooth, a_spread, a_timed, a_since, a_retry, a_waits, a_rest, a_segSeq, a_segAck, a_segFlags, a_segWindow, a_segLength, a_segBytes, a_row, a_many, a_taken) (zI e) := by
  unfold wpX_enqueue
  have hc : ¬ zI (m : Int) = zI 16 := by rw [zI_eq (by omega)]; omega
  simp only [e_in he, e_cl he, xm, hc, zl_16, true_and, and_true, true_implies, false_implies, forall_eq, not_true_eq_false, not_false_eq_true, implies_true, forall_const]
  exact ⟨k + 1, x_enq_l he xm hm hk hb hl K k 0 (k + 1) (by omega) (by omega)⟩
theorem x_enq_f {post : Int32 → SX → Prop} (he : e < 2) (xm : a_many e = zI 16) (K : post (zI (-1)) (f_now, f_sent, a_state, a_error, a_tries, a_iss, a_una, a_nxt, a_max, a_last, a_closing, a_kept, a_rcv, a_first, a_held, a_fin, a_unread, a_came, a_ended, a_wnd, a_peak, a_half, a_same, a_setBy, a_setAt, a_isSet, a_rto, a_smooth, a_spread, a_timed, a_since, a_retry, a_waits, a_rest, a_segSeq, a_segAck, a_segFlags, a_segWindow, a_segLength, a_segBytes, a_row, a_many, a_taken)) : wpX_enqueue post (f_now, f_sent, a_state, a_error, a_tries, a_iss, a_una, a_nxt, a_max, a_last, a_closing, a_kept, a_rcv, a_first, a_held, a_fin, a_unread, a_came, a_ended, a_wnd, a_peak, a_half, a_same, a_setBy, a_setAt, a_isSet, a_rto, a_smooth, a_spread, a_timed, a_since, a_retry, a_waits, a_rest, a_segSeq, a_segAck, a_segFlags, a_segWindow, a_segLength, a_segBytes, a_row, a_many, a_taken) (zI e) := by
  unfold wpX_enqueue
  simp only [e_in he, e_cl he, xm, zl_16, true_and, and_true, true_implies, false_implies, forall_eq, not_true_eq_false, not_false_eq_true, implies_true, forall_const]
  exact K
theorem x_slot {post : Int32 → SX → Prop} {m k : Nat} (he : e < 2) (xm : a_many e = zI m) (hm : m < 16) (hk : k < 16) (hb : bt (a_taken e) k = false) (hl : ∀ j, j < k → bt (a_taken e) j = true)
    (K : post (zI (16 * e + k)) (f_now, f_sent + 1, a_state, a_error, a_tries, a_iss, a_una, a_nxt, a_max, a_last, a_closing, a_kept, a_rcv, a_first, a_held, a_fin, a_unread, a_came, a_ended, a_wnd, a_peak, a_half, a_same, a_setBy, a_setAt, a_isSet, a_rto, a_smooth, a_spread, a_timed, a_since, a_retry, a_waits, a_rest, a_segSeq, a_segAck, a_segFlags, a_segWindow, a_segLength, a_segBytes, upd a_row ((16 * (e : Int) + m).toNat) (zI (16 * (e : Int) + k)), upd a_many e (zI (m + 1)), upd a_taken e (a_taken e ||| (zI 1 <<< (zI k &&& zI 31))))) :
    wpX_slot post (f_now, f_sent, a_state, a_error, a_tries, a_iss, a_una, a_nxt, a_max, a_last, a_closing, a_kept, a_rcv, a_first, a_held, a_fin, a_unread, a_came, a_ended, a_wnd, a_peak, a_half, a_same, a_setBy, a_setAt, a_isSet, a_rto, a_smooth, a_spread, a_timed, a_since, a_retry, a_waits, a_rest, a_segSeq, a_segAck, a_segFlags, a_segWindow, a_segLength, a_segBytes, a_row, a_many, a_taken) (zI e) := by
  unfold wpX_slot
  exact nm_e (x_enq he xm hm hk hb hl K)
theorem x_slot_f {post : Int32 → SX → Prop} (he : e < 2) (xm : a_many e = zI 16) (K : post (zI (-1)) (f_now, f_sent + 1, a_state, a_error, a_tries, a_iss, a_una, a_nxt, a_max, a_last, a_closing, a_kept, a_rcv, a_first, a_held, a_fin, a_unread, a_came, a_ended, a_wnd, a_peak, a_half, a_same, a_setBy, a_setAt, a_isSet, a_rto, a_smooth, a_spread, a_timed, a_since, a_retry, a_waits, a_rest, a_segSeq, a_segAck, a_segFlags, a_segWindow, a_segLength, a_segBytes, a_row, a_many, a_taken)) : wpX_slot post (f_now, f_sent, a_state, a_error, a_tries, a_iss, a_una, a_nxt, a_max, a_last, a_closing, a_kept, a_rcv, a_first, a_held, a_fin, a_unread, a_came, a_ended, a_wnd, a_peak, a_half, a_same, a_setBy, a_setAt, a_isSet, a_rto, a_smooth, a_spread, a_timed, a_since, a_retry, a_waits, a_rest, a_segSeq, a_segAck, a_segFlags, a_segWindow, a_segLength, a_segBytes, a_row, a_many, a_taken) (zI e) := by
  unfold wpX_slot
  exact nm_e (x_enq_f he xm K)
theorem x_stamp {post : SX → Prop} {s q f a w : Int} (hs : 0 ≤ s ∧ s < 32) (hf : 0 ≤ f ∧ f < 16) (hw : 0 ≤ w ∧ w ≤ 24)
    (K : post (f_now, f_sent, a_state, a_error, a_tries, a_iss, a_una, a_nxt, a_max, a_last, a_closing, a_kept, a_rcv, a_first, a_held, a_fin, a_unread, a_came, a_ended, a_wnd, a_peak, a_half, a_same, a_setBy, a_setAt, a_isSet, a_rto, a_smooth, a_spread, a_timed, a_since, a_retry, a_waits, a_rest, upd a_segSeq s.toNat (zI q), upd a_segAck s.toNat (zI (if f / 2 % 2 = 0 then 0 else a)), upd a_segFlags s.toNat (zI f), upd a_segWindow s.toNat (zI w), upd a_segLength s.toNat (zI 0), a_segBytes, a_row, a_many, a_taken)) :
    wpX_stamp post (f_now, f_sent, a_state, a_error, a_tries, a_iss, a_una, a_nxt, a_max, a_last, a_closing, a_kept, a_rcv, a_first, a_held, a_fin, a_unread, a_came, a_ended, a_wnd, a_peak, a_half, a_same, a_setBy, a_setAt, a_isSet, a_rto, a_smooth, a_spread, a_timed, a_since, a_retry, a_waits, a_rest, a_segSeq, a_segAck, a_segFlags, a_segWindow, a_segLength, a_segBytes, a_row, a_many, a_taken) (zI s) (zI q) (zI f) (zI a) (zI w) := by
  unfold wpX_stamp wX_stamp_32
  by_cases h : f / 2 % 2 = 0
  · rw [if_pos h] at K
    simp (disch := omega) only [zI_in, zI_cl, zI_8, zI_n8, zl_0, zl_2, fl_2, zI_eq, h, true_and, and_true, true_implies, false_implies, forall_eq, not_true_eq_false, not_false_eq_true, implies_true, forall_const]
    exact br_t (by omega) K
  · rw [if_neg h] at K
    simp (disch := omega) only [zI_in, zI_cl, zI_8, zI_n8, zl_0, zl_2, fl_2, zI_eq, true_and, and_true, true_implies, false_implies, forall_eq, not_true_eq_false, not_false_eq_true, implies_true, forall_const]
    exact br_f (by omega) K
theorem y_post {post : Int32 → SY → Prop} {m : Nat} {q f a w : Int32} (he : e < 2) (ym : b_rows e = zI m) (hm : m < 16)
    (K : post (zI 1) (g_now, g_sent + 1, upd b_seq ((16 * (e : Int) + m).toNat) q, upd b_flags ((16 * (e : Int) + m).toNat) f, upd b_acked ((16 * (e : Int) + m).toNat) a, upd b_window ((16 * (e : Int) + m).toNat) w, upd b_many ((16 * (e : Int) + m).toNat) (zI 0), b_data, upd b_rows e (zI (m + 1)), b_state, b_error, b_iss, b_una, b_nxt, b_max, b_last, b_closed, b_written, b_irs, b_unread, b_bytes, b_held, b_rcv, b_finAt, b_marked, b_wnd, b_peak, b_half, b_rto, b_same, b_tries, b_smooth, b_spread, b_byNumber, b_byAck, b_sampled, b_told, b_retry, b_ackAt, b_waitAt, b_timedAt, b_timed)) :
    wpY_post post (g_now, g_sent, b_seq, b_flags, b_acked, b_window, b_many, b_data, b_rows, b_state, b_error, b_iss, b_una, b_nxt, b_max, b_last, b_closed, b_written, b_irs, b_unread, b_bytes, b_held, b_rcv, b_finAt, b_marked, b_wnd, b_peak, b_half, b_rto, b_same, b_tries, b_smooth, b_spread, b_byNumber, b_byAck, b_sampled, b_told, b_retry, b_ackAt, b_waitAt, b_timedAt, b_timed) (zI e) q f a w := by
  unfold wpY_post
  have hc : ¬ zI (m : Int) = zI 16 := by rw [zI_eq (by omega)]; omega
  refine nm_e ?_
  simp (disch := omega) only [e_in he, e_cl he, ym, hc, zl_16, zl_0, zI_add, zI_mul, zI_in, zI_cl, true_and, and_true, true_implies, false_implies, forall_eq, not_true_eq_false, not_false_eq_true, implies_true, forall_const]
  simp (disch := omega) only [zl_1, zI_add]
  exact K
theorem y_post_f {post : Int32 → SY → Prop} {q f a w : Int32} (he : e < 2) (ym : b_rows e = zI 16) (K : post (zI 0) (g_now, g_sent + 1, b_seq, b_flags, b_acked, b_window, b_many, b_data, b_rows, b_state, b_error, b_iss, b_una, b_nxt, b_max, b_last, b_closed, b_written, b_irs, b_unread, b_bytes, b_held, b_rcv, b_finAt, b_marked, b_wnd, b_peak, b_half, b_rto, b_same, b_tries, b_smooth, b_spread, b_byNumber, b_byAck, b_sampled, b_told, b_retry, b_ackAt, b_waitAt, b_timedAt, b_timed)) : wpY_post post (g_now, g_sent, b_seq, b_flags, b_acked, b_window, b_many, b_data, b_rows, b_state, b_error, b_iss, b_una, b_nxt, b_max, b_last, b_closed, b_written, b_irs, b_unread, b_bytes, b_held, b_rcv, b_finAt, b_marked, b_wnd, b_peak, b_half, b_rto, b_same, b_tries, b_smooth, b_spread, b_byNumber, b_byAck, b_sampled, b_told, b_retry, b_ackAt, b_waitAt, b_timedAt, b_timed) (zI e) q f a w := by
  unfold wpY_post
  refine nm_e ?_
  simp only [e_in he, e_cl he, ym, zl_16, true_and, and_true, true_implies, false_implies, forall_eq, not_true_eq_false, not_false_eq_true, implies_true, forall_const]
  exact K
end
end
section
/-! emit and send -/
section
variable {e : Nat} {L now : Int} {st er tr iss una nxt mx la cl irs rcv fi un fst wnd pk hf rto sa smo tm si rt wt rs nr nw ns : Int} {f_now f_sent : Int32} {a_state a_error a_tries a_iss a_una a_nxt a_max a_last a_closing a_kept a_rcv a_first a_held a_fin a_unread a_came a_ended a_wnd a_peak a_half a_same a_setBy a_setAt a_isSet a_rto a_smooth a_spread a_timed a_since a_retry a_waits a_rest a_segSeq a_segAck a_segFlags a_segWindow a_segLength a_segBytes a_row a_many a_taken : Nat → Int32} {g_now g_sent : Int32} {b_seq b_flags b_acked b_window b_many b_data b_rows b_state b_error b_iss : Nat → Int32} {b_una b_nxt b_max b_last : Nat → Int64} {b_closed b_written b_irs b_unread b_bytes b_held : Nat → Int32} {b_rcv b_finAt : Nat → Int64} {b_marked b_wnd b_peak b_half b_rto b_same b_tries b_smooth b_spread b_byNumber b_byAck b_sampled b_told b_retry b_ackAt b_waitAt b_timedAt : Nat → Int32} {b_timed : Nat → Int64} {u0 : SX} {v0 : SY}
theorem FR_s {u u' : SX} {v v' : SY} (F : FR e u0 v0 u v) (hx : vX (1 - e) u' = vX (1 - e) u) (hy : vY (1 - e) v' = vY (1 - e) v) (hs : u'.2.1 - v'.2.1 = u.2.1 - v.2.1) : FR e u0 v0 u' v' :=
  ⟨hx.trans F.1, hy.trans F.2.1, hs.trans F.2.2⟩
theorem lk_em1 (he : e < 2) (hne : 1 - e ≠ e) (h2 : 2 ≤ st) (R : RZ e L now st er tr iss una nxt mx la cl irs rcv fi un fst wnd pk hf rto sa smo tm si rt wt rs nr nw ns u0 v0 (f_now, f_sent, a_state, a_error, a_tries, a_iss, a_una, a_nxt, a_max, a_last, a_closing, a_kept, a_rcv, a_first, a_held, a_fin, a_unread, a_came, a_ended, a_wnd, a_peak, a_half, a_same, a_setBy, a_setAt, a_isSet, a_rto, a_smooth, a_spread, a_timed, a_since, a_retry, a_waits, a_rest, a_segSeq, a_segAck, a_segFlags, a_segWindow, a_segLength, a_segBytes, a_row, a_many, a_taken) (g_now, g_sent, b_seq, b_flags, b_acked, b_window, b_many, b_data, b_rows, b_state, b_error, b_iss, b_una, b_nxt, b_max, b_last, b_closed, b_written, b_irs, b_unread, b_bytes, b_held, b_rcv, b_finAt, b_marked, b_wnd, b_peak, b_half, b_rto, b_same, b_tries, b_smooth, b_spread, b_byNumber, b_byAck, b_sampled, b_told, b_retry, b_ackAt, b_waitAt, b_timedAt, b_timed)) :
    LK ap0 aq0 (fun p => wX_emit_191 p (zI e) f_now f_sent a_state a_error a_tries a_iss a_una a_nxt a_max a_last a_closing a_kept a_rcv a_first a_held a_fin a_unread a_came a_ended a_wnd a_peak a_half a_same a_setBy a_setAt a_isSet a_rto a_smooth a_spread a_timed a_since a_retry a_waits a_rest a_segSeq a_segAck a_segFlags a_segWindow a_segLength a_segBytes a_row a_many a_taken) (fun p => wY_send_257 p (zI e) g_now g_sent b_seq b_flags b_acked b_window b_many b_data b_rows b_state b_error b_iss b_una b_nxt b_max b_last b_closed b_written b_irs b_unread b_bytes b_held b_rcv b_finAt b_marked b_wnd b_peak b_half b_rto b_same b_tries b_smooth b_spread b_byNumber b_byAck b_sampled b_told b_retry b_ackAt b_waitAt b_timedAt b_timed) (fun u v => RZ e L now st er tr iss una nxt mx la cl irs rcv fi un fst wnd pk hf rto sa smo tm si (if rt < 0 then now + rto else rt) wt rs nr nw ns u0 v0 u v) := by
  obtain ⟨R, F⟩ := R
  obtain ⟨rfl, rfl, xst, xer, xtr, xiss, xuna, xnxt, xmx, xla, xcl, xrcv, xfst, xfi, xun, xen, xwnd, xpk, xhf, xrto, xsm, xsb, xsa, xis, xsmo, xspr, xtm, xsi, xrt, xwt, xrs, yst, yer, ytr, yiss, yuna, ynxt, ymx, yla, ycl, yirs, yrcv, yfi, yun, ywnd, ypk, yhf, yrto, ysa, ysmo, ytm, ysi, yrt, ywt, yrs, I1, I3, I4, I5, K, C, H, W⟩ := RE_el R
  have b4 := I4
  have b5 := E5_b I5
  unfold E4 at b4
  unfold wX_emit_191 wY_send_257
  by_cases h : rt < 0
  · rw [if_pos h]
    simp (disch := omega) only [e_in he, e_cl he, xrt, yrt, xrto, yrto, zl_0, zI_le, zI_add, true_and, and_true, true_implies, false_implies, forall_eq, not_true_eq_false, not_false_eq_true, implies_true, forall_const]
    refine LX_f (by omega) (LY_f (by omega) (LK_r0 ⟨RE_in ⟨rfl, rfl, xst, xer, xtr, xiss, xuna, xnxt, xmx, xla, xcl, xrcv, xfst, xfi, xun, xen, xwnd, xpk, xhf, xrto, xsm, xsb, xsa, xis, xsmo, xspr, xtm, xsi, pk_us, xwt, xrs, yst, yer, ytr, yiss, yuna, ynxt, ymx, yla, ycl, yirs, yrcv, yfi, yun, ywnd, ypk, yhf, yrto, ysa, ysmo, ytm, ysi, pk_us, ywt, yrs, I1, I3, I4, E5_rt I5 (by omega), K, C, H, W⟩, FR_s F ?_ ?_ rfl⟩))
    · simp only [vX, pk_un hne]
    · simp only [vY, pk_un hne]
  · rw [if_neg h]
    simp (disch := omega) only [e_in he, e_cl he, xrt, yrt, xrto, yrto, zl_0, zI_le, zI_add, true_and, and_true, true_implies, false_implies, forall_eq, not_true_eq_false, not_false_eq_true, implies_true, forall_const]
    exact LX_t (by omega) (LY_t (by omega) (LK_r0 ⟨R, F⟩))
theorem lk_em2 {p ln : Int} (he : e < 2) (hne : 1 - e ≠ e) (h2 : 2 ≤ st) (hp : -100 ≤ p ∧ p ≤ 2199023255552 ∧ p - 100 ≤ mx ∧ mx ≤ p + 100) (hl : 0 ≤ ln ∧ ln ≤ 10) (R : RZ e L now st er tr iss una nxt mx la cl irs rcv fi un fst wnd pk hf rto sa smo tm si rt wt rs nr nw ns u0 v0 (f_now, f_sent, a_state, a_error, a_tries, a_iss, a_una, a_nxt, a_max, a_last, a_closing, a_kept, a_rcv, a_first, a_held, a_fin, a_unread, a_came, a_ended, a_wnd, a_peak, a_half, a_same, a_setBy, a_setAt, a_isSet, a_rto, a_smooth, a_spread, a_timed, a_since, a_retry, a_waits, a_rest, a_segSeq, a_segAck, a_segFlags, a_segWindow, a_segLength, a_segBytes, a_row, a_many, a_taken) (g_now, g_sent, b_seq, b_flags, b_acked, b_window, b_many, b_data, b_rows, b_state, b_error, b_iss, b_una, b_nxt, b_max, b_last, b_closed, b_written, b_irs, b_unread, b_bytes, b_held, b_rcv, b_finAt, b_marked, b_wnd, b_peak, b_half, b_rto, b_same, b_tries, b_smooth, b_spread, b_byNumber, b_byAck, b_sampled, b_told, b_retry, b_ackAt, b_waitAt, b_timedAt, b_timed)) :
    LK ap0 aq0 (fun q => wX_emit_160 q (zI e) (zI ((iss + p) % 65536)) (zI ln) f_now f_sent a_state a_error a_tries a_iss a_una a_nxt a_max a_last a_closing a_kept a_rcv a_first a_held a_fin a_unread a_came a_ended a_wnd a_peak a_half a_same a_setBy a_setAt a_isSet a_rto a_smooth a_spread a_timed a_since a_retry a_waits a_rest a_segSeq a_segAck a_segFlags a_segWindow a_segLength a_segBytes a_row a_many a_taken) (fun q => wY_send_231 q (zI e) (zL p) (zI ln) g_now g_sent b_seq b_flags b_acked b_window b_many b_data b_rows b_state b_error b_iss b_una b_nxt b_max b_last b_closed b_written b_irs b_unread b_bytes b_held b_rcv b_finAt b_marked b_wnd b_peak b_half b_rto b_same b_tries b_smooth b_spread b_byNumber b_byAck b_sampled b_told b_retry b_ackAt b_waitAt b_timedAt b_timed) (fun u v => RZ e L now st er tr iss una nxt (if mx < p + ln then p + ln else mx) la cl irs rcv fi un fst wnd pk hf rto sa smo tm si (if rt < 0 then now + rto else rt) wt rs nr nw ns u0 v0 u v) := by
  obtain ⟨R, F⟩ := R
  obtain ⟨rfl, rfl, xst, xer, xtr, xiss, xuna, xnxt, xmx, xla, xcl, xrcv, xfst, xfi, xun, xen, xwnd, xpk, xhf, xrto, xsm, xsb, xsa, xis, xsmo, xspr, xtm, xsi, xrt, xwt, xrs, yst, yer, ytr, yiss, yuna, ynxt, ymx, yla, ycl, yirs, yrcv, yfi, yun, ywnd, ypk, yhf, yrto, ysa, ysmo, ytm, ysi, yrt, ywt, yrs, I1, I3, I4, I5, K, C, H, W⟩ := RE_el R
  have xmx := xmx h2
  unfold wX_emit_160 wY_send_231
  by_cases h : mx < p + ln
  · rw [if_pos h]
    simp (disch := omega) only [e_in he, e_cl he, xmx, ymx, zl_0, zl_65535, zI_add, zI_m16, zm_add, x_offset, zo_pos, zI_le, zL_le, zI_l, zL_add, true_and, and_true, true_implies, false_implies, forall_eq, not_true_eq_false, not_false_eq_true, implies_true, forall_const]
    refine LX_f (by omega) (LY_f (by omega) ?_)
    refine lk_em1 he hne h2 ⟨RE_in ⟨rfl, rfl, xst, xer, xtr, xiss, xuna, xnxt, fun _ => pk_us, xla, xcl, xrcv, xfst, xfi, xun, xen, xwnd, xpk, xhf, xrto, xsm, xsb, xsa, xis, xsmo, xspr, xtm, xsi, xrt, xwt, xrs, yst, yer, ytr, yiss, yuna, ynxt, pk_uLs, yla, ycl, yirs, yrcv, yfi, yun, ywnd, ypk, yhf, yrto, ysa, ysmo, ytm, ysi, yrt, ywt, yrs, I1, I3, I4, I5, K, C, H, W⟩, FR_s F ?_ ?_ rfl⟩
    · simp only [vX, pk_un hne]
    · simp only [vY, pk_uLn hne]
  · rw [if_neg h]
    simp (disch := omega) only [e_in he, e_cl he, xmx, ymx, zl_0, zl_65535, zI_add, zI_m16, zm_add, x_offset, zo_pos, zI_le, zL_le, zI_l, zL_add, true_and, and_true, true_implies, false_implies, forall_eq, not_true_eq_false, not_false_eq_true, implies_true, forall_const]
    exact LX_t (by omega) (LY_t (by omega) (lk_em1 he hne h2 ⟨R, F⟩))
theorem lk_em3 {p n fx fy ln : Int} (he : e < 2) (hne : 1 - e ≠ e) (h2 : 2 ≤ st) (hp : -100 ≤ p ∧ p ≤ 2199023255552 ∧ p - 100 ≤ mx ∧ mx ≤ p + 100) (hn : 0 ≤ n ∧ n ≤ 8) (hfx : 0 ≤ fx ∧ fx < 16) (hfy : 0 ≤ fy ∧ fy < 16) (hlx : ln = n + fx % 2 + fx / 4 % 2) (hly : ln = n + fy % 2 + fy / 4 % 2) (hp0 : ln ≠ 0 → 0 ≤ p) (ht : -1 ≤ tm ∧ tm ≤ 2199023255552) (R : RZ e L now st er tr iss una nxt mx la cl irs rcv fi un fst wnd pk hf rto sa smo tm si rt wt rs nr nw ns u0 v0 (f_now, f_sent, a_state, a_error, a_tries, a_iss, a_una, a_nxt, a_max, a_last, a_closing, a_kept, a_rcv, a_first, a_held, a_fin, a_unread, a_came, a_ended, a_wnd, a_peak, a_half, a_same, a_setBy, a_setAt, a_isSet, a_rto, a_smooth, a_spread, a_timed, a_since, a_retry, a_waits, a_rest, a_segSeq, a_segAck, a_segFlags, a_segWindow, a_segLength, a_segBytes, a_row, a_many, a_taken) (g_now, g_sent, b_seq, b_flags, b_acked, b_window, b_many, b_data, b_rows, b_state, b_error, b_iss, b_una, b_nxt, b_max, b_last, b_closed, b_written, b_irs, b_unread, b_bytes, b_held, b_rcv, b_finAt, b_marked, b_wnd, b_peak, b_half, b_rto, b_same, b_tries, b_smooth, b_spread, b_byNumber, b_byAck, b_sampled, b_told, b_retry, b_ackAt, b_waitAt, b_timedAt, b_timed)) :
    LK ap0 aq0 (fun q => wX_emit_104 q (zI e) (zI ((iss + p) % 65536)) (zI fx) (zI n) f_now f_sent a_state a_error a_tries a_iss a_una a_nxt a_max a_last a_closing a_kept a_rcv a_first a_held a_fin a_unread a_came a_ended a_wnd a_peak a_half a_same a_setBy a_setAt a_isSet a_rto a_smooth a_spread a_timed a_since a_retry a_waits a_rest a_segSeq a_segAck a_segFlags a_segWindow a_segLength a_segBytes a_row a_many a_taken) (fun q => wY_send_170 q (zI e) (zL p) (zI fy) (zI n) g_now g_sent b_seq b_flags b_acked b_window b_many b_data b_rows b_state b_error b_iss b_una b_nxt b_max b_last b_closed b_written b_irs b_unread b_bytes b_held b_rcv b_finAt b_marked b_wnd b_peak b_half b_rto b_same b_tries b_smooth b_spread b_byNumber b_byAck b_sampled b_told b_retry b_ackAt b_waitAt b_timedAt b_timed)
      (fun u v => RZ e L now st er tr iss una nxt (if ln ≠ 0 ∧ mx < p + ln then p + ln else mx) la cl irs rcv fi un fst wnd pk hf rto sa smo (if ln ≠ 0 ∧ p = mx ∧ tm < 0 then p else tm) (if ln ≠ 0 ∧ p = mx ∧ tm < 0 then now else si) (if ln ≠ 0 ∧ rt < 0 then now + rto else rt) wt rs nr nw ns u0 v0 u v) := by
  obtain ⟨R, F⟩ := R
  obtain ⟨rfl, rfl, xst, xer, xtr, xiss, xuna, xnxt, xmx, xla, xcl, xrcv, xfst, xfi, xun, xen, xwnd, xpk, xhf, xrto, xsm, xsb, xsa, xis, xsmo, xspr, xtm, xsi, xrt, xwt, xrs, yst, yer, ytr, yiss, yuna, ynxt, ymx, yla, ycl, yirs, yrcv, yfi, yun, ywnd, ypk, yhf, yrto, ysa, ysmo, ytm, ysi, yrt, ywt, yrs, I1, I3, I4, I5, K, C, H, W⟩ := RE_el R
  have xmx' := xmx h2
  have nfr := nf_r iss tm
  have b5 := E5_b I5
  have e1 : n + fx % 2 + fx / 4 % 2 = ln := hlx.symm
  have e2 : n + fy % 2 + fy / 4 % 2 * 4 / 4 = ln := by omega
  unfold wX_emit_104 wY_send_170
  simp (disch := omega) only [e_in he, e_cl he, xmx', ymx, xtm, ytm, zl_0, zl_1, zl_2, zl_4, zl_31, zk_0, zI_add, zI_m1, zI_m5, fl_s, fl_4, zI_div, Int.reduceMod, e1, e2, zI_eq, zL_eq, zm_eq, zI_le, zL_le, nf_s', true_and, and_true, true_implies, false_implies, forall_eq, not_true_eq_false, not_false_eq_true, implies_true, forall_const]
  refine LY_a (by omega) ?_
  by_cases h0 : ln = 0
  · simp only [h0, ne_eq, false_and, if_false, true_and, and_true, true_implies, false_implies, forall_eq, not_true_eq_false, not_false_eq_true, implies_true, forall_const]
    exact LK_r0 ⟨R, F⟩
  · simp only [h0, ne_eq, true_and, and_true, true_implies, false_implies, forall_eq, not_true_eq_false, not_false_eq_true, implies_true, forall_const]
    by_cases h1 : p = mx
    · refine LX_t h1 (LY_t h1 ?_)
      by_cases h3 : tm < 0
      · have hc : p = mx ∧ tm < 0 := ⟨h1, h3⟩
        rw [if_pos hc, if_pos hc]
        refine LX_f (by omega) (LY_f (by omega) ?_)
        refine lk_em2 he hne h2 hp (by omega) ⟨RE_in ⟨rfl, rfl, xst, xer, xtr, xiss, xuna, xnxt, xmx, xla, xcl, xrcv, xfst, xfi, xun, xen, xwnd, xpk, xhf, xrto, xsm, xsb, xsa, xis, xsmo, xspr, ?_, pk_us, xrt, xwt, xrs, yst, yer, ytr, yiss, yuna, ynxt, ymx, yla, ycl, yirs, yrcv, yfi, yun, ywnd, ypk, yhf, yrto, ysa, ysmo, pk_uLs, pk_us, yrt, ywt, yrs, I1, I3, I4, E5_si I5, K, C, H, W⟩, FR_s F ?_ ?_ rfl⟩
        · rw [pk_us, nf_p (hp0 h0)]
        · simp only [vX, pk_un hne]
        · simp only [vY, pk_un hne, pk_uLn hne]
      · have hc : ¬ (p = mx ∧ tm < 0) := fun z => h3 z.2
        rw [if_neg hc, if_neg hc]
        exact LX_t (by omega) (LY_t (by omega) (lk_em2 he hne h2 hp (by omega) ⟨R, F⟩))
    · have hc : ¬ (p = mx ∧ tm < 0) := fun z => h1 z.1
      rw [if_neg hc, if_neg hc]
      exact LX_f h1 (LY_f h1 (lk_em2 he hne h2 hp (by omega) ⟨R, F⟩))
/-- bare: Y's word that the state is SYN_SENT -/
theorem lk_em4 {p n fx fy ln br : Int} (he : e < 2) (hne : 1 - e ≠ e) (h2 : 2 ≤ st) (hp : -100 ≤ p ∧ p ≤ 2199023255552 ∧ p - 100 ≤ mx ∧ mx ≤ p + 100) (hn : 0 ≤ n ∧ n ≤ 8) (hfx : 0 ≤ fx ∧ fx < 16) (hfy : 0 ≤ fy ∧ fy < 16) (hlx : ln = n + fx % 2 + fx / 4 % 2) (hly : ln = n + fy % 2 + fy / 4 % 2) (hbr : br = 0 ∧ fx / 2 % 2 = 1 ∨ br = 1 ∧ fx / 2 % 2 = 0) (hp0 : ln ≠ 0 → 0 ≤ p) (ht : -1 ≤ tm ∧ tm ≤ 2199023255552) (R : RZ e L now st er tr iss una nxt mx la cl irs rcv fi un fst wnd pk hf rto sa smo tm si rt wt rs nr nw ns u0 v0 (f_now, f_sent, a_state, a_error, a_tries, a_iss, a_una, a_nxt, a_max, a_last, a_closing, a_kept, a_rcv, a_first, a_held, a_fin, a_unread, a_came, a_ended, a_wnd, a_peak, a_half, a_same, a_setBy, a_setAt, a_isSet, a_rto, a_smooth, a_spread, a_timed, a_since, a_retry, a_waits, a_rest, a_segSeq, a_segAck, a_segFlags, a_segWindow, a_segLength, a_segBytes, a_row, a_many, a_taken) (g_now, g_sent, b_seq, b_flags, b_acked, b_window, b_many, b_data, b_rows, b_state, b_error, b_iss, b_una, b_nxt, b_max, b_last, b_closed, b_written, b_irs, b_unread, b_bytes, b_held, b_rcv, b_finAt, b_marked, b_wnd, b_peak, b_half, b_rto, b_same, b_tries, b_smooth, b_spread, b_byNumber, b_byAck, b_sampled, b_told, b_retry, b_ackAt, b_waitAt, b_timedAt, b_timed)) :
    LK ap0 aq0 (fun q => wX_emit_91 q (zI e) (zI ((iss + p) % 65536)) (zI fx) (zI n) f_now f_sent a_state a_error a_tries a_iss a_una a_nxt a_max a_last a_closing a_kept a_rcv a_first a_held a_fin a_unread a_came a_ended a_wnd a_peak a_half a_same a_setBy a_setAt a_isSet a_rto a_smooth a_spread a_timed a_since a_retry a_waits a_rest a_segSeq a_segAck a_segFlags a_segWindow a_segLength a_segBytes a_row a_many a_taken) (fun q => wY_send_158 q (zI e) (zL p) (zI fy) (zI n) (zI br) g_now g_sent b_seq b_flags b_acked b_window b_many b_data b_rows b_state b_error b_iss b_una b_nxt b_max b_last b_closed b_written b_irs b_unread b_bytes b_held b_rcv b_finAt b_marked b_wnd b_peak b_half b_rto b_same b_tries b_smooth b_spread b_byNumber b_byAck b_sampled b_told b_retry b_ackAt b_waitAt b_timedAt b_timed)
      (fun u v => RZ e L now st er tr iss una nxt (if ln ≠ 0 ∧ mx < p + ln then p + ln else mx) la cl irs rcv fi un fst wnd pk hf rto sa smo (if ln ≠ 0 ∧ p = mx ∧ tm < 0 then p else tm) (if ln ≠ 0 ∧ p = mx ∧ tm < 0 then now else si) (if ln ≠ 0 ∧ rt < 0 then now + rto else rt) (if br = 0 then -1 else wt) rs nr nw ns u0 v0 u v) := by
  obtain ⟨R, F⟩ := R
  obtain ⟨rfl, rfl, xst, xer, xtr, xiss, xuna, xnxt, xmx, xla, xcl, xrcv, xfst, xfi, xun, xen, xwnd, xpk, xhf, xrto, xsm, xsb, xsa, xis, xsmo, xspr, xtm, xsi, xrt, xwt, xrs, yst, yer, ytr, yiss, yuna, ynxt, ymx, yla, ycl, yirs, yrcv, yfi, yun, ywnd, ypk, yhf, yrto, ysa, ysmo, ytm, ysi, yrt, ywt, yrs, I1, I3, I4, I5, K, C, H, W⟩ := RE_el R
  have b5 := E5_b I5
  unfold wX_emit_91 wY_send_158
  simp (disch := omega) only [e_in he, e_cl he, zl_0, zl_1, zl_2, zI_neg, fl_2, zI_eq, true_and, and_true, true_implies, false_implies, forall_eq, not_true_eq_false, not_false_eq_true, implies_true, forall_const]
  by_cases h : br = 0
  · rw [if_pos h]
    refine LX_f (by omega) (LY_t h ?_)
    refine lk_em3 he hne h2 hp hn hfx hfy hlx hly hp0 ht ⟨RE_in ⟨rfl, rfl, xst, xer, xtr, xiss, xuna, xnxt, xmx, xla, xcl, xrcv, xfst, xfi, xun, xen, xwnd, xpk, xhf, xrto, xsm, xsb, xsa, xis, xsmo, xspr, xtm, xsi, xrt, pk_us, xrs, yst, yer, ytr, yiss, yuna, ynxt, ymx, yla, ycl, yirs, yrcv, yfi, yun, ywnd, ypk, yhf, yrto, ysa, ysmo, ytm, ysi, yrt, pk_us, yrs, I1, I3, I4, E5_wt I5 (Or.inl rfl), K, C, H, W⟩, FR_s F ?_ ?_ rfl⟩
    · simp only [vX, pk_un hne]
    · simp only [vY, pk_un hne]
  · rw [if_neg h]
    exact LX_t (by omega) (LY_f h (lk_em3 he hne h2 hp hn hfx hfy hlx hly hp0 ht ⟨R, F⟩))
end
end
section
/-! emit and send: the segment itself -/
section
variable {e : Nat} {L now : Int} {st er tr iss una nxt mx la cl irs rcv fi un fst wnd pk hf rto sa smo tm si rt wt rs nr nw ns : Int} {f_now f_sent : Int32} {a_state a_error a_tries a_iss a_una a_nxt a_max a_last a_closing a_kept a_rcv a_first a_held a_fin a_unread a_came a_ended a_wnd a_peak a_half a_same a_setBy a_setAt a_isSet a_rto a_smooth a_spread a_timed a_since a_retry a_waits a_rest a_segSeq a_segAck a_segFlags a_segWindow a_segLength a_segBytes a_row a_many a_taken : Nat → Int32} {g_now g_sent : Int32} {b_seq b_flags b_acked b_window b_many b_data b_rows b_state b_error b_iss : Nat → Int32} {b_una b_nxt b_max b_last : Nat → Int64} {b_closed b_written b_irs b_unread b_bytes b_held : Nat → Int32} {b_rcv b_finAt : Nat → Int64} {b_marked b_wnd b_peak b_half b_rto b_same b_tries b_smooth b_spread b_byNumber b_byAck b_sampled b_told b_retry b_ackAt b_waitAt b_timedAt : Nat → Int32} {b_timed : Nat → Int64} {u0 : SX} {v0 : SY}
theorem x_emit_l {k n : Nat} {seq : Int} (he : e < 2) (hk : k < 16) (hn : n ≤ 8) (hs : 0 ≤ seq ∧ seq < 65536) : ∀ (d i : Nat) (sb : Nat → Int32), i + d = n → ch 128 e (8 * k) 8 a_segBytes sb →
    (∀ y : Int, 0 ≤ y → y < i → rg 128 e sb (8 * k + y) = vp_nar .byte (rg 32 e a_kept (seq + y))) →
    ∃ sb', ch 128 e (8 * k) 8 a_segBytes sb' ∧ (∀ y : Int, 0 ≤ y → y < n → rg 128 e sb' (8 * k + y) = vp_nar .byte (rg 32 e a_kept (seq + y))) ∧
      ∀ {f_now f_sent : Int32} {a_state a_error a_tries a_iss a_una a_nxt a_max a_last a_closing a_rcv a_first a_held a_fin a_unread a_came a_ended a_wnd a_peak a_half a_same a_setBy a_setAt a_isSet a_rto a_smooth a_spread a_timed a_since a_retry a_waits a_rest a_segSeq a_segAck a_segFlags a_segWindow a_segLength a_row a_many a_taken : Nat → Int32} (post : SX → Prop) (x3 : Int32) (fuel : Nat), d < fuel → wX_emit_91 post (zI e) (zI seq) x3 (zI n) f_now f_sent a_state a_error a_tries a_iss a_una a_nxt a_max a_last a_closing a_kept a_rcv a_first a_held a_fin a_unread a_came a_ended a_wnd a_peak a_half a_same a_setBy a_setAt a_isSet a_rto a_smooth a_spread a_timed a_since a_retry a_waits a_rest a_segSeq a_segAck a_segFlags a_segWindow a_segLength sb' a_row a_many a_taken → wX_emit_48 post (zI e) (zI seq) x3 (zI n) (zI (16 * e + k)) f_now f_sent fuel (zI i) a_state a_error a_tries a_iss a_una a_nxt a_max a_last a_closing a_kept a_rcv a_first a_held a_fin a_unread a_came a_ended a_wnd a_peak a_half a_same a_setBy a_setAt a_isSet a_rto a_smooth a_spread a_timed a_since a_retry a_waits a_rest a_segSeq a_segAck a_segFlags a_segWindow a_segLength sb a_row a_many a_taken := by
  intro d
  induction d with
  | zero =>
    intro i sb hi h1 h2
    refine ⟨sb, h1, fun y hy hy' => h2 y hy (by omega), ?_⟩
    intro f_now f_sent a_state a_error a_tries a_iss a_una a_nxt a_max a_last a_closing a_rcv a_first a_held a_fin a_unread a_came a_ended a_wnd a_peak a_half a_same a_setBy a_setAt a_isSet a_rto a_smooth a_spread a_timed a_since a_retry a_waits a_rest a_segSeq a_segAck a_segFlags a_segWindow a_segLength a_row a_many a_taken post x3 fuel hf K
    obtain ⟨fuel, rfl⟩ : ∃ n', fuel = n' + 1 := ⟨fuel - 1, by omega⟩
    have hin : i = n := by omega
    subst hin
    rw [wX_emit_48]
    exact br_t (by rw [zI_le (by omega)]; omega) K
  | succ d ih =>
    intro i sb hi h1 h2
    have hidx : (8 * (16 * (e : Int) + k) + i).toNat = (128 * (e : Int) + (8 * k + i)).toNat := by omega
    obtain ⟨sb', c1, c2, c3⟩ := ih (i + 1) (upd sb ((128 * (e : Int) + (8 * k + i)).toNat) (vp_nar .byte (a_kept ((32 * (e : Int) + (seq + i) % 32).toNat)))) (by omega) (ch_u (by decide) he (by omega) h1) (fun y hy hy' => by
      rw [rg_in (by decide) (by omega)]
      by_cases z : y = i
      · subst z; rw [if_pos (by omega)]; rfl
      · rw [if_neg (by omega)]; exact h2 y hy (by omega))
    refine ⟨sb', c1, c2, ?_⟩
    intro f_now f_sent a_state a_error a_tries a_iss a_una a_nxt a_max a_last a_closing a_rcv a_first a_held a_fin a_unread a_came a_ended a_wnd a_peak a_half a_same a_setBy a_setAt a_isSet a_rto a_smooth a_spread a_timed a_since a_retry a_waits a_rest a_segSeq a_segAck a_segFlags a_segWindow a_segLength a_row a_many a_taken post x3 fuel hf K
    obtain ⟨fuel, rfl⟩ : ∃ n', fuel = n' + 1 := ⟨fuel - 1, by omega⟩
    have hc := c3 post x3 fuel (by omega) K
    rw [← hidx] at hc
    rw [wX_emit_48]
    simp (disch := omega) only [zl_32, zl_31, zl_8, zl_1, zI_add, zI_mul, zI_m5, zI_cl, zI_in, zI_le, true_and, and_true, true_implies, false_implies, forall_eq, not_true_eq_false, not_false_eq_true, implies_true, forall_const]
    exact br_f (by omega) hc
theorem y_send_l {m n : Nat} {p : Int} (he : e < 2) (hm : m < 16) (hn : n ≤ 8) : ∀ (d i : Nat) (dt : Nat → Int32), i + d = n → ch 128 e (8 * m) 8 b_data dt →
    (∀ y : Int, 0 ≤ y → y < i → rg 128 e dt (8 * m + y) = rg 64 e b_written (p + y)) →
    ∃ dt', ch 128 e (8 * m) 8 b_data dt' ∧ (∀ y : Int, 0 ≤ y → y < n → rg 128 e dt' (8 * m + y) = rg 64 e b_written (p + y)) ∧
      ∀ {g_now g_sent : Int32} {b_seq b_flags b_acked b_window b_many b_rows b_state b_error b_iss : Nat → Int32} {b_una b_nxt b_max b_last : Nat → Int64} {b_closed b_irs b_unread b_bytes b_held : Nat → Int32} {b_rcv b_finAt : Nat → Int64} {b_marked b_wnd b_peak b_half b_rto b_same b_tries b_smooth b_spread b_byNumber b_byAck b_sampled b_told b_retry b_ackAt b_waitAt b_timedAt : Nat → Int32} {b_timed : Nat → Int64} (post : SY → Prop) (x4 x6 : Int32) (fuel : Nat), d < fuel → wY_send_158 post (zI e) (zL p) x4 (zI n) x6 g_now g_sent b_seq b_flags b_acked b_window b_many dt' b_rows b_state b_error b_iss b_una b_nxt b_max b_last b_closed b_written b_irs b_unread b_bytes b_held b_rcv b_finAt b_marked b_wnd b_peak b_half b_rto b_same b_tries b_smooth b_spread b_byNumber b_byAck b_sampled b_told b_retry b_ackAt b_waitAt b_timedAt b_timed → wY_send_107 post (zI e) (zL p) x4 (zI n) x6 (zI 1) (zI (16 * e + m)) g_now g_sent fuel (zI i) b_seq b_flags b_acked b_window b_many dt b_rows b_state b_error b_iss b_una b_nxt b_max b_last b_closed b_written b_irs b_unread b_bytes b_held b_rcv b_finAt b_marked b_wnd b_peak b_half b_rto b_same b_tries b_smooth b_spread b_byNumber b_byAck b_sampled b_told b_retry b_ackAt b_waitAt b_timedAt b_timed := by
  intro d
  induction d with
  | zero =>
    intro i sb hi h1 h2
    refine ⟨sb, h1, fun y hy hy' => h2 y hy (by omega), ?_⟩
    intro g_now g_sent b_seq b_flags b_acked b_window b_many b_rows b_state b_error b_iss b_una b_nxt b_max b_last b_closed b_irs b_unread b_bytes b_held b_rcv b_finAt b_marked b_wnd b_peak b_half b_rto b_same b_tries b_smooth b_spread b_byNumber b_byAck b_sampled b_told b_retry b_ackAt b_waitAt b_timedAt b_timed post x4 x6 fuel hf K
    obtain ⟨fuel, rfl⟩ : ∃ n', fuel = n' + 1 := ⟨fuel - 1, by omega⟩
    have hin : i = n := by omega
    subst hin
    rw [wY_send_107]
    exact br_t (by rw [zI_le (by omega)]; omega) K
  | succ d ih =>
    intro i sb hi h1 h2
    have hidx : (8 * (16 * (e : Int) + m) + i).toNat = (128 * (e : Int) + (8 * m + i)).toNat := by omega
    obtain ⟨sb', c1, c2, c3⟩ := ih (i + 1) (upd sb ((128 * (e : Int) + (8 * m + i)).toNat) (b_written ((64 * (e : Int) + (p + i) % 64).toNat))) (by omega) (ch_u (by decide) he (by omega) h1) (fun y hy hy' => by
      rw [rg_in (by decide) (by omega)]
      by_cases z : y = i
      · subst z; rw [if_pos (by omega)]; rfl
      · rw [if_neg (by omega)]; exact h2 y hy (by omega))
    refine ⟨sb', c1, c2, ?_⟩
    intro g_now g_sent b_seq b_flags b_acked b_window b_many b_rows b_state b_error b_iss b_una b_nxt b_max b_last b_closed b_irs b_unread b_bytes b_held b_rcv b_finAt b_marked b_wnd b_peak b_half b_rto b_same b_tries b_smooth b_spread b_byNumber b_byAck b_sampled b_told b_retry b_ackAt b_waitAt b_timedAt b_timed post x4 x6 fuel hf K
    obtain ⟨fuel, rfl⟩ : ∃ n', fuel = n' + 1 := ⟨fuel - 1, by omega⟩
    have hc := c3 post x4 x6 fuel (by omega) K
    rw [← hidx] at hc
    rw [wY_send_107]
    simp (disch := omega) only [zl_0, zl_64, zl_8, zl_1, zk_63, zI_add, zI_mul, zI_l, zL_add, zL_m6, zI_i, zI_cl, zI_in, zI_le, zI_eq, true_and, and_true, true_implies, false_implies, forall_eq, not_true_eq_false, not_false_eq_true, implies_true, forall_const]
    exact br_f (by omega) (br_f (by omega) hc)
/-- emit up to its join at 91: the row is full -/
theorem x_emit_f {post : SX → Prop} {x2 x3 x4 : Int32} (he : e < 2) (xm : a_many e = zI 16) (K : wX_emit_91 post (zI e) x2 x3 x4 f_now (f_sent + 1) a_state a_error a_tries a_iss a_una a_nxt a_max a_last a_closing a_kept a_rcv a_first a_held a_fin a_unread a_came a_ended a_wnd a_peak a_half a_same a_setBy a_setAt a_isSet a_rto a_smooth a_spread a_timed a_since a_retry a_waits a_rest a_segSeq a_segAck a_segFlags a_segWindow a_segLength a_segBytes a_row a_many a_taken) : wpX_emit post (f_now, f_sent, a_state, a_error, a_tries, a_iss, a_una, a_nxt, a_max, a_last, a_closing, a_kept, a_rcv, a_first, a_held, a_fin, a_unread, a_came, a_ended, a_wnd, a_peak, a_half, a_same, a_setBy, a_setAt, a_isSet, a_rto, a_smooth, a_spread, a_timed, a_since, a_retry, a_waits, a_rest, a_segSeq, a_segAck, a_segFlags, a_segWindow, a_segLength, a_segBytes, a_row, a_many, a_taken) (zI e) x2 x3 x4 := by
  unfold wpX_emit
  exact x_slot_f he xm (br_t (by rw [zl_0, zI_lt (by omega)]; omega) K)
theorem y_send_f {post : SY → Prop} {p fy br : Int} {x5 : Int32} (he : e < 2) (yst : b_state e = zI st) (hst : 0 ≤ st ∧ st ≤ 10) (hbr : br = if st = 2 then 1 else 0) (ym : b_rows e = zI 16) (yun : b_unread e = zI un) (yiss : b_iss e = zI iss) (hi : 0 ≤ iss ∧ iss ≤ 65535) (yirs : b_irs e = zI irs) (yrcv : b_rcv e = zL rcv) (hr : 0 ≤ irs ∧ irs ≤ 65535)
    (K : wY_send_158 post (zI e) (zL p) (zI fy) x5 (zI br) g_now (g_sent + 1) b_seq b_flags b_acked b_window b_many b_data b_rows b_state b_error b_iss b_una b_nxt b_max b_last b_closed b_written b_irs b_unread b_bytes b_held b_rcv b_finAt b_marked b_wnd b_peak b_half b_rto b_same b_tries b_smooth b_spread b_byNumber b_byAck b_sampled b_told b_retry b_ackAt b_waitAt b_timedAt b_timed) : wpY_send post (g_now, g_sent, b_seq, b_flags, b_acked, b_window, b_many, b_data, b_rows, b_state, b_error, b_iss, b_una, b_nxt, b_max, b_last, b_closed, b_written, b_irs, b_unread, b_bytes, b_held, b_rcv, b_finAt, b_marked, b_wnd, b_peak, b_half, b_rto, b_same, b_tries, b_smooth, b_spread, b_byNumber, b_byAck, b_sampled, b_told, b_retry, b_ackAt, b_waitAt, b_timedAt, b_timed) (zI e) (zL p) (zI fy) x5 := by
  unfold wpY_send
  refine ⟨e_in he, ?_⟩
  rw [e_cl he, yst]
  by_cases h : st = 2
  · rw [if_pos h] at hbr
    subst hbr
    refine br_t (by rw [h]; rfl) ?_
    unfold wY_send_15
    rw [y_own he yun, y_number he yiss hi]
    refine br_f (by decide) ?_
    unfold wY_send_46
    refine br_f (by decide) ?_
    unfold wY_send_66
    refine y_post_f he ym ?_
    refine ⟨e_in he, fun x _ => br_t rfl ⟨1, ?_⟩⟩
    rw [wY_send_107]
    by_cases z : x5 ≤ 0
    · exact br_t z K
    · exact br_f z (br_t rfl K)
  · rw [if_neg h] at hbr
    subst hbr
    refine br_f (by rw [zl_2, zI_eq (by omega)]; exact h) ?_
    unfold wY_send_15
    rw [y_own he yun, y_number he yiss hi]
    refine br_t rfl ?_
    rw [y_due he yirs yrcv hr]
    unfold wY_send_46
    refine br_t rfl ?_
    unfold wY_send_66
    refine y_post_f he ym ?_
    refine ⟨e_in he, fun x _ => br_t rfl ⟨1, ?_⟩⟩
    rw [wY_send_107]
    by_cases z : x5 ≤ 0
    · exact br_t z K
    · exact br_f z (br_t rfl K)
theorem x_emit_r {k m n : Nat} {seq fx : Int} (he : e < 2) (xm : a_many e = zI m) (hm : m < 16) (hk : k < 16) (hb : bt (a_taken e) k = false) (hl : ∀ j, j < k → bt (a_taken e) j = true) (hn : n ≤ 8) (hs : 0 ≤ seq ∧ seq < 65536) (hf : 0 ≤ fx ∧ fx < 16) (xun : a_unread e = zI un) (hu : 0 ≤ un ∧ un ≤ 24) {ak : Int} (xrcv : a_rcv e = zI ak) :
    ∃ sb, ch 128 e (8 * k) 8 a_segBytes sb ∧ (∀ y : Int, 0 ≤ y → y < n → rg 128 e sb (8 * k + y) = vp_nar .byte (rg 32 e a_kept (seq + y))) ∧
      ∀ post : SX → Prop, wX_emit_91 post (zI e) (zI seq) (zI fx) (zI n) f_now (f_sent + 1) a_state a_error a_tries a_iss a_una a_nxt a_max a_last a_closing a_kept a_rcv a_first a_held a_fin a_unread a_came a_ended a_wnd a_peak a_half a_same a_setBy a_setAt a_isSet a_rto a_smooth a_spread a_timed a_since a_retry a_waits a_rest (upd a_segSeq ((16 * (e : Int) + k).toNat) (zI seq)) (upd a_segAck ((16 * (e : Int) + k).toNat) (zI (if fx / 2 % 2 = 0 then 0 else ak))) (upd a_segFlags ((16 * (e : Int) + k).toNat) (zI fx)) (upd a_segWindow ((16 * (e : Int) + k).toNat) (zI (24 - un))) (upd (upd a_segLength ((16 * (e : Int) + k).toNat) (zI 0)) ((16 * (e : Int) + k).toNat) (zI n)) sb (upd a_row ((16 * (e : Int) + m).toNat) (zI (16 * (e : Int) + k))) (upd a_many e (zI (m + 1))) (upd a_taken e (a_taken e ||| (zI 1 <<< (zI k &&& zI 31)))) →
        wpX_emit post (f_now, f_sent, a_state, a_error, a_tries, a_iss, a_una, a_nxt, a_max, a_last, a_closing, a_kept, a_rcv, a_first, a_held, a_fin, a_unread, a_came, a_ended, a_wnd, a_peak, a_half, a_same, a_setBy, a_setAt, a_isSet, a_rto, a_smooth, a_spread, a_timed, a_since, a_retry, a_waits, a_rest, a_segSeq, a_segAck, a_segFlags, a_segWindow, a_segLength, a_segBytes, a_row, a_many, a_taken) (zI e) (zI seq) (zI fx) (zI n) := by
  obtain ⟨sb, c1, c2, c3⟩ := x_emit_l (a_kept := a_kept) (a_segBytes := a_segBytes) he hk hn hs n 0 a_segBytes (by omega) ch_0 (fun y h1 h2 => absurd h2 (by omega))
  refine ⟨sb, c1, c2, fun post K => ?_⟩
  unfold wpX_emit
  refine x_slot he xm hm hk hb hl ?_
  refine br_f (by rw [zl_0, zI_lt (by omega)]; omega) ?_
  rw [x_window he xun]
  refine ⟨e_in he, ?_⟩
  rw [e_cl he, xrcv]
  refine x_stamp (by omega) hf (by omega) ?_
  refine ⟨zI_in (by omega), ?_⟩
  rw [zI_cl (z := 16 * (e : Int) + k) (by omega), zI_8 (z := (n : Int)) (by omega), zI_n8 (z := (n : Int)) (by omega)]
  exact nm_e ⟨n + 1, c3 post _ (n + 1) (by omega) K⟩
theorem y_send_r {m n : Nat} {p fy br : Int} (he : e < 2) (yst : b_state e = zI st) (hst : 0 ≤ st ∧ st ≤ 10) (hbr : br = if st = 2 then 1 else 0) (ym : b_rows e = zI m) (hm : m < 16) (hn : n ≤ 8) (yun : b_unread e = zI un) (yiss : b_iss e = zI iss) (hi : 0 ≤ iss ∧ iss ≤ 65535) (yirs : b_irs e = zI irs) (yrcv : b_rcv e = zL rcv) (hr : 0 ≤ irs ∧ irs ≤ 65535) {fq : Int32} (hfq : fq = if st = 2 then zI fy else zI fy ||| 2) :
    ∃ dt, ch 128 e (8 * m) 8 b_data dt ∧ (∀ y : Int, 0 ≤ y → y < n → rg 128 e dt (8 * m + y) = rg 64 e b_written (p + y)) ∧
      ∀ post : SY → Prop, wY_send_158 post (zI e) (zL p) (zI fy) (zI n) (zI br) g_now (g_sent + 1) (upd b_seq ((16 * (e : Int) + m).toNat) (zI ((iss + p) % 65536))) (upd b_flags ((16 * (e : Int) + m).toNat) fq) (upd b_acked ((16 * (e : Int) + m).toNat) (zI (if st = 2 then 0 else (irs + rcv) % 65536))) (upd b_window ((16 * (e : Int) + m).toNat) (zI (24 - un))) (upd (upd b_many ((16 * (e : Int) + m).toNat) (zI 0)) ((16 * (e : Int) + m).toNat) (zI n)) dt (upd b_rows e (zI (m + 1))) b_state b_error b_iss b_una b_nxt b_max b_last b_closed b_written b_irs b_unread b_bytes b_held b_rcv b_finAt b_marked b_wnd b_peak b_half b_rto b_same b_tries b_smooth b_spread b_byNumber b_byAck b_sampled b_told b_retry b_ackAt b_waitAt b_timedAt b_timed →
        wpY_send post (g_now, g_sent, b_seq, b_flags, b_acked, b_window, b_many, b_data, b_rows, b_state, b_error, b_iss, b_una, b_nxt, b_max, b_last, b_closed, b_written, b_irs, b_unread, b_bytes, b_held, b_rcv, b_finAt, b_marked, b_wnd, b_peak, b_half, b_rto, b_same, b_tries, b_smooth, b_spread, b_byNumber, b_byAck, b_sampled, b_told, b_retry, b_ackAt, b_waitAt, b_timedAt, b_timed) (zI e) (zL p) (zI fy) (zI n) := by
  obtain ⟨dt, c1, c2, c3⟩ := y_send_l (b_written := b_written) (b_data := b_data) (p := p) he hm hn n 0 b_data (by omega) ch_0 (fun y h1 h2 => absurd h2 (by omega))
  refine ⟨dt, c1, c2, fun post K => ?_⟩
  have hx : zI 16 * zI e + zI (m + 1) - zI 1 = zI (16 * e + m) := by rw [zI_mul, zI_add, zI_sub]; congr 1; omega
  unfold wpY_send
  refine ⟨e_in he, ?_⟩
  rw [e_cl he, yst]
  by_cases h : st = 2
  · rw [if_pos h] at hbr hfq K
    subst hbr hfq
    refine br_t (by rw [h]; rfl) ?_
    unfold wY_send_15
    rw [y_own he yun, y_number he yiss hi]
    refine br_f (by decide) ?_
    unfold wY_send_46
    refine br_f (by decide) ?_
    unfold wY_send_66
    refine y_post he ym hm ?_
    refine ⟨e_in he, ?_⟩
    rw [e_cl he, pk_us, show ((16 : Int32) * zI e + zI (m + 1) - 1) = zI (16 * e + m) from hx]
    refine nm_e (br_f (by decide) ⟨zI_in (by omega), ?_⟩)
    rw [zI_cl (z := 16 * (e : Int) + m) (by omega)]
    exact nm_e ⟨n + 1, c3 post _ _ (n + 1) (by omega) K⟩
  · rw [if_neg h] at hbr hfq K
    subst hbr hfq
    refine br_f (by rw [zl_2, zI_eq (by omega)]; exact h) ?_
    unfold wY_send_15
    rw [y_own he yun, y_number he yiss hi]
    refine br_t rfl ?_
    rw [y_due he yirs yrcv hr]
    unfold wY_send_46
    refine br_t rfl ?_
    unfold wY_send_66
    refine y_post he ym hm ?_
    refine ⟨e_in he, ?_⟩
    rw [e_cl he, pk_us, show ((16 : Int32) * zI e + zI (m + 1) - 1) = zI (16 * e + m) from hx]
    refine nm_e (br_f (by decide) ⟨zI_in (by omega), ?_⟩)
    rw [zI_cl (z := 16 * (e : Int) + m) (by omega)]
    exact nm_e ⟨n + 1, c3 post _ _ (n + 1) (by omega) K⟩
end
end
section
/-! emit and send together -/
section
variable {e : Nat} {L now : Int} {st er tr iss una nxt mx la cl irs rcv fi un fst wnd pk hf rto sa smo tm si rt wt rs nr nw ns : Int} {f_now f_sent : Int32} {a_state a_error a_tries a_iss a_una a_nxt a_max a_last a_closing a_kept a_rcv a_first a_held a_fin a_unread a_came a_ended a_wnd a_peak a_half a_same a_setBy a_setAt a_isSet a_rto a_smooth a_spread a_timed a_since a_retry a_waits a_rest a_segSeq a_segAck a_segFlags a_segWindow a_segLength a_segBytes a_row a_many a_taken : Nat → Int32} {g_now g_sent : Int32} {b_seq b_flags b_acked b_window b_many b_data b_rows b_state b_error b_iss : Nat → Int32} {b_una b_nxt b_max b_last : Nat → Int64} {b_closed b_written b_irs b_unread b_bytes b_held : Nat → Int32} {b_rcv b_finAt : Nat → Int64} {b_marked b_wnd b_peak b_half b_rto b_same b_tries b_smooth b_spread b_byNumber b_byAck b_sampled b_told b_retry b_ackAt b_waitAt b_timedAt : Nat → Int32} {b_timed : Nat → Int64} {u0 : SX} {v0 : SY}
theorem sd_1 (a b : Int32) : (a + 1) - (b + 1) = a - b := by grind
theorem rg_mod {n : Int} {a : Nat → Int32} {z z' : Int} (h : z % n = z' % n) : rg n e a z = rg n e a z' := by unfold rg; rw [h]
theorem by_nar (x : Int32) : vp_nar .byte x &&& 255 = x &&& 255 := by rw [vp_nar_byte, bp_b]
/-- the flags of the two: fx of X's emit, fy of Y's send -/
def Fl (st fx fy : Int) : Prop := (st ≠ 2 ∧ (fy = 0 ∧ fx = 2 ∨ fy = 4 ∧ fx = 6 ∨ fy = 1 ∧ fx = 3)) ∨ (st = 2 ∧ fy = 1 ∧ fx = 1)
theorem Fl_q {fx fy : Int} (h : Fl st fx fy) : (if st = 2 then zI fy else zI fy ||| 2) = zI fx := by
  rcases h with ⟨h, h'⟩ | ⟨h, rfl, rfl⟩
  · rw [if_neg h]
    rcases h' with ⟨rfl, rfl⟩ | ⟨rfl, rfl⟩ | ⟨rfl, rfl⟩ <;> rfl
  · rw [if_pos h]
theorem lk_emit {p fx fy ln : Int} {n : Nat} (he : e < 2) (h2 : 2 ≤ st) (hi : 0 ≤ iss ∧ iss ≤ 65535) (hp : -100 ≤ p ∧ p ≤ 2199023255552 ∧ p - 100 ≤ mx ∧ mx ≤ p + 100) (hn : n ≤ 8) (hfl : Fl st fx fy) (hln : ln = n + fx % 2 + fx / 4 % 2) (hp0 : ln ≠ 0 → 0 ≤ p) (ht : -1 ≤ tm ∧ tm ≤ 2199023255552) (hb : n ≠ 0 → 1 ≤ p ∧ una ≤ p ∧ p + n ≤ la) (R : RZ e L now st er tr iss una nxt mx la cl irs rcv fi un fst wnd pk hf rto sa smo tm si rt wt rs nr nw ns u0 v0 (f_now, f_sent, a_state, a_error, a_tries, a_iss, a_una, a_nxt, a_max, a_last, a_closing, a_kept, a_rcv, a_first, a_held, a_fin, a_unread, a_came, a_ended, a_wnd, a_peak, a_half, a_same, a_setBy, a_setAt, a_isSet, a_rto, a_smooth, a_spread, a_timed, a_since, a_retry, a_waits, a_rest, a_segSeq, a_segAck, a_segFlags, a_segWindow, a_segLength, a_segBytes, a_row, a_many, a_taken) (g_now, g_sent, b_seq, b_flags, b_acked, b_window, b_many, b_data, b_rows, b_state, b_error, b_iss, b_una, b_nxt, b_max, b_last, b_closed, b_written, b_irs, b_unread, b_bytes, b_held, b_rcv, b_finAt, b_marked, b_wnd, b_peak, b_half, b_rto, b_same, b_tries, b_smooth, b_spread, b_byNumber, b_byAck, b_sampled, b_told, b_retry, b_ackAt, b_waitAt, b_timedAt, b_timed)) :
    LK ap0 aq0 (fun q => wpX_emit q (f_now, f_sent, a_state, a_error, a_tries, a_iss, a_una, a_nxt, a_max, a_last, a_closing, a_kept, a_rcv, a_first, a_held, a_fin, a_unread, a_came, a_ended, a_wnd, a_peak, a_half, a_same, a_setBy, a_setAt, a_isSet, a_rto, a_smooth, a_spread, a_timed, a_since, a_retry, a_waits, a_rest, a_segSeq, a_segAck, a_segFlags, a_segWindow, a_segLength, a_segBytes, a_row, a_many, a_taken) (zI e) (zI ((iss + p) % 65536)) (zI fx) (zI n)) (fun q => wpY_send q (g_now, g_sent, b_seq, b_flags, b_acked, b_window, b_many, b_data, b_rows, b_state, b_error, b_iss, b_una, b_nxt, b_max, b_last, b_closed, b_written, b_irs, b_unread, b_bytes, b_held, b_rcv, b_finAt, b_marked, b_wnd, b_peak, b_half, b_rto, b_same, b_tries, b_smooth, b_spread, b_byNumber, b_byAck, b_sampled, b_told, b_retry, b_ackAt, b_waitAt, b_timedAt, b_timed) (zI e) (zL p) (zI fy) (zI n))
      (fun u v => RZ e L now st er tr iss una nxt (if ln ≠ 0 ∧ mx < p + ln then p + ln else mx) la cl irs rcv fi un fst wnd pk hf rto sa smo (if ln ≠ 0 ∧ p = mx ∧ tm < 0 then p else tm) (if ln ≠ 0 ∧ p = mx ∧ tm < 0 then now else si) (if ln ≠ 0 ∧ rt < 0 then now + rto else rt) (if st = 2 then wt else -1) rs nr nw ns u0 v0 u v) := by
  have hne : 1 - e ≠ e := by omega
  have hfx : 0 ≤ fx ∧ fx < 16 := by unfold Fl at hfl; omega
  have hfy : 0 ≤ fy ∧ fy < 16 := by unfold Fl at hfl; omega
  have hly : ln = n + fy % 2 + fy / 4 % 2 := by unfold Fl at hfl; omega
  have hbr : (if st = 2 then (1 : Int) else 0) = 0 ∧ fx / 2 % 2 = 1 ∨ (if st = 2 then (1 : Int) else 0) = 1 ∧ fx / 2 % 2 = 0 := by
    unfold Fl at hfl
    by_cases z : st = 2
    · rw [if_pos z]; omega
    · rw [if_neg z]; omega
  have hwt : (if st = 2 then wt else -1) = if (if st = 2 then (1 : Int) else 0) = 0 then -1 else wt := by
    by_cases z : st = 2
    · rw [if_pos z, if_pos z, if_neg (by omega)]
    · rw [if_neg z, if_neg z, if_pos rfl]
  rw [hwt]
  obtain ⟨R, F⟩ := R
  obtain ⟨rfl, rfl, xst, xer, xtr, xiss, xuna, xnxt, xmx, xla, xcl, xrcv, xfst, xfi, xun, xen, xwnd, xpk, xhf, xrto, xsm, xsb, xsa, xis, xsmo, xspr, xtm, xsi, xrt, xwt, xrs, yst, yer, ytr, yiss, yuna, ynxt, ymx, yla, ycl, yirs, yrcv, yfi, yun, ywnd, ypk, yhf, yrto, ysa, ysmo, ytm, ysi, yrt, ywt, yrs, I1, I3, I4, I5, K, C, H, W⟩ := RE_el R
  have b1 := I1
  have b3 := I3
  unfold E1 at b1
  unfold E3 at b3
  obtain ⟨m, sg, hrw, hER, hES⟩ := W
  have hm16 := hES.1
  by_cases hm : m = 16
  · subst hm
    refine LK_x (fun q h => x_emit_f he hER.1 h) (LK_y (fun q h => y_send_f he yst b1.1 rfl hrw yun yiss hi yirs yrcv b3.1 h) ?_)
    exact lk_em4 he hne h2 hp (by omega) hfx hfy hln hly hbr hp0 ht ⟨RE_in ⟨rfl, rfl, xst, xer, xtr, xiss, xuna, xnxt, xmx, xla, xcl, xrcv, xfst, xfi, xun, xen, xwnd, xpk, xhf, xrto, xsm, xsb, xsa, xis, xsmo, xspr, xtm, xsi, xrt, xwt, xrs, yst, yer, ytr, yiss, yuna, ynxt, ymx, yla, ycl, yirs, yrcv, yfi, yun, ywnd, ypk, yhf, yrto, ysa, ysmo, ytm, ysi, yrt, ywt, yrs, I1, I3, I4, I5, K, C, H, ⟨16, sg, hrw, hER, hES⟩⟩, FR_s F rfl rfl (sd_1 _ _)⟩
  · obtain ⟨k, hk, hb1, hb2⟩ := sl_free hES (by omega)
    obtain ⟨sb, c1, c2, c3⟩ := x_emit_r (a_segBytes := a_segBytes) (a_kept := a_kept) (seq := (iss + p) % 65536) (n := n) he hER.1 (by omega) hk hb1 hb2 hn (by omega) hfx xun b3.2.2.1 (xrcv (by omega))
    obtain ⟨dt, d1, d2, d3⟩ := y_send_r (b_data := b_data) (b_written := b_written) (p := p) (n := n) he yst b1.1 rfl hrw (by omega) hn yun yiss hi yirs yrcv b3.1 (Fl_q hfl).symm
    refine LK_x (fun q h => c3 q h) (LK_y (fun q h => d3 q h) ?_)
    have hk16 : (k : Int) % 16 = k := by omega
    have hm16' : (m : Int) % 16 = m := by omega
    refine lk_em4 he hne h2 hp (by omega) hfx hfy hln hly hbr hp0 ht ⟨RE_in ⟨rfl, rfl, xst, xer, xtr, xiss, xuna, xnxt, xmx, xla, xcl, xrcv, xfst, xfi, xun, xen, xwnd, xpk, xhf, xrto, xsm, xsb, xsa, xis, xsmo, xspr, xtm, xsi, xrt, xwt, xrs, yst, yer, ytr, yiss, yuna, ynxt, ymx, yla, ycl, yirs, yrcv, yfi, yun, ywnd, ypk, yhf, yrto, ysa, ysmo, ytm, ysi, yrt, ywt, yrs, I1, I3, I4, I5, K, C, H, ?_⟩, FR_s F ?_ ?_ (sd_1 _ _)⟩
    · rw [pk_us, pk_us, pk_us]
      refine EW_put (a := if fx / 2 % 2 = 0 then 0 else (irs + rcv) % 65536) (q := (iss + p) % 65536) (f := fx) (w := 24 - un) (n := n) he hER hES (by omega) hk hb1 (fun i => bb_set _ k (by omega) i) (ch_u (by decide) he (by omega) ch_0) (ch_u (by decide) he (by omega) ch_0) (ch_u (by decide) he (by omega) ch_0) (ch_u (by decide) he (by omega) ch_0) (ch_u (by decide) he (by omega) (ch_u (by decide) he (by omega) ch_0)) c1 (ch_u (by decide) he (by omega) ch_0) (ch_u (by decide) he (by omega) ch_0) (ch_u (by decide) he (by omega) ch_0) (ch_u (by decide) he (by omega) ch_0) (ch_u (by decide) he (by omega) (ch_u (by decide) he (by omega) ch_0)) d1 ?_
      refine ⟨⟨?_, ?_, by omega, by omega⟩, ⟨?_, ?_, by omega, by omega⟩, ⟨?_, ?_, ?_, ?_, fun z => if_pos z⟩, ⟨?_, ?_, by omega, by omega⟩, ⟨?_, ?_, by omega, by omega⟩, fun y h0 h1 => ?_⟩
      · rw [rg_in (by decide) (by omega), if_pos hk16]
      · rw [rg_in (by decide) (by omega), if_pos hm16']
      · rw [rg_in (by decide) (by omega), if_pos hk16]
      · rw [rg_in (by decide) (by omega), if_pos hm16']
      · rw [rg_in (by decide) (by omega), if_pos hk16]
      · rw [rg_in (by decide) (by omega), if_pos hm16']
        by_cases z : st = 2
        · rw [if_pos z, if_pos (by unfold Fl at hfl; omega)]
        · rw [if_neg z, if_neg (by unfold Fl at hfl; omega)]
      · split <;> omega
      · split <;> omega
      · rw [rg_in (by decide) (by omega), if_pos hk16]
      · rw [rg_in (by decide) (by omega), if_pos hm16']
      · rw [rg_in (by decide) (by omega), if_pos hk16]
      · rw [rg_in (by decide) (by omega), if_pos hm16']
      · rw [d2 y h0 h1, c2 y h0 h1, by_nar]
        have := hb (by omega)
        rw [K (p + y) (by omega) (by omega) (by omega)]
        rw [rg_mod (show (iss + (p + y)) % 32 = ((iss + p) % 65536 + y) % 32 by omega)]
    · simp only [vX, pk_un hne, c1.1, rg_out (n := 16) (by decide) (show 0 ≤ (k : Int) ∧ (k : Int) < 16 by omega) he (show 1 - e < 2 by omega) hne, rg_out (n := 16) (by decide) (show 0 ≤ (m : Int) ∧ (m : Int) < 16 by omega) he (show 1 - e < 2 by omega) hne]
    · simp only [vY, pk_un hne, d1.1, rg_out (n := 16) (by decide) (show 0 ≤ (m : Int) ∧ (m : Int) < 16 by omega) he (show 1 - e < 2 by omega) hne]
end
end
section
/-! acknowledge; the end of a connection -/
section
variable {e : Nat} {L now : Int} {st er tr iss una nxt mx la cl irs rcv fi un fst wnd pk hf rto sa smo tm si rt wt rs nr nw ns : Int} {f_now f_sent : Int32} {a_state a_error a_tries a_iss a_una a_nxt a_max a_last a_closing a_kept a_rcv a_first a_held a_fin a_unread a_came a_ended a_wnd a_peak a_half a_same a_setBy a_setAt a_isSet a_rto a_smooth a_spread a_timed a_since a_retry a_waits a_rest a_segSeq a_segAck a_segFlags a_segWindow a_segLength a_segBytes a_row a_many a_taken : Nat → Int32} {g_now g_sent : Int32} {b_seq b_flags b_acked b_window b_many b_data b_rows b_state b_error b_iss : Nat → Int32} {b_una b_nxt b_max b_last : Nat → Int64} {b_closed b_written b_irs b_unread b_bytes b_held : Nat → Int32} {b_rcv b_finAt : Nat → Int64} {b_marked b_wnd b_peak b_half b_rto b_same b_tries b_smooth b_spread b_byNumber b_byAck b_sampled b_told b_retry b_ackAt b_waitAt b_timedAt : Nat → Int32} {b_timed : Nat → Int64} {u0 : SX} {v0 : SY}
theorem lk_emit0 {p : Int} (he : e < 2) (h3 : 3 ≤ st) (hi : 0 ≤ iss ∧ iss ≤ 65535) (ht : -1 ≤ tm ∧ tm ≤ 2199023255552) (hp : -100 ≤ p ∧ p ≤ 2199023255552 ∧ p - 100 ≤ mx ∧ mx ≤ p + 100) (R : RZ e L now st er tr iss una nxt mx la cl irs rcv fi un fst wnd pk hf rto sa smo tm si rt wt rs nr nw ns u0 v0 (f_now, f_sent, a_state, a_error, a_tries, a_iss, a_una, a_nxt, a_max, a_last, a_closing, a_kept, a_rcv, a_first, a_held, a_fin, a_unread, a_came, a_ended, a_wnd, a_peak, a_half, a_same, a_setBy, a_setAt, a_isSet, a_rto, a_smooth, a_spread, a_timed, a_since, a_retry, a_waits, a_rest, a_segSeq, a_segAck, a_segFlags, a_segWindow, a_segLength, a_segBytes, a_row, a_many, a_taken) (g_now, g_sent, b_seq, b_flags, b_acked, b_window, b_many, b_data, b_rows, b_state, b_error, b_iss, b_una, b_nxt, b_max, b_last, b_closed, b_written, b_irs, b_unread, b_bytes, b_held, b_rcv, b_finAt, b_marked, b_wnd, b_peak, b_half, b_rto, b_same, b_tries, b_smooth, b_spread, b_byNumber, b_byAck, b_sampled, b_told, b_retry, b_ackAt, b_waitAt, b_timedAt, b_timed)) :
    LK ap0 aq0 (fun q => wpX_emit q (f_now, f_sent, a_state, a_error, a_tries, a_iss, a_una, a_nxt, a_max, a_last, a_closing, a_kept, a_rcv, a_first, a_held, a_fin, a_unread, a_came, a_ended, a_wnd, a_peak, a_half, a_same, a_setBy, a_setAt, a_isSet, a_rto, a_smooth, a_spread, a_timed, a_since, a_retry, a_waits, a_rest, a_segSeq, a_segAck, a_segFlags, a_segWindow, a_segLength, a_segBytes, a_row, a_many, a_taken) (zI e) (zI ((iss + p) % 65536)) (zI 2) (zI 0)) (fun q => wpY_send q (g_now, g_sent, b_seq, b_flags, b_acked, b_window, b_many, b_data, b_rows, b_state, b_error, b_iss, b_una, b_nxt, b_max, b_last, b_closed, b_written, b_irs, b_unread, b_bytes, b_held, b_rcv, b_finAt, b_marked, b_wnd, b_peak, b_half, b_rto, b_same, b_tries, b_smooth, b_spread, b_byNumber, b_byAck, b_sampled, b_told, b_retry, b_ackAt, b_waitAt, b_timedAt, b_timed) (zI e) (zL p) (zI 0) (zI 0)) (fun u v => RZ e L now st er tr iss una nxt mx la cl irs rcv fi un fst wnd pk hf rto sa smo tm si rt (-1) rs nr nw ns u0 v0 u v) := by
  have h := lk_emit (p := p) (fx := 2) (fy := 0) (ln := 0) (n := 0) he (by omega) hi hp (by omega) (Or.inl ⟨by omega, Or.inl ⟨rfl, rfl⟩⟩) rfl (fun z => absurd rfl z) ht (fun z => absurd rfl z) R
  simp only [ne_eq, not_true_eq_false, false_and, if_false, if_neg (show ¬ st = 2 by omega)] at h
  exact h
theorem lk_ack (he : e < 2) (h3 : 3 ≤ st) (hi : 0 ≤ iss ∧ iss ≤ 65535) (ht : -1 ≤ tm ∧ tm ≤ 2199023255552) (hp : 0 ≤ mx ∧ mx ≤ 2199023255552) (R : RZ e L now st er tr iss una nxt mx la cl irs rcv fi un fst wnd pk hf rto sa smo tm si rt wt rs nr nw ns u0 v0 (f_now, f_sent, a_state, a_error, a_tries, a_iss, a_una, a_nxt, a_max, a_last, a_closing, a_kept, a_rcv, a_first, a_held, a_fin, a_unread, a_came, a_ended, a_wnd, a_peak, a_half, a_same, a_setBy, a_setAt, a_isSet, a_rto, a_smooth, a_spread, a_timed, a_since, a_retry, a_waits, a_rest, a_segSeq, a_segAck, a_segFlags, a_segWindow, a_segLength, a_segBytes, a_row, a_many, a_taken) (g_now, g_sent, b_seq, b_flags, b_acked, b_window, b_many, b_data, b_rows, b_state, b_error, b_iss, b_una, b_nxt, b_max, b_last, b_closed, b_written, b_irs, b_unread, b_bytes, b_held, b_rcv, b_finAt, b_marked, b_wnd, b_peak, b_half, b_rto, b_same, b_tries, b_smooth, b_spread, b_byNumber, b_byAck, b_sampled, b_told, b_retry, b_ackAt, b_waitAt, b_timedAt, b_timed)) :
    LK ap0 aq0 (fun q => wpX_acknowledge q (f_now, f_sent, a_state, a_error, a_tries, a_iss, a_una, a_nxt, a_max, a_last, a_closing, a_kept, a_rcv, a_first, a_held, a_fin, a_unread, a_came, a_ended, a_wnd, a_peak, a_half, a_same, a_setBy, a_setAt, a_isSet, a_rto, a_smooth, a_spread, a_timed, a_since, a_retry, a_waits, a_rest, a_segSeq, a_segAck, a_segFlags, a_segWindow, a_segLength, a_segBytes, a_row, a_many, a_taken) (zI e)) (fun q => wpY_acknowledge q (g_now, g_sent, b_seq, b_flags, b_acked, b_window, b_many, b_data, b_rows, b_state, b_error, b_iss, b_una, b_nxt, b_max, b_last, b_closed, b_written, b_irs, b_unread, b_bytes, b_held, b_rcv, b_finAt, b_marked, b_wnd, b_peak, b_half, b_rto, b_same, b_tries, b_smooth, b_spread, b_byNumber, b_byAck, b_sampled, b_told, b_retry, b_ackAt, b_waitAt, b_timedAt, b_timed) (zI e)) (fun u v => RZ e L now st er tr iss una nxt mx la cl irs rcv fi un fst wnd pk hf rto sa smo tm si rt (-1) rs nr nw ns u0 v0 u v) := by
  have h := lk_emit0 (p := mx) he h3 hi ht (by omega) R
  obtain ⟨R, F⟩ := R
  obtain ⟨rfl, rfl, xst, xer, xtr, xiss, xuna, xnxt, xmx, xla, xcl, xrcv, xfst, xfi, xun, xen, xwnd, xpk, xhf, xrto, xsm, xsb, xsa, xis, xsmo, xspr, xtm, xsi, xrt, xwt, xrs, yst, yer, ytr, yiss, yuna, ynxt, ymx, yla, ycl, yirs, yrcv, yfi, yun, ywnd, ypk, yhf, yrto, ysa, ysmo, ytm, ysi, yrt, ywt, yrs, I1, I3, I4, I5, K, C, H, W⟩ := RE_el R
  unfold wpX_acknowledge wpY_acknowledge
  simp only [e_in he, e_cl he, xmx (by omega), ymx, true_and]
  exact LK_b h (fun f_now f_sent a_state a_error a_tries a_iss a_una a_nxt a_max a_last a_closing a_kept a_rcv a_first a_held a_fin a_unread a_came a_ended a_wnd a_peak a_half a_same a_setBy a_setAt a_isSet a_rto a_smooth a_spread a_timed a_since a_retry a_waits a_rest a_segSeq a_segAck a_segFlags a_segWindow a_segLength a_segBytes a_row a_many a_taken g_now g_sent b_seq b_flags b_acked b_window b_many b_data b_rows b_state b_error b_iss b_una b_nxt b_max b_last b_closed b_written b_irs b_unread b_bytes b_held b_rcv b_finAt b_marked b_wnd b_peak b_half b_rto b_same b_tries b_smooth b_spread b_byNumber b_byAck b_sampled b_told b_retry b_ackAt b_waitAt b_timedAt b_timed q => LK_r0 q)
theorem x_quiet {post : SX → Prop} (he : e < 2) (K : post (f_now, f_sent, a_state, a_error, a_tries, a_iss, a_una, a_nxt, a_max, a_last, a_closing, a_kept, a_rcv, a_first, upd a_held e (zI 0), upd a_fin e (zI (-1)), a_unread, a_came, a_ended, a_wnd, a_peak, a_half, a_same, a_setBy, a_setAt, a_isSet, a_rto, a_smooth, a_spread, upd a_timed e (zI (-1)), a_since, upd a_retry e (zI (-1)), upd a_waits e (zI (-1)), upd a_rest e (zI (-1)), a_segSeq, a_segAck, a_segFlags, a_segWindow, a_segLength, a_segBytes, a_row, a_many, a_taken)) : wpX_quiet post (f_now, f_sent, a_state, a_error, a_tries, a_iss, a_una, a_nxt, a_max, a_last, a_closing, a_kept, a_rcv, a_first, a_held, a_fin, a_unread, a_came, a_ended, a_wnd, a_peak, a_half, a_same, a_setBy, a_setAt, a_isSet, a_rto, a_smooth, a_spread, a_timed, a_since, a_retry, a_waits, a_rest, a_segSeq, a_segAck, a_segFlags, a_segWindow, a_segLength, a_segBytes, a_row, a_many, a_taken) (zI e) := by
  unfold wpX_quiet
  simp only [e_in he, e_cl he, zl_0, zl_1, zI_neg, true_and, and_true, true_implies, false_implies, forall_eq, not_true_eq_false, not_false_eq_true, implies_true, forall_const]
  exact K
theorem x_finish {post : SX → Prop} {why : Int} (he : e < 2) (hw : 0 ≤ why ∧ why ≤ 2) (K : post (f_now, f_sent, upd a_state e (zI 0), if why ≤ 0 then a_error else upd a_error e (zI why), a_tries, a_iss, a_una, a_nxt, a_max, a_last, a_closing, a_kept, a_rcv, a_first, upd a_held e (zI 0), upd a_fin e (zI (-1)), a_unread, a_came, a_ended, a_wnd, a_peak, a_half, a_same, a_setBy, a_setAt, a_isSet, a_rto, a_smooth, a_spread, upd a_timed e (zI (-1)), a_since, upd a_retry e (zI (-1)), upd a_waits e (zI (-1)), upd a_rest e (zI (-1)), a_segSeq, a_segAck, a_segFlags, a_segWindow, a_segLength, a_segBytes, a_row, a_many, a_taken)) : wpX_finish post (f_now, f_sent, a_state, a_error, a_tries, a_iss, a_una, a_nxt, a_max, a_last, a_closing, a_kept, a_rcv, a_first, a_held, a_fin, a_unread, a_came, a_ended, a_wnd, a_peak, a_half, a_same, a_setBy, a_setAt, a_isSet, a_rto, a_smooth, a_spread, a_timed, a_since, a_retry, a_waits, a_rest, a_segSeq, a_segAck, a_segFlags, a_segWindow, a_segLength, a_segBytes, a_row, a_many, a_taken) (zI e) (zI why) := by
  unfold wpX_finish
  refine x_quiet he ?_
  simp (disch := omega) only [e_in he, e_cl he, zl_0, zI_8, zI_n8, zI_le, true_and, and_true, true_implies, false_implies, forall_eq, not_true_eq_false, not_false_eq_true, implies_true, forall_const]
  by_cases h : why ≤ 0
  · rw [if_pos h] at K
    exact br_t h K
  · rw [if_neg h] at K
    exact br_f h K
theorem y_quiet_l (he : e < 2) : ∀ (d j : Nat) (mk : Nat → Int32), j + d = 64 → rg 64 (1 - e) mk = rg 64 (1 - e) b_marked → (∀ z : Int, 0 ≤ z → z < j → rg 64 e mk z = zI 0) →
    ∃ mk', rg 64 (1 - e) mk' = rg 64 (1 - e) b_marked ∧ (∀ z : Int, rg 64 e mk' z = zI 0) ∧
      ∀ {g_now g_sent : Int32} {b_seq b_flags b_acked b_window b_many b_data b_rows b_state b_error b_iss : Nat → Int32} {b_una b_nxt b_max b_last : Nat → Int64} {b_closed b_written b_irs b_unread b_bytes b_held : Nat → Int32} {b_rcv b_finAt : Nat → Int64} {b_wnd b_peak b_half b_rto b_same b_tries b_smooth b_spread b_byNumber b_byAck b_sampled b_told b_retry b_ackAt b_waitAt b_timedAt : Nat → Int32} {b_timed : Nat → Int64} (post : SY → Prop) (fuel : Nat), d < fuel → post (g_now, g_sent, b_seq, b_flags, b_acked, b_window, b_many, b_data, b_rows, b_state, b_error, b_iss, b_una, b_nxt, b_max, b_last, b_closed, b_written, b_irs, b_unread, b_bytes, b_held, b_rcv, b_finAt, mk', b_wnd, b_peak, b_half, b_rto, upd b_same e (zI 0), upd b_tries e (zI 0), b_smooth, b_spread, b_byNumber, b_byAck, b_sampled, b_told, upd b_retry e (zI (-1)), upd b_ackAt e (zI (-1)), upd b_waitAt e (zI (-1)), b_timedAt, vp_updL b_timed e (zL (-1))) →
        wY_quiet_28 post (zI e) g_now g_sent fuel (zI (64 * e + j)) b_seq b_flags b_acked b_window b_many b_data b_rows b_state b_error b_iss b_una b_nxt b_max b_last b_closed b_written b_irs b_unread b_bytes b_held b_rcv b_finAt mk b_wnd b_peak b_half b_rto b_same b_tries b_smooth b_spread b_byNumber b_byAck b_sampled b_told b_retry b_ackAt b_waitAt b_timedAt b_timed := by
  intro d
  induction d with
  | zero =>
    intro j mk hj h1 h2
    refine ⟨mk, h1, fun z => ?_, ?_⟩
    · rw [rg_mod (show z % 64 = (z % 64) % 64 by omega)]
      exact h2 _ (by omega) (by omega)
    · intro g_now g_sent b_seq b_flags b_acked b_window b_many b_data b_rows b_state b_error b_iss b_una b_nxt b_max b_last b_closed b_written b_irs b_unread b_bytes b_held b_rcv b_finAt b_wnd b_peak b_half b_rto b_same b_tries b_smooth b_spread b_byNumber b_byAck b_sampled b_told b_retry b_ackAt b_waitAt b_timedAt b_timed post fuel hf K
      obtain ⟨fuel, rfl⟩ : ∃ n', fuel = n' + 1 := ⟨fuel - 1, by omega⟩
      rw [wY_quiet_28]
      simp (disch := omega) only [e_in he, e_cl he, zl_64, zl_0, zl_1, zk_1, zI_mul, zI_add, zI_le, zI_neg, zL_neg, true_and, and_true, true_implies, false_implies, forall_eq, not_true_eq_false, not_false_eq_true, implies_true, forall_const]
      exact br_t (by omega) K
  | succ d ih =>
    intro j mk hj h1 h2
    obtain ⟨mk', c1, c2, c3⟩ := ih (j + 1) (upd mk ((64 * (e : Int) + j).toNat) (zI 0)) (by omega) (by rw [rg_out (by decide) (by omega) he (by omega) (by omega)]; exact h1) (fun z h0 hz => by
      rw [rg_in (by decide) (by omega)]
      by_cases q : z = j
      · subst q; rw [if_pos (by omega)]
      · rw [if_neg (by omega)]; exact h2 z h0 (by omega))
    refine ⟨mk', c1, c2, ?_⟩
    intro g_now g_sent b_seq b_flags b_acked b_window b_many b_data b_rows b_state b_error b_iss b_una b_nxt b_max b_last b_closed b_written b_irs b_unread b_bytes b_held b_rcv b_finAt b_wnd b_peak b_half b_rto b_same b_tries b_smooth b_spread b_byNumber b_byAck b_sampled b_told b_retry b_ackAt b_waitAt b_timedAt b_timed post fuel hf K
    obtain ⟨fuel, rfl⟩ : ∃ n', fuel = n' + 1 := ⟨fuel - 1, by omega⟩
    have hc := c3 post fuel (by omega) K
    rw [wY_quiet_28]
    simp (disch := omega) only [zl_64, zl_0, zl_1, zI_mul, zI_add, zI_le, zI_in, zI_cl, zI_nb0, true_and, and_true, true_implies, false_implies, forall_eq, not_true_eq_false, not_false_eq_true, implies_true, forall_const]
    refine br_f (by omega) ?_
    rw [show (64 * (e : Int) + j + 1) = 64 * (e : Int) + ((j + 1 : Nat) : Int) by omega]
    exact hc
theorem y_quiet (he : e < 2) : ∃ mk, rg 64 (1 - e) mk = rg 64 (1 - e) b_marked ∧ (∀ z : Int, rg 64 e mk z = zI 0) ∧
      ∀ {g_now g_sent : Int32} {b_seq b_flags b_acked b_window b_many b_data b_rows b_state b_error b_iss : Nat → Int32} {b_una b_nxt b_max b_last : Nat → Int64} {b_closed b_written b_irs b_unread b_bytes b_held : Nat → Int32} {b_rcv b_finAt : Nat → Int64} {b_wnd b_peak b_half b_rto b_same b_tries b_smooth b_spread b_byNumber b_byAck b_sampled b_told b_retry b_ackAt b_waitAt b_timedAt : Nat → Int32} {b_timed : Nat → Int64} (post : SY → Prop), post (g_now, g_sent, b_seq, b_flags, b_acked, b_window, b_many, b_data, b_rows, b_state, b_error, b_iss, b_una, b_nxt, b_max, vp_updL b_last e (zL 1), upd b_closed e (zI 0), b_written, b_irs, b_unread, b_bytes, b_held, b_rcv, vp_updL b_finAt e (zL (-1)), mk, b_wnd, b_peak, b_half, b_rto, upd b_same e (zI 0), upd b_tries e (zI 0), b_smooth, b_spread, b_byNumber, b_byAck, b_sampled, b_told, upd b_retry e (zI (-1)), upd b_ackAt e (zI (-1)), upd b_waitAt e (zI (-1)), b_timedAt, vp_updL b_timed e (zL (-1))) →
        wpY_quiet post (g_now, g_sent, b_seq, b_flags, b_acked, b_window, b_many, b_data, b_rows, b_state, b_error, b_iss, b_una, b_nxt, b_max, b_last, b_closed, b_written, b_irs, b_unread, b_bytes, b_held, b_rcv, b_finAt, b_marked, b_wnd, b_peak, b_half, b_rto, b_same, b_tries, b_smooth, b_spread, b_byNumber, b_byAck, b_sampled, b_told, b_retry, b_ackAt, b_waitAt, b_timedAt, b_timed) (zI e) := by
  obtain ⟨mk, c1, c2, c3⟩ := y_quiet_l (b_marked := b_marked) he 64 0 b_marked (by omega) rfl (fun z h0 h1 => absurd h1 (by omega))
  refine ⟨mk, c1, c2, ?_⟩
  intro g_now g_sent b_seq b_flags b_acked b_window b_many b_data b_rows b_state b_error b_iss b_una b_nxt b_max b_last b_closed b_written b_irs b_unread b_bytes b_held b_rcv b_finAt b_wnd b_peak b_half b_rto b_same b_tries b_smooth b_spread b_byNumber b_byAck b_sampled b_told b_retry b_ackAt b_waitAt b_timedAt b_timed post K
  unfold wpY_quiet
  simp (disch := omega) only [e_in he, e_cl he, zl_64, zl_0, zk_1, zL_neg, zI_mul, zI_nb0, true_and, and_true, true_implies, false_implies, forall_eq, not_true_eq_false, not_false_eq_true, implies_true, forall_const]
  refine ⟨65, ?_⟩
  have := c3 post 65 (by omega) K
  simpa only [Int.natCast_zero, Int.add_zero] using this
theorem lk_over_t {why code : Int} {at_ bt_ : Nat → Int32} (he : e < 2) (hat : at_ (1 - e) = a_tries (1 - e)) (hbt : bt_ (1 - e) = b_tries (1 - e)) (hw : 0 ≤ why ∧ why ≤ 2) (hc : code = if why ≤ 0 then er else why) (R : RZ e L now st er tr iss una nxt mx la cl irs rcv fi un fst wnd pk hf rto sa smo tm si rt wt rs nr nw ns u0 v0 (f_now, f_sent, a_state, a_error, a_tries, a_iss, a_una, a_nxt, a_max, a_last, a_closing, a_kept, a_rcv, a_first, a_held, a_fin, a_unread, a_came, a_ended, a_wnd, a_peak, a_half, a_same, a_setBy, a_setAt, a_isSet, a_rto, a_smooth, a_spread, a_timed, a_since, a_retry, a_waits, a_rest, a_segSeq, a_segAck, a_segFlags, a_segWindow, a_segLength, a_segBytes, a_row, a_many, a_taken) (g_now, g_sent, b_seq, b_flags, b_acked, b_window, b_many, b_data, b_rows, b_state, b_error, b_iss, b_una, b_nxt, b_max, b_last, b_closed, b_written, b_irs, b_unread, b_bytes, b_held, b_rcv, b_finAt, b_marked, b_wnd, b_peak, b_half, b_rto, b_same, b_tries, b_smooth, b_spread, b_byNumber, b_byAck, b_sampled, b_told, b_retry, b_ackAt, b_waitAt, b_timedAt, b_timed)) :
    LK ap0 aq0 (fun q => wpX_finish q (f_now, f_sent, a_state, a_error, at_, a_iss, a_una, a_nxt, a_max, a_last, a_closing, a_kept, a_rcv, a_first, a_held, a_fin, a_unread, a_came, a_ended, a_wnd, a_peak, a_half, a_same, a_setBy, a_setAt, a_isSet, a_rto, a_smooth, a_spread, a_timed, a_since, a_retry, a_waits, a_rest, a_segSeq, a_segAck, a_segFlags, a_segWindow, a_segLength, a_segBytes, a_row, a_many, a_taken) (zI e) (zI why)) (fun q => wpY_over q (g_now, g_sent, b_seq, b_flags, b_acked, b_window, b_many, b_data, b_rows, b_state, b_error, b_iss, b_una, b_nxt, b_max, b_last, b_closed, b_written, b_irs, b_unread, b_bytes, b_held, b_rcv, b_finAt, b_marked, b_wnd, b_peak, b_half, b_rto, b_same, bt_, b_smooth, b_spread, b_byNumber, b_byAck, b_sampled, b_told, b_retry, b_ackAt, b_waitAt, b_timedAt, b_timed) (zI e) (zI code)) (fun u v => RZ e L now 0 code 0 iss 1 nxt mx 1 0 irs rcv (-1) un fst wnd pk hf rto sa smo (-1) si (-1) (-1) (-1) nr nw ns u0 v0 u v) := by
  have hne : 1 - e ≠ e := by omega
  obtain ⟨R, F⟩ := R
  obtain ⟨rfl, rfl, xst, xer, xtr, xiss, xuna, xnxt, xmx, xla, xcl, xrcv, xfst, xfi, xun, xen, xwnd, xpk, xhf, xrto, xsm, xsb, xsa, xis, xsmo, xspr, xtm, xsi, xrt, xwt, xrs, yst, yer, ytr, yiss, yuna, ynxt, ymx, yla, ycl, yirs, yrcv, yfi, yun, ywnd, ypk, yhf, yrto, ysa, ysmo, ytm, ysi, yrt, ywt, yrs, I1, I3, I4, I5, K, C, H, W⟩ := RE_el R
  obtain ⟨mk, c1, c2, c3⟩ := y_quiet (b_marked := b_marked) he
  refine LK_x (fun q h => x_finish he hw h) ?_
  unfold wpY_over
  simp only [e_in he, e_cl he, zl_0, zk_1, true_and, and_true, true_implies, false_implies, forall_eq, not_true_eq_false, not_false_eq_true, implies_true, forall_const]
  refine LK_y (fun q h => c3 _ h) ?_
  have b1 := I1
  have b3 := I3
  have b5 := I5
  unfold E1 at b1
  unfold E3 at b3
  unfold E5 at b5
  refine LK_r0 ⟨RE_in ⟨rfl, rfl, pk_us, ?_, fun z => absurd rfl z, xiss, fun z => absurd z (by decide), fun z => absurd z (by decide), fun z => absurd z (by decide), fun z => absurd z (by decide), fun z => absurd z (by decide), fun z => absurd z (by decide), xfst, pk_us, xun, fun z => absurd rfl z, xwnd, xpk, xhf, xrto, fun z => absurd rfl z, xsb, xsa, xis, xsmo, xspr, pk_us, xsi, pk_us, pk_us, pk_us, pk_us, pk_us, pk_us, yiss, pk_uLs, ynxt, ymx, pk_uLs, pk_us, yirs, yrcv, pk_uLs, yun, ywnd, ypk, yhf, yrto, ysa, ysmo, pk_uLs, ysi, pk_us, pk_us, pk_us, ?_, ?_, I4, ?_, ?_, C, ?_, W⟩, FR_s F ?_ ?_ rfl⟩
  · subst hc
    by_cases h : why ≤ 0
    · rw [if_pos h, if_pos h]; exact xer
    · rw [if_neg h, if_neg h]; exact pk_us
  · unfold E1
    by_cases h : why ≤ 0
    · rw [if_pos h] at hc; omega
    · rw [if_neg h] at hc; omega
  · unfold E3; omega
  · unfold E5; omega
  · intro p h1 h2 h3; omega
  · refine ⟨fun i hi => ?_, fun z _ _ => ?_, fun z _ hz => ?_, fun _ => pk_us⟩
    · rw [pk_us]; exact b_0 i
    · rw [pk_us, c2, if_neg]; rw [show bt (zI 0) z.toNat = false from b_0 _]; decide
    · rw [pk_us, show bt (zI 0) z.toNat = false from b_0 _] at hz; cases hz
  · by_cases h : why ≤ 0
    · simp only [vX, hat, if_pos h, pk_un hne]
    · simp only [vX, hat, if_neg h, pk_un hne]
  · simp only [vY, hbt, pk_un hne, pk_uLn hne, c1]
theorem lk_over {why code : Int} (he : e < 2) (hw : 0 ≤ why ∧ why ≤ 2) (hc : code = if why ≤ 0 then er else why) (R : RZ e L now st er tr iss una nxt mx la cl irs rcv fi un fst wnd pk hf rto sa smo tm si rt wt rs nr nw ns u0 v0 (f_now, f_sent, a_state, a_error, a_tries, a_iss, a_una, a_nxt, a_max, a_last, a_closing, a_kept, a_rcv, a_first, a_held, a_fin, a_unread, a_came, a_ended, a_wnd, a_peak, a_half, a_same, a_setBy, a_setAt, a_isSet, a_rto, a_smooth, a_spread, a_timed, a_since, a_retry, a_waits, a_rest, a_segSeq, a_segAck, a_segFlags, a_segWindow, a_segLength, a_segBytes, a_row, a_many, a_taken) (g_now, g_sent, b_seq, b_flags, b_acked, b_window, b_many, b_data, b_rows, b_state, b_error, b_iss, b_una, b_nxt, b_max, b_last, b_closed, b_written, b_irs, b_unread, b_bytes, b_held, b_rcv, b_finAt, b_marked, b_wnd, b_peak, b_half, b_rto, b_same, b_tries, b_smooth, b_spread, b_byNumber, b_byAck, b_sampled, b_told, b_retry, b_ackAt, b_waitAt, b_timedAt, b_timed)) :
    LK ap0 aq0 (fun q => wpX_finish q (f_now, f_sent, a_state, a_error, a_tries, a_iss, a_una, a_nxt, a_max, a_last, a_closing, a_kept, a_rcv, a_first, a_held, a_fin, a_unread, a_came, a_ended, a_wnd, a_peak, a_half, a_same, a_setBy, a_setAt, a_isSet, a_rto, a_smooth, a_spread, a_timed, a_since, a_retry, a_waits, a_rest, a_segSeq, a_segAck, a_segFlags, a_segWindow, a_segLength, a_segBytes, a_row, a_many, a_taken) (zI e) (zI why)) (fun q => wpY_over q (g_now, g_sent, b_seq, b_flags, b_acked, b_window, b_many, b_data, b_rows, b_state, b_error, b_iss, b_una, b_nxt, b_max, b_last, b_closed, b_written, b_irs, b_unread, b_bytes, b_held, b_rcv, b_finAt, b_marked, b_wnd, b_peak, b_half, b_rto, b_same, b_tries, b_smooth, b_spread, b_byNumber, b_byAck, b_sampled, b_told, b_retry, b_ackAt, b_waitAt, b_timedAt, b_timed) (zI e) (zI code)) (fun u v => RZ e L now 0 code 0 iss 1 nxt mx 1 0 irs rcv (-1) un fst wnd pk hf rto sa smo (-1) si (-1) (-1) (-1) nr nw ns u0 v0 u v) := lk_over_t he rfl rfl hw hc R
end
end
section
/-! flow -/
section
variable {e : Nat} {L now : Int} {st er tr iss una nxt mx la cl irs rcv fi un fst wnd pk hf rto sa smo tm si rt wt rs nr nw ns : Int} {f_now f_sent : Int32} {a_state a_error a_tries a_iss a_una a_nxt a_max a_last a_closing a_kept a_rcv a_first a_held a_fin a_unread a_came a_ended a_wnd a_peak a_half a_same a_setBy a_setAt a_isSet a_rto a_smooth a_spread a_timed a_since a_retry a_waits a_rest a_segSeq a_segAck a_segFlags a_segWindow a_segLength a_segBytes a_row a_many a_taken : Nat → Int32} {g_now g_sent : Int32} {b_seq b_flags b_acked b_window b_many b_data b_rows b_state b_error b_iss : Nat → Int32} {b_una b_nxt b_max b_last : Nat → Int64} {b_closed b_written b_irs b_unread b_bytes b_held : Nat → Int32} {b_rcv b_finAt : Nat → Int64} {b_marked b_wnd b_peak b_half b_rto b_same b_tries b_smooth b_spread b_byNumber b_byAck b_sampled b_told b_retry b_ackAt b_waitAt b_timedAt : Nat → Int32} {b_timed : Nat → Int64} {u0 : SX} {v0 : SY}
/-- what flow leaves: positions and times of its own -/
def QF (e : Nat) (L now st er tr iss una la cl irs rcv fi un fst wnd pk hf rto sa smo rs nr nw ns : Int) (u0 : SX) (v0 : SY) (u : SX) (v : SY) : Prop :=
  ∃ nxt mx tm si rt wt : Int, RZ e L now st er tr iss una nxt mx la cl irs rcv fi un fst wnd pk hf rto sa smo tm si rt wt rs nr nw ns u0 v0 u v ∧ E2 L st iss una nxt mx la cl tm
theorem E2_send {ln : Int} (h : E2 L st iss una nxt mx la cl tm) (h4 : 4 ≤ st) (hs : st ≠ 6 ∧ st ≠ 10) (hl : 0 < ln) (hb : nxt + ln ≤ la + cl) : E2 L st iss una (nxt + ln) (if ln ≠ 0 ∧ mx < nxt + ln then nxt + ln else mx) la cl (if ln ≠ 0 ∧ nxt = mx ∧ tm < 0 then nxt else tm) := by
  obtain ⟨a1, a2, a3, a4, a5, a6, a7, a8, a9⟩ := h
  have := a5 (by omega)
  have hm : (if ln ≠ 0 ∧ mx < nxt + ln then nxt + ln else mx) ≤ la + cl ∧ nxt + ln ≤ (if ln ≠ 0 ∧ mx < nxt + ln then nxt + ln else mx) ∧ mx ≤ (if ln ≠ 0 ∧ mx < nxt + ln then nxt + ln else mx) := by split <;> omega
  refine ⟨a1, a2, fun z => by omega, fun z => by omega, fun _ => by omega, fun z => by omega, a7, fun z => by omega, ?_⟩
  split <;> omega
/-- the last test: a probe is due -/
theorem lk_fl1 {z : Int} (he : e < 2) (h2 : 2 ≤ st) (hcl : 0 ≤ cl ∧ cl ≤ 1) (hz : z = 0 ∨ z = 1) {zx zy : Int} (hzz : zx = 0 ∧ zy = z ∨ zx = 1 ∧ z = 1 ∧ (zy = 0 ∨ zy = 1)) (I2 : E2 L st iss una nxt mx la cl tm) (R : RZ e L now st er tr iss una nxt mx la cl irs rcv fi un fst wnd pk hf rto sa smo tm si rt wt rs nr nw ns u0 v0 (f_now, f_sent, a_state, a_error, a_tries, a_iss, a_una, a_nxt, a_max, a_last, a_closing, a_kept, a_rcv, a_first, a_held, a_fin, a_unread, a_came, a_ended, a_wnd, a_peak, a_half, a_same, a_setBy, a_setAt, a_isSet, a_rto, a_smooth, a_spread, a_timed, a_since, a_retry, a_waits, a_rest, a_segSeq, a_segAck, a_segFlags, a_segWindow, a_segLength, a_segBytes, a_row, a_many, a_taken) (g_now, g_sent, b_seq, b_flags, b_acked, b_window, b_many, b_data, b_rows, b_state, b_error, b_iss, b_una, b_nxt, b_max, b_last, b_closed, b_written, b_irs, b_unread, b_bytes, b_held, b_rcv, b_finAt, b_marked, b_wnd, b_peak, b_half, b_rto, b_same, b_tries, b_smooth, b_spread, b_byNumber, b_byAck, b_sampled, b_told, b_retry, b_ackAt, b_waitAt, b_timedAt, b_timed)) :
    LK ap0 aq0 (fun q => wX_flow_240 q (zI e) (zI zx) (zI zy) f_now f_sent a_state a_error a_tries a_iss a_una a_nxt a_max a_last a_closing a_kept a_rcv a_first a_held a_fin a_unread a_came a_ended a_wnd a_peak a_half a_same a_setBy a_setAt a_isSet a_rto a_smooth a_spread a_timed a_since a_retry a_waits a_rest a_segSeq a_segAck a_segFlags a_segWindow a_segLength a_segBytes a_row a_many a_taken) (fun q => wY_flow_296 q (zI e) (zI z) g_now g_sent b_seq b_flags b_acked b_window b_many b_data b_rows b_state b_error b_iss b_una b_nxt b_max b_last b_closed b_written b_irs b_unread b_bytes b_held b_rcv b_finAt b_marked b_wnd b_peak b_half b_rto b_same b_tries b_smooth b_spread b_byNumber b_byAck b_sampled b_told b_retry b_ackAt b_waitAt b_timedAt b_timed) (fun u v => QF e L now st er tr iss una la cl irs rcv fi un fst wnd pk hf rto sa smo rs nr nw ns u0 v0 u v) := by
  have hne : 1 - e ≠ e := by omega
  obtain ⟨R, F⟩ := R
  obtain ⟨rfl, rfl, xst, xer, xtr, xiss, xuna, xnxt, xmx, xla, xcl, xrcv, xfst, xfi, xun, xen, xwnd, xpk, xhf, xrto, xsm, xsb, xsa, xis, xsmo, xspr, xtm, xsi, xrt, xwt, xrs, yst, yer, ytr, yiss, yuna, ynxt, ymx, yla, ycl, yirs, yrcv, yfi, yun, ywnd, ypk, yhf, yrto, ysa, ysmo, ytm, ysi, yrt, ywt, yrs, I1, I3, I4, I5, K, C, H, W⟩ := RE_el R
  have b4 := I4
  have b5 := E5_b I5
  have b2 := E2_b I2 h2
  unfold E4 at b4
  have T : LK ap0 aq0 (fun q => q (zI now, f_sent, a_state, a_error, a_tries, a_iss, a_una, a_nxt, a_max, a_last, a_closing, a_kept, a_rcv, a_first, a_held, a_fin, a_unread, a_came, a_ended, a_wnd, a_peak, a_half, a_same, a_setBy, a_setAt, a_isSet, a_rto, a_smooth, a_spread, a_timed, a_since, a_retry, a_waits, a_rest, a_segSeq, a_segAck, a_segFlags, a_segWindow, a_segLength, a_segBytes, a_row, a_many, a_taken)) (fun q => q (zI now, g_sent, b_seq, b_flags, b_acked, b_window, b_many, b_data, b_rows, b_state, b_error, b_iss, b_una, b_nxt, b_max, b_last, b_closed, b_written, b_irs, b_unread, b_bytes, b_held, b_rcv, b_finAt, b_marked, b_wnd, b_peak, b_half, b_rto, b_same, b_tries, b_smooth, b_spread, b_byNumber, b_byAck, b_sampled, b_told, b_retry, b_ackAt, b_waitAt, b_timedAt, b_timed)) (fun u v => QF e L now st er tr iss una la cl irs rcv fi un fst wnd pk hf rto sa smo rs nr nw ns u0 v0 u v) := LK_r0 ⟨nxt, mx, tm, si, rt, wt, ⟨R, F⟩, I2⟩
  unfold wX_flow_240 wX_flow_275 wY_flow_296
  simp (disch := omega) only [e_in he, e_cl he, xwnd, ywnd, xnxt h2, ynxt, xuna h2, yuna, xrt, yrt, xrto, yrto, zl_0, zI_eq, zL_eq, zm_eq, zI_le, zI_add, true_and, and_true, true_implies, false_implies, forall_eq, not_true_eq_false, not_false_eq_true, implies_true, forall_const]
  by_cases w0 : wnd = 0
  · refine LX_t w0 (LY_t w0 ?_)
    by_cases n0 : nxt = una
    · refine LX_t n0 (LY_t n0 ?_)
      by_cases z0 : z = 0
      · exact LX_t (by omega) (LX_t (by omega) (LY_t z0 T))
      · refine LY_f z0 ?_
        have U : LK ap0 aq0 (fun q => (0 ≤ rt → q (zI now, f_sent, a_state, a_error, a_tries, a_iss, a_una, a_nxt, a_max, a_last, a_closing, a_kept, a_rcv, a_first, a_held, a_fin, a_unread, a_came, a_ended, a_wnd, a_peak, a_half, a_same, a_setBy, a_setAt, a_isSet, a_rto, a_smooth, a_spread, a_timed, a_since, a_retry, a_waits, a_rest, a_segSeq, a_segAck, a_segFlags, a_segWindow, a_segLength, a_segBytes, a_row, a_many, a_taken)) ∧ (¬ 0 ≤ rt → q (zI now, f_sent, a_state, a_error, a_tries, a_iss, a_una, a_nxt, a_max, a_last, a_closing, a_kept, a_rcv, a_first, a_held, a_fin, a_unread, a_came, a_ended, a_wnd, a_peak, a_half, a_same, a_setBy, a_setAt, a_isSet, a_rto, a_smooth, a_spread, a_timed, a_since, upd a_retry e (zI (now + rto)), a_waits, a_rest, a_segSeq, a_segAck, a_segFlags, a_segWindow, a_segLength, a_segBytes, a_row, a_many, a_taken))) (fun q => (0 ≤ rt → q (zI now, g_sent, b_seq, b_flags, b_acked, b_window, b_many, b_data, b_rows, b_state, b_error, b_iss, b_una, b_nxt, b_max, b_last, b_closed, b_written, b_irs, b_unread, b_bytes, b_held, b_rcv, b_finAt, b_marked, b_wnd, b_peak, b_half, b_rto, b_same, b_tries, b_smooth, b_spread, b_byNumber, b_byAck, b_sampled, b_told, b_retry, b_ackAt, b_waitAt, b_timedAt, b_timed)) ∧ (¬ 0 ≤ rt → q (zI now, g_sent, b_seq, b_flags, b_acked, b_window, b_many, b_data, b_rows, b_state, b_error, b_iss, b_una, b_nxt, b_max, b_last, b_closed, b_written, b_irs, b_unread, b_bytes, b_held, b_rcv, b_finAt, b_marked, b_wnd, b_peak, b_half, b_rto, b_same, b_tries, b_smooth, b_spread, b_byNumber, b_byAck, b_sampled, b_told, upd b_retry e (zI (now + rto)), b_ackAt, b_waitAt, b_timedAt, b_timed))) (fun u v => QF e L now st er tr iss una la cl irs rcv fi un fst wnd pk hf rto sa smo rs nr nw ns u0 v0 u v) := by
          by_cases r0 : 0 ≤ rt
          · exact LX_t r0 (LY_t r0 T)
          · refine LX_f r0 (LY_f r0 (LK_r0 ⟨nxt, mx, tm, si, now + rto, wt, ⟨RE_in ⟨rfl, rfl, xst, xer, xtr, xiss, xuna, xnxt, xmx, xla, xcl, xrcv, xfst, xfi, xun, xen, xwnd, xpk, xhf, xrto, xsm, xsb, xsa, xis, xsmo, xspr, xtm, xsi, pk_us, xwt, xrs, yst, yer, ytr, yiss, yuna, ynxt, ymx, yla, ycl, yirs, yrcv, yfi, yun, ywnd, ypk, yhf, yrto, ysa, ysmo, ytm, ysi, pk_us, ywt, yrs, I1, I3, I4, E5_rt I5 (by omega), K, C, H, W⟩, FR_s F ?_ ?_ rfl⟩, I2⟩))
            · simp only [vX, pk_un hne]
            · simp only [vY, pk_un hne]
        by_cases x0 : zx = 0
        · exact LX_t x0 (LX_f (by omega) U)
        · exact LX_f x0 U
    · exact LX_f n0 (LY_f n0 T)
  · exact LX_f w0 (LY_f w0 T)
theorem lk_fl217 {x3 : Int} (he : e < 2) (h2 : 2 ≤ st) (hcl : 0 ≤ cl ∧ cl ≤ 1) (hx : x3 = 0 ∧ (cl = 0 ∨ la < nxt) ∨ x3 = 1 ∧ cl = 1 ∧ nxt ≤ la) (I2 : E2 L st iss una nxt mx la cl tm) (R : RZ e L now st er tr iss una nxt mx la cl irs rcv fi un fst wnd pk hf rto sa smo tm si rt wt rs nr nw ns u0 v0 (f_now, f_sent, a_state, a_error, a_tries, a_iss, a_una, a_nxt, a_max, a_last, a_closing, a_kept, a_rcv, a_first, a_held, a_fin, a_unread, a_came, a_ended, a_wnd, a_peak, a_half, a_same, a_setBy, a_setAt, a_isSet, a_rto, a_smooth, a_spread, a_timed, a_since, a_retry, a_waits, a_rest, a_segSeq, a_segAck, a_segFlags, a_segWindow, a_segLength, a_segBytes, a_row, a_many, a_taken) (g_now, g_sent, b_seq, b_flags, b_acked, b_window, b_many, b_data, b_rows, b_state, b_error, b_iss, b_una, b_nxt, b_max, b_last, b_closed, b_written, b_irs, b_unread, b_bytes, b_held, b_rcv, b_finAt, b_marked, b_wnd, b_peak, b_half, b_rto, b_same, b_tries, b_smooth, b_spread, b_byNumber, b_byAck, b_sampled, b_told, b_retry, b_ackAt, b_waitAt, b_timedAt, b_timed)) :
    LK ap0 aq0 (fun q => wX_flow_217 q (zI e) (zI x3) f_now f_sent a_state a_error a_tries a_iss a_una a_nxt a_max a_last a_closing a_kept a_rcv a_first a_held a_fin a_unread a_came a_ended a_wnd a_peak a_half a_same a_setBy a_setAt a_isSet a_rto a_smooth a_spread a_timed a_since a_retry a_waits a_rest a_segSeq a_segAck a_segFlags a_segWindow a_segLength a_segBytes a_row a_many a_taken) (fun q => wY_flow_250 q (zI e) g_now g_sent b_seq b_flags b_acked b_window b_many b_data b_rows b_state b_error b_iss b_una b_nxt b_max b_last b_closed b_written b_irs b_unread b_bytes b_held b_rcv b_finAt b_marked b_wnd b_peak b_half b_rto b_same b_tries b_smooth b_spread b_byNumber b_byAck b_sampled b_told b_retry b_ackAt b_waitAt b_timedAt b_timed) (fun u v => QF e L now st er tr iss una la cl irs rcv fi un fst wnd pk hf rto sa smo rs nr nw ns u0 v0 u v) := by
  have R0 := R
  obtain ⟨R, F⟩ := R
  obtain ⟨rfl, rfl, xst, xer, xtr, xiss, xuna, xnxt, xmx, xla, xcl, xrcv, xfst, xfi, xun, xen, xwnd, xpk, xhf, xrto, xsm, xsb, xsa, xis, xsmo, xspr, xtm, xsi, xrt, xwt, xrs, yst, yer, ytr, yiss, yuna, ynxt, ymx, yla, ycl, yirs, yrcv, yfi, yun, ywnd, ypk, yhf, yrto, ysa, ysmo, ytm, ysi, yrt, ywt, yrs, I1, I3, I4, I5, K, C, H, W⟩ := RE_el R
  have b2 := E2_b I2 h2
  unfold wX_flow_217 wY_flow_250 wY_flow_291 wY_flow_295
  simp (disch := omega) only [e_in he, e_cl he, xla (by omega), xnxt h2, ynxt, yla, ycl, x_offset, zo_pos, zl_0, zl_1, zI_le, zI_eq, zL_lt, zL_eq, true_and, and_true, true_implies, false_implies, forall_eq, not_true_eq_false, not_false_eq_true, implies_true, forall_const]
  by_cases h1 : nxt < la
  · exact LX_f (by omega) (LY_t h1 (lk_fl1 he h2 hcl (Or.inr rfl) (by omega) I2 R0))
  · refine LX_t (by omega) (LY_f h1 ?_)
    by_cases h3 : cl = 0
    · exact LY_t h3 (lk_fl1 he h2 hcl (Or.inl rfl) (by omega) I2 R0)
    · refine LY_f h3 ?_
      by_cases h4 : nxt = la
      · exact LY_t h4 (lk_fl1 he h2 hcl (Or.inr rfl) (by omega) I2 R0)
      · exact LY_f h4 (lk_fl1 he h2 hcl (Or.inl rfl) (by omega) I2 R0)
/-- behind the bytes: the FIN -/
theorem lk_fl2 (he : e < 2) (h4 : 4 ≤ st) (hcl : 0 ≤ cl ∧ cl ≤ 1) {nx ny : Nat} (I2 : E2 L st iss una nxt mx la cl tm) (hs : st ≠ 6 ∧ st ≠ 10) (R : RZ e L now st er tr iss una nxt mx la cl irs rcv fi un fst wnd pk hf rto sa smo tm si rt wt rs nr nw ns u0 v0 (f_now, f_sent, a_state, a_error, a_tries, a_iss, a_una, a_nxt, a_max, a_last, a_closing, a_kept, a_rcv, a_first, a_held, a_fin, a_unread, a_came, a_ended, a_wnd, a_peak, a_half, a_same, a_setBy, a_setAt, a_isSet, a_rto, a_smooth, a_spread, a_timed, a_since, a_retry, a_waits, a_rest, a_segSeq, a_segAck, a_segFlags, a_segWindow, a_segLength, a_segBytes, a_row, a_many, a_taken) (g_now, g_sent, b_seq, b_flags, b_acked, b_window, b_many, b_data, b_rows, b_state, b_error, b_iss, b_una, b_nxt, b_max, b_last, b_closed, b_written, b_irs, b_unread, b_bytes, b_held, b_rcv, b_finAt, b_marked, b_wnd, b_peak, b_half, b_rto, b_same, b_tries, b_smooth, b_spread, b_byNumber, b_byAck, b_sampled, b_told, b_retry, b_ackAt, b_waitAt, b_timedAt, b_timed)) :
    LK ap0 aq0 (fun q => wX_flow_11 q (zI e) (nx + 1) (zI 0) f_now f_sent a_state a_error a_tries a_iss a_una a_nxt a_max a_last a_closing a_kept a_rcv a_first a_held a_fin a_unread a_came a_ended a_wnd a_peak a_half a_same a_setBy a_setAt a_isSet a_rto a_smooth a_spread a_timed a_since a_retry a_waits a_rest a_segSeq a_segAck a_segFlags a_segWindow a_segLength a_segBytes a_row a_many a_taken) (fun q => wY_flow_47 q (zI e) (ny + 1) (zI 0) g_now g_sent b_seq b_flags b_acked b_window b_many b_data b_rows b_state b_error b_iss b_una b_nxt b_max b_last b_closed b_written b_irs b_unread b_bytes b_held b_rcv b_finAt b_marked b_wnd b_peak b_half b_rto b_same b_tries b_smooth b_spread b_byNumber b_byAck b_sampled b_told b_retry b_ackAt b_waitAt b_timedAt b_timed) (fun u v => QF e L now st er tr iss una la cl irs rcv fi un fst wnd pk hf rto sa smo rs nr nw ns u0 v0 u v) := by
  have hne : 1 - e ≠ e := by omega
  have R0 := R
  obtain ⟨R, F⟩ := R
  obtain ⟨rfl, rfl, xst, xer, xtr, xiss, xuna, xnxt, xmx, xla, xcl, xrcv, xfst, xfi, xun, xen, xwnd, xpk, xhf, xrto, xsm, xsb, xsa, xis, xsmo, xspr, xtm, xsi, xrt, xwt, xrs, yst, yer, ytr, yiss, yuna, ynxt, ymx, yla, ycl, yirs, yrcv, yfi, yun, ywnd, ypk, yhf, yrto, ysa, ysmo, ytm, ysi, yrt, ywt, yrs, I1, I3, I4, I5, K, C, H, W⟩ := RE_el R
  have b2 := E2_b I2 (by omega)
  have b4 := I4
  unfold E4 at b4
  simp (disch := omega) only [wX_flow_11, wY_flow_47, wX_flow_151, wX_flow_152, e_in he, e_cl he, xcl (by omega), xla (by omega), xnxt (by omega), ynxt, yla, ycl, x_offset, zo_pos, x_roomOf he (xnxt (by omega)) (xuna (by omega)) xwnd xpk (by omega) I4, y_room he ynxt yuna ywnd ypk I4, zl_0, zl_1, zl_4, zl_6, zk_0, zI_le, zI_eq, zI_lt, zm_eq, zL_lt, zL_le, zL_eq, true_and, and_true, true_implies, false_implies, forall_eq, not_true_eq_false, not_false_eq_true, implies_true, forall_const]
  by_cases c0 : cl = 0
  · exact LX_t c0 (LY_t c0 (lk_fl217 he (by omega) hcl (Or.inl ⟨rfl, Or.inl c0⟩) I2 R0))
  · refine LX_f c0 (LY_f c0 ?_)
    by_cases h1 : nxt = la
    · refine LX_f (by omega) (LX_f (by omega) (LX_t h1 (LY_t h1 ?_)))
      by_cases h3 : (if pk ≤ wnd then pk else wnd) - (nxt - una) ≤ 0
      · exact LX_t h3 (LY_t h3 (lk_fl217 he (by omega) hcl (Or.inr ⟨rfl, by omega, by omega⟩) I2 R0))
      · refine LX_f h3 (LY_f h3 (LK_b (lk_emit (p := nxt) (fx := 6) (fy := 4) (ln := 1) (n := 0) he (by omega) b2.1 (by omega) (by omega) (Or.inl ⟨by omega, Or.inr (Or.inl ⟨rfl, rfl⟩)⟩) rfl (fun _ => by omega) (by omega) (fun z => absurd rfl z) R0) ?_))
        intro f_now1 f_sent1 a_state1 a_error1 a_tries1 a_iss1 a_una1 a_nxt1 a_max1 a_last1 a_closing1 a_kept1 a_rcv1 a_first1 a_held1 a_fin1 a_unread1 a_came1 a_ended1 a_wnd1 a_peak1 a_half1 a_same1 a_setBy1 a_setAt1 a_isSet1 a_rto1 a_smooth1 a_spread1 a_timed1 a_since1 a_retry1 a_waits1 a_rest1 a_segSeq1 a_segAck1 a_segFlags1 a_segWindow1 a_segLength1 a_segBytes1 a_row1 a_many1 a_taken1 g_now1 g_sent1 b_seq1 b_flags1 b_acked1 b_window1 b_many1 b_data1 b_rows1 b_state1 b_error1 b_iss1 b_una1 b_nxt1 b_max1 b_last1 b_closed1 b_written1 b_irs1 b_unread1 b_bytes1 b_held1 b_rcv1 b_finAt1 b_marked1 b_wnd1 b_peak1 b_half1 b_rto1 b_same1 b_tries1 b_smooth1 b_spread1 b_byNumber1 b_byAck1 b_sampled1 b_told1 b_retry1 b_ackAt1 b_waitAt1 b_timedAt1 b_timed1 R1
        obtain ⟨R1, F1⟩ := R1
        obtain ⟨rfl, rfl, xst1, xer1, xtr1, xiss1, xuna1, xnxt1, xmx1, xla1, xcl1, xrcv1, xfst1, xfi1, xun1, xen1, xwnd1, xpk1, xhf1, xrto1, xsm1, xsb1, xsa1, xis1, xsmo1, xspr1, xtm1, xsi1, xrt1, xwt1, xrs1, yst1, yer1, ytr1, yiss1, yuna1, ynxt1, ymx1, yla1, ycl1, yirs1, yrcv1, yfi1, yun1, ywnd1, ypk1, yhf1, yrto1, ysa1, ysmo1, ytm1, ysi1, yrt1, ywt1, yrs1, I11, I31, I41, I51, K1, C1, H1, W1⟩ := RE_el R1
        dsimp only
        simp (disch := omega) only [e_in he, e_cl he, xnxt1 (by omega), ynxt1, zl_65535, zI_add, zI_m16, zm_add, zk_1, zL_add, true_and, and_true, true_implies, false_implies, forall_eq, not_true_eq_false, not_false_eq_true, implies_true, forall_const]
        refine lk_fl217 he (by omega) hcl (Or.inl ⟨rfl, Or.inr (by omega)⟩) (E2_send I2 h4 hs (by omega) (by omega)) ⟨RE_in ⟨rfl, rfl, xst1, xer1, xtr1, xiss1, xuna1, fun _ => pk_us, xmx1, xla1, xcl1, xrcv1, xfst1, xfi1, xun1, xen1, xwnd1, xpk1, xhf1, xrto1, xsm1, xsb1, xsa1, xis1, xsmo1, xspr1, xtm1, xsi1, xrt1, xwt1, xrs1, yst1, yer1, ytr1, yiss1, yuna1, pk_uLs, ymx1, yla1, ycl1, yirs1, yrcv1, yfi1, yun1, ywnd1, ypk1, yhf1, yrto1, ysa1, ysmo1, ytm1, ysi1, yrt1, ywt1, yrs1, I11, I31, I41, I51, K1, C1, H1, W1⟩, FR_s F1 ?_ ?_ rfl⟩
        · simp only [vX, pk_un hne]
        · simp only [vY, pk_uLn hne]
    · by_cases h3 : nxt < la
      · exact LX_f (by omega) (LX_f (by omega) (LX_f h1 (LY_f h1 (lk_fl217 he (by omega) hcl (Or.inr ⟨rfl, by omega, by omega⟩) I2 R0))))
      · exact LX_t (by omega) (LY_f h1 (lk_fl217 he (by omega) hcl (Or.inl ⟨rfl, Or.inr (by omega)⟩) I2 R0))
end
end
section
/-! flow: the loop -/
section
variable {e : Nat} {L now : Int} {st er tr iss una nxt mx la cl irs rcv fi un fst wnd pk hf rto sa smo tm si rt wt rs nr nw ns : Int} {f_now f_sent : Int32} {a_state a_error a_tries a_iss a_una a_nxt a_max a_last a_closing a_kept a_rcv a_first a_held a_fin a_unread a_came a_ended a_wnd a_peak a_half a_same a_setBy a_setAt a_isSet a_rto a_smooth a_spread a_timed a_since a_retry a_waits a_rest a_segSeq a_segAck a_segFlags a_segWindow a_segLength a_segBytes a_row a_many a_taken : Nat → Int32} {g_now g_sent : Int32} {b_seq b_flags b_acked b_window b_many b_data b_rows b_state b_error b_iss : Nat → Int32} {b_una b_nxt b_max b_last : Nat → Int64} {b_closed b_written b_irs b_unread b_bytes b_held : Nat → Int32} {b_rcv b_finAt : Nat → Int64} {b_marked b_wnd b_peak b_half b_rto b_same b_tries b_smooth b_spread b_byNumber b_byAck b_sampled b_told b_retry b_ackAt b_waitAt b_timedAt : Nat → Int32} {b_timed : Nat → Int64} {u0 : SX} {v0 : SY}
theorem lk_fl52 {n : Int} {nx ny : Nat} (he : e < 2) (h4 : 4 ≤ st) (hs : st ≠ 6 ∧ st ≠ 10) (hcl : 0 ≤ cl ∧ cl ≤ 1) (hn : -100 ≤ n ∧ n ≤ 8 ∧ n ≤ la - nxt) (I2 : E2 L st iss una nxt mx la cl tm) (R : RZ e L now st er tr iss una nxt mx la cl irs rcv fi un fst wnd pk hf rto sa smo tm si rt wt rs nr nw ns u0 v0 (f_now, f_sent, a_state, a_error, a_tries, a_iss, a_una, a_nxt, a_max, a_last, a_closing, a_kept, a_rcv, a_first, a_held, a_fin, a_unread, a_came, a_ended, a_wnd, a_peak, a_half, a_same, a_setBy, a_setAt, a_isSet, a_rto, a_smooth, a_spread, a_timed, a_since, a_retry, a_waits, a_rest, a_segSeq, a_segAck, a_segFlags, a_segWindow, a_segLength, a_segBytes, a_row, a_many, a_taken) (g_now, g_sent, b_seq, b_flags, b_acked, b_window, b_many, b_data, b_rows, b_state, b_error, b_iss, b_una, b_nxt, b_max, b_last, b_closed, b_written, b_irs, b_unread, b_bytes, b_held, b_rcv, b_finAt, b_marked, b_wnd, b_peak, b_half, b_rto, b_same, b_tries, b_smooth, b_spread, b_byNumber, b_byAck, b_sampled, b_told, b_retry, b_ackAt, b_waitAt, b_timedAt, b_timed))
    (IH : 0 < n → ∀ (mx1 tm1 si1 rt1 wt1 : Int) {f_now1 f_sent1 : Int32} {a_state1 a_error1 a_tries1 a_iss1 a_una1 a_nxt1 a_max1 a_last1 a_closing1 a_kept1 a_rcv1 a_first1 a_held1 a_fin1 a_unread1 a_came1 a_ended1 a_wnd1 a_peak1 a_half1 a_same1 a_setBy1 a_setAt1 a_isSet1 a_rto1 a_smooth1 a_spread1 a_timed1 a_since1 a_retry1 a_waits1 a_rest1 a_segSeq1 a_segAck1 a_segFlags1 a_segWindow1 a_segLength1 a_segBytes1 a_row1 a_many1 a_taken1 : Nat → Int32} {g_now1 g_sent1 : Int32} {b_seq1 b_flags1 b_acked1 b_window1 b_many1 b_data1 b_rows1 b_state1 b_error1 b_iss1 : Nat → Int32} {b_una1 b_nxt1 b_max1 b_last1 : Nat → Int64} {b_closed1 b_written1 b_irs1 b_unread1 b_bytes1 b_held1 : Nat → Int32} {b_rcv1 b_finAt1 : Nat → Int64} {b_marked1 b_wnd1 b_peak1 b_half1 b_rto1 b_same1 b_tries1 b_smooth1 b_spread1 b_byNumber1 b_byAck1 b_sampled1 b_told1 b_retry1 b_ackAt1 b_waitAt1 b_timedAt1 : Nat → Int32} {b_timed1 : Nat → Int64}, RZ e L now st er tr iss una (nxt + n) mx1 la cl irs rcv fi un fst wnd pk hf rto sa smo tm1 si1 rt1 wt1 rs nr nw ns u0 v0 (f_now1, f_sent1, a_state1, a_error1, a_tries1, a_iss1, a_una1, a_nxt1, a_max1, a_last1, a_closing1, a_kept1, a_rcv1, a_first1, a_held1, a_fin1, a_unread1, a_came1, a_ended1, a_wnd1, a_peak1, a_half1, a_same1, a_setBy1, a_setAt1, a_isSet1, a_rto1, a_smooth1, a_spread1, a_timed1, a_since1, a_retry1, a_waits1, a_rest1, a_segSeq1, a_segAck1, a_segFlags1, a_segWindow1, a_segLength1, a_segBytes1, a_row1, a_many1, a_taken1) (g_now1, g_sent1, b_seq1, b_flags1, b_acked1, b_window1, b_many1, b_data1, b_rows1, b_state1, b_error1, b_iss1, b_una1, b_nxt1, b_max1, b_last1, b_closed1, b_written1, b_irs1, b_unread1, b_bytes1, b_held1, b_rcv1, b_finAt1, b_marked1, b_wnd1, b_peak1, b_half1, b_rto1, b_same1, b_tries1, b_smooth1, b_spread1, b_byNumber1, b_byAck1, b_sampled1, b_told1, b_retry1, b_ackAt1, b_waitAt1, b_timedAt1, b_timed1) → E2 L st iss una (nxt + n) mx1 la cl tm1 →
      LK ap0 aq0 (fun q => wX_flow_11 q (zI e) (nx + 1) (zI 1) f_now1 f_sent1 a_state1 a_error1 a_tries1 a_iss1 a_una1 a_nxt1 a_max1 a_last1 a_closing1 a_kept1 a_rcv1 a_first1 a_held1 a_fin1 a_unread1 a_came1 a_ended1 a_wnd1 a_peak1 a_half1 a_same1 a_setBy1 a_setAt1 a_isSet1 a_rto1 a_smooth1 a_spread1 a_timed1 a_since1 a_retry1 a_waits1 a_rest1 a_segSeq1 a_segAck1 a_segFlags1 a_segWindow1 a_segLength1 a_segBytes1 a_row1 a_many1 a_taken1) (fun q => wY_flow_47 q (zI e) (ny + 1) (zI (if nxt + n < la then 1 else 0)) g_now1 g_sent1 b_seq1 b_flags1 b_acked1 b_window1 b_many1 b_data1 b_rows1 b_state1 b_error1 b_iss1 b_una1 b_nxt1 b_max1 b_last1 b_closed1 b_written1 b_irs1 b_unread1 b_bytes1 b_held1 b_rcv1 b_finAt1 b_marked1 b_wnd1 b_peak1 b_half1 b_rto1 b_same1 b_tries1 b_smooth1 b_spread1 b_byNumber1 b_byAck1 b_sampled1 b_told1 b_retry1 b_ackAt1 b_waitAt1 b_timedAt1 b_timed1) (fun u v => QF e L now st er tr iss una la cl irs rcv fi un fst wnd pk hf rto sa smo rs nr nw ns u0 v0 u v)) :
    LK ap0 aq0 (fun q => wX_flow_52 q (wX_flow_11 q (zI e) (nx + 1)) (zI e) (zI n) f_now f_sent a_state a_error a_tries a_iss a_una a_nxt a_max a_last a_closing a_kept a_rcv a_first a_held a_fin a_unread a_came a_ended a_wnd a_peak a_half a_same a_setBy a_setAt a_isSet a_rto a_smooth a_spread a_timed a_since a_retry a_waits a_rest a_segSeq a_segAck a_segFlags a_segWindow a_segLength a_segBytes a_row a_many a_taken) (fun q => wY_flow_99 q (wY_flow_47 q (zI e) (ny + 1)) (zI e) (zL n) g_now g_sent b_seq b_flags b_acked b_window b_many b_data b_rows b_state b_error b_iss b_una b_nxt b_max b_last b_closed b_written b_irs b_unread b_bytes b_held b_rcv b_finAt b_marked b_wnd b_peak b_half b_rto b_same b_tries b_smooth b_spread b_byNumber b_byAck b_sampled b_told b_retry b_ackAt b_waitAt b_timedAt b_timed) (fun u v => QF e L now st er tr iss una la cl irs rcv fi un fst wnd pk hf rto sa smo rs nr nw ns u0 v0 u v) := by
  have hne : 1 - e ≠ e := by omega
  have R0 := R
  obtain ⟨R, F⟩ := R
  obtain ⟨rfl, rfl, xst, xer, xtr, xiss, xuna, xnxt, xmx, xla, xcl, xrcv, xfst, xfi, xun, xen, xwnd, xpk, xhf, xrto, xsm, xsb, xsa, xis, xsmo, xspr, xtm, xsi, xrt, xwt, xrs, yst, yer, ytr, yiss, yuna, ynxt, ymx, yla, ycl, yirs, yrcv, yfi, yun, ywnd, ypk, yhf, yrto, ysa, ysmo, ytm, ysi, yrt, ywt, yrs, I1, I3, I4, I5, K, C, H, W⟩ := RE_el R
  have b2 := E2_b I2 (by omega)
  have b27 := I2.2.2.2.2.2.2.1 h4
  have T : LK ap0 aq0 (fun q => wX_flow_82 q (wX_flow_11 q (zI e) (nx + 1)) (zI e) (zI n) 0 (zI now) f_sent a_state a_error a_tries a_iss a_una a_nxt a_max a_last a_closing a_kept a_rcv a_first a_held a_fin a_unread a_came a_ended a_wnd a_peak a_half a_same a_setBy a_setAt a_isSet a_rto a_smooth a_spread a_timed a_since a_retry a_waits a_rest a_segSeq a_segAck a_segFlags a_segWindow a_segLength a_segBytes a_row a_many a_taken) (fun q => wY_flow_136 q (wY_flow_47 q (zI e) (ny + 1)) (zI e) (zL n) 0 (zI now) g_sent b_seq b_flags b_acked b_window b_many b_data b_rows b_state b_error b_iss b_una b_nxt b_max b_last b_closed b_written b_irs b_unread b_bytes b_held b_rcv b_finAt b_marked b_wnd b_peak b_half b_rto b_same b_tries b_smooth b_spread b_byNumber b_byAck b_sampled b_told b_retry b_ackAt b_waitAt b_timedAt b_timed) (fun u v => QF e L now st er tr iss una la cl irs rcv fi un fst wnd pk hf rto sa smo rs nr nw ns u0 v0 u v) := by
    unfold wX_flow_82 wY_flow_136
    exact LX_t rfl (LY_t rfl (lk_fl2 he h4 hcl I2 hs R0))
  have S : 0 < n → LK ap0 aq0 (fun q => wX_flow_82 q (wX_flow_11 q (zI e) (nx + 1)) (zI e) (zI n) 1 (zI now) f_sent a_state a_error a_tries a_iss a_una a_nxt a_max a_last a_closing a_kept a_rcv a_first a_held a_fin a_unread a_came a_ended a_wnd a_peak a_half a_same a_setBy a_setAt a_isSet a_rto a_smooth a_spread a_timed a_since a_retry a_waits a_rest a_segSeq a_segAck a_segFlags a_segWindow a_segLength a_segBytes a_row a_many a_taken) (fun q => wY_flow_136 q (wY_flow_47 q (zI e) (ny + 1)) (zI e) (zL n) 1 (zI now) g_sent b_seq b_flags b_acked b_window b_many b_data b_rows b_state b_error b_iss b_una b_nxt b_max b_last b_closed b_written b_irs b_unread b_bytes b_held b_rcv b_finAt b_marked b_wnd b_peak b_half b_rto b_same b_tries b_smooth b_spread b_byNumber b_byAck b_sampled b_told b_retry b_ackAt b_waitAt b_timedAt b_timed) (fun u v => QF e L now st er tr iss una la cl irs rcv fi un fst wnd pk hf rto sa smo rs nr nw ns u0 v0 u v) := by
    intro hn0
    have IH' := IH hn0
    clear IH
    obtain ⟨k, rfl⟩ := Int.eq_ofNat_of_zero_le (Int.le_of_lt hn0)
    unfold wX_flow_82 wY_flow_136
    refine LX_f (by decide) (LY_f (by decide) (LX_a (e_in he) (LY_a (e_in he) ?_)))
    rw [e_cl he, xnxt (by omega), ynxt, zI_i]
    refine LK_b (lk_emit (p := nxt) (fx := 2) (fy := 0) (ln := k) (n := k) he (by omega) b2.1 (by omega) (by omega) (Or.inl ⟨by omega, Or.inl ⟨rfl, rfl⟩⟩) (by omega) (fun _ => by omega) (by omega) (fun _ => by omega) R0) ?_
    intro f_now1 f_sent1 a_state1 a_error1 a_tries1 a_iss1 a_una1 a_nxt1 a_max1 a_last1 a_closing1 a_kept1 a_rcv1 a_first1 a_held1 a_fin1 a_unread1 a_came1 a_ended1 a_wnd1 a_peak1 a_half1 a_same1 a_setBy1 a_setAt1 a_isSet1 a_rto1 a_smooth1 a_spread1 a_timed1 a_since1 a_retry1 a_waits1 a_rest1 a_segSeq1 a_segAck1 a_segFlags1 a_segWindow1 a_segLength1 a_segBytes1 a_row1 a_many1 a_taken1 g_now1 g_sent1 b_seq1 b_flags1 b_acked1 b_window1 b_many1 b_data1 b_rows1 b_state1 b_error1 b_iss1 b_una1 b_nxt1 b_max1 b_last1 b_closed1 b_written1 b_irs1 b_unread1 b_bytes1 b_held1 b_rcv1 b_finAt1 b_marked1 b_wnd1 b_peak1 b_half1 b_rto1 b_same1 b_tries1 b_smooth1 b_spread1 b_byNumber1 b_byAck1 b_sampled1 b_told1 b_retry1 b_ackAt1 b_waitAt1 b_timedAt1 b_timed1 R1
    obtain ⟨R1, F1⟩ := R1
    obtain ⟨rfl, rfl, xst1, xer1, xtr1, xiss1, xuna1, xnxt1, xmx1, xla1, xcl1, xrcv1, xfst1, xfi1, xun1, xen1, xwnd1, xpk1, xhf1, xrto1, xsm1, xsb1, xsa1, xis1, xsmo1, xspr1, xtm1, xsi1, xrt1, xwt1, xrs1, yst1, yer1, ytr1, yiss1, yuna1, ynxt1, ymx1, yla1, ycl1, yirs1, yrcv1, yfi1, yun1, ywnd1, ypk1, yhf1, yrto1, ysa1, ysmo1, ytm1, ysi1, yrt1, ywt1, yrs1, I11, I31, I41, I51, K1, C1, H1, W1⟩ := RE_el R1
    dsimp only
    simp (disch := omega) only [e_in he, e_cl he, xnxt1 (by omega), ynxt1, yla1, pk_uLs, zl_65535, zI_add, zI_m16, zm_add, zL_add, zL_le, true_and, and_true, true_implies, false_implies, forall_eq, not_true_eq_false, not_false_eq_true, implies_true, forall_const]
    have K1 := IH' _ _ _ _ _ (show RZ e L now st er tr iss una (nxt + k) (if (k : Int) ≠ 0 ∧ mx < nxt + k then nxt + k else mx) la cl irs rcv fi un fst wnd pk hf rto sa smo (if (k : Int) ≠ 0 ∧ nxt = mx ∧ tm < 0 then nxt else tm) (if (k : Int) ≠ 0 ∧ nxt = mx ∧ tm < 0 then now else si) (if (k : Int) ≠ 0 ∧ rt < 0 then now + rto else rt) (if st = 2 then wt else -1) rs nr nw ns u0 v0 (zI now, f_sent1, a_state1, a_error1, a_tries1, a_iss1, a_una1, upd a_nxt1 e (zI ((iss + (nxt + k)) % 65536)), a_max1, a_last1, a_closing1, a_kept1, a_rcv1, a_first1, a_held1, a_fin1, a_unread1, a_came1, a_ended1, a_wnd1, a_peak1, a_half1, a_same1, a_setBy1, a_setAt1, a_isSet1, a_rto1, a_smooth1, a_spread1, a_timed1, a_since1, a_retry1, a_waits1, a_rest1, a_segSeq1, a_segAck1, a_segFlags1, a_segWindow1, a_segLength1, a_segBytes1, a_row1, a_many1, a_taken1) (zI now, g_sent1, b_seq1, b_flags1, b_acked1, b_window1, b_many1, b_data1, b_rows1, b_state1, b_error1, b_iss1, b_una1, vp_updL b_nxt1 e (zL (nxt + k)), b_max1, b_last1, b_closed1, b_written1, b_irs1, b_unread1, b_bytes1, b_held1, b_rcv1, b_finAt1, b_marked1, b_wnd1, b_peak1, b_half1, b_rto1, b_same1, b_tries1, b_smooth1, b_spread1, b_byNumber1, b_byAck1, b_sampled1, b_told1, b_retry1, b_ackAt1, b_waitAt1, b_timedAt1, b_timed1) from ⟨RE_in ⟨rfl, rfl, xst1, xer1, xtr1, xiss1, xuna1, fun _ => pk_us, xmx1, xla1, xcl1, xrcv1, xfst1, xfi1, xun1, xen1, xwnd1, xpk1, xhf1, xrto1, xsm1, xsb1, xsa1, xis1, xsmo1, xspr1, xtm1, xsi1, xrt1, xwt1, xrs1, yst1, yer1, ytr1, yiss1, yuna1, pk_uLs, ymx1, yla1, ycl1, yirs1, yrcv1, yfi1, yun1, ywnd1, ypk1, yhf1, yrto1, ysa1, ysmo1, ytm1, ysi1, yrt1, ywt1, yrs1, I11, I31, I41, I51, K1, C1, H1, W1⟩, FR_s F1 (by simp only [vX, pk_un hne]) (by simp only [vY, pk_uLn hne]) rfl⟩) (E2_send I2 h4 hs (by omega) (by omega))
    by_cases hl : nxt + k < la
    · rw [if_pos hl] at K1
      exact LY_f (by omega) K1
    · rw [if_neg hl] at K1
      exact LY_t (by omega) K1
  unfold wX_flow_52 wY_flow_99 wX_flow_77 wX_flow_81 wY_flow_131 wY_flow_135
  simp (disch := omega) only [e_in he, e_cl he, xnxt (by omega), ynxt, xuna (by omega), yuna, zl_8, zk_8, zk_0, zI_eq, zL_eq, zm_eq, zL_le, true_and, and_true, true_implies, false_implies, forall_eq, not_true_eq_false, not_false_eq_true, implies_true, forall_const]
  by_cases n8 : n = 8
  · exact LX_t n8 (LY_t n8 (S (by omega)))
  · refine LX_f n8 (LY_f n8 ?_)
    by_cases n0 : n ≤ 0
    · exact LX_t (by rw [zl_0, zI_le (by omega)]; exact n0) (LY_t n0 T)
    · refine LX_f (by rw [zl_0, zI_le (by omega)]; exact n0) (LY_f n0 ?_)
      by_cases hu : nxt = una
      · exact LX_t hu (LY_t hu (S (by omega)))
      · exact LX_f hu (LY_f hu T)
theorem lk_flA {nx ny : Nat} (he : e < 2) (h4 : 4 ≤ st) (hs : st ≠ 6 ∧ st ≠ 10) (hcl : 0 ≤ cl ∧ cl ≤ 1) (hn : la ≤ nxt) (I2 : E2 L st iss una nxt mx la cl tm) (R : RZ e L now st er tr iss una nxt mx la cl irs rcv fi un fst wnd pk hf rto sa smo tm si rt wt rs nr nw ns u0 v0 (f_now, f_sent, a_state, a_error, a_tries, a_iss, a_una, a_nxt, a_max, a_last, a_closing, a_kept, a_rcv, a_first, a_held, a_fin, a_unread, a_came, a_ended, a_wnd, a_peak, a_half, a_same, a_setBy, a_setAt, a_isSet, a_rto, a_smooth, a_spread, a_timed, a_since, a_retry, a_waits, a_rest, a_segSeq, a_segAck, a_segFlags, a_segWindow, a_segLength, a_segBytes, a_row, a_many, a_taken) (g_now, g_sent, b_seq, b_flags, b_acked, b_window, b_many, b_data, b_rows, b_state, b_error, b_iss, b_una, b_nxt, b_max, b_last, b_closed, b_written, b_irs, b_unread, b_bytes, b_held, b_rcv, b_finAt, b_marked, b_wnd, b_peak, b_half, b_rto, b_same, b_tries, b_smooth, b_spread, b_byNumber, b_byAck, b_sampled, b_told, b_retry, b_ackAt, b_waitAt, b_timedAt, b_timed)) :
    LK ap0 aq0 (fun q => wX_flow_11 q (zI e) (nx + 2) (zI 1) f_now f_sent a_state a_error a_tries a_iss a_una a_nxt a_max a_last a_closing a_kept a_rcv a_first a_held a_fin a_unread a_came a_ended a_wnd a_peak a_half a_same a_setBy a_setAt a_isSet a_rto a_smooth a_spread a_timed a_since a_retry a_waits a_rest a_segSeq a_segAck a_segFlags a_segWindow a_segLength a_segBytes a_row a_many a_taken) (fun q => wY_flow_47 q (zI e) (ny + 1) (zI 0) g_now g_sent b_seq b_flags b_acked b_window b_many b_data b_rows b_state b_error b_iss b_una b_nxt b_max b_last b_closed b_written b_irs b_unread b_bytes b_held b_rcv b_finAt b_marked b_wnd b_peak b_half b_rto b_same b_tries b_smooth b_spread b_byNumber b_byAck b_sampled b_told b_retry b_ackAt b_waitAt b_timedAt b_timed) (fun u v => QF e L now st er tr iss una la cl irs rcv fi un fst wnd pk hf rto sa smo rs nr nw ns u0 v0 u v) := by
  have T := lk_fl2 (nx := nx) (ny := ny) he h4 hcl I2 hs R
  obtain ⟨R, F⟩ := R
  obtain ⟨rfl, rfl, xst, xer, xtr, xiss, xuna, xnxt, xmx, xla, xcl, xrcv, xfst, xfi, xun, xen, xwnd, xpk, xhf, xrto, xsm, xsb, xsa, xis, xsmo, xspr, xtm, xsi, xrt, xwt, xrs, yst, yer, ytr, yiss, yuna, ynxt, ymx, yla, ycl, yirs, yrcv, yfi, yun, ywnd, ypk, yhf, yrto, ysa, ysmo, ytm, ysi, yrt, ywt, yrs, I1, I3, I4, I5, K, C, H, W⟩ := RE_el R
  have b2 := E2_b I2 (by omega)
  have b4 := I4
  unfold E4 at b4
  refine LK_x (fun q h => ?_) T
  rw [wX_flow_11]
  refine br_f (by decide) ⟨e_in he, ?_⟩
  rw [e_cl he, xnxt (by omega), x_bytesFrom he (xla (by omega)) (by omega), x_roomOf he (xnxt (by omega)) (xuna (by omega)) xwnd xpk (by omega) I4]
  have h0 : (if nxt ≤ la then la - nxt else 0) = 0 := by split <;> omega
  rw [h0]
  refine br_t (by decide) ?_
  unfold wX_flow_43 wX_flow_52 wX_flow_81 wX_flow_82
  have hr : -100 ≤ (if pk ≤ wnd then pk else wnd) - (nxt - una) ∧ (if pk ≤ wnd then pk else wnd) - (nxt - una) ≤ 100 := by split <;> omega
  generalize (if pk ≤ wnd then pk else wnd) - (nxt - una) = r at *
  by_cases r0 : 0 ≤ r
  · refine br_t (by rw [zI_le (by omega)]; exact r0) ?_
    exact br_f (by decide) (br_t (by decide) (br_t rfl h))
  · refine br_f (by rw [zI_le (by omega)]; exact r0) ?_
    exact br_f (by rw [zl_8, zI_eq (by omega)]; omega) (br_t (by rw [zl_0, zI_le (by omega)]; omega) (br_t rfl h))
theorem lk_flow_l (he : e < 2) : ∀ (d : Nat) {st er tr iss una nxt mx la cl irs rcv fi un fst wnd pk hf rto sa smo tm si rt wt rs nr nw ns : Int} {f_now f_sent : Int32} {a_state a_error a_tries a_iss a_una a_nxt a_max a_last a_closing a_kept a_rcv a_first a_held a_fin a_unread a_came a_ended a_wnd a_peak a_half a_same a_setBy a_setAt a_isSet a_rto a_smooth a_spread a_timed a_since a_retry a_waits a_rest a_segSeq a_segAck a_segFlags a_segWindow a_segLength a_segBytes a_row a_many a_taken : Nat → Int32} {g_now g_sent : Int32} {b_seq b_flags b_acked b_window b_many b_data b_rows b_state b_error b_iss : Nat → Int32} {b_una b_nxt b_max b_last : Nat → Int64} {b_closed b_written b_irs b_unread b_bytes b_held : Nat → Int32} {b_rcv b_finAt : Nat → Int64} {b_marked b_wnd b_peak b_half b_rto b_same b_tries b_smooth b_spread b_byNumber b_byAck b_sampled b_told b_retry b_ackAt b_waitAt b_timedAt : Nat → Int32} {b_timed : Nat → Int64} (nx ny : Nat), la - nxt ≤ d → d + 2 ≤ nx → d + 2 ≤ ny → 4 ≤ st → (st ≠ 6 ∧ st ≠ 10) → (0 ≤ cl ∧ cl ≤ 1) → E2 L st iss una nxt mx la cl tm → RZ e L now st er tr iss una nxt mx la cl irs rcv fi un fst wnd pk hf rto sa smo tm si rt wt rs nr nw ns u0 v0 (f_now, f_sent, a_state, a_error, a_tries, a_iss, a_una, a_nxt, a_max, a_last, a_closing, a_kept, a_rcv, a_first, a_held, a_fin, a_unread, a_came, a_ended, a_wnd, a_peak, a_half, a_same, a_setBy, a_setAt, a_isSet, a_rto, a_smooth, a_spread, a_timed, a_since, a_retry, a_waits, a_rest, a_segSeq, a_segAck, a_segFlags, a_segWindow, a_segLength, a_segBytes, a_row, a_many, a_taken) (g_now, g_sent, b_seq, b_flags, b_acked, b_window, b_many, b_data, b_rows, b_state, b_error, b_iss, b_una, b_nxt, b_max, b_last, b_closed, b_written, b_irs, b_unread, b_bytes, b_held, b_rcv, b_finAt, b_marked, b_wnd, b_peak, b_half, b_rto, b_same, b_tries, b_smooth, b_spread, b_byNumber, b_byAck, b_sampled, b_told, b_retry, b_ackAt, b_waitAt, b_timedAt, b_timed) →
    LK ap0 aq0 (fun q => wX_flow_11 q (zI e) nx (zI 1) f_now f_sent a_state a_error a_tries a_iss a_una a_nxt a_max a_last a_closing a_kept a_rcv a_first a_held a_fin a_unread a_came a_ended a_wnd a_peak a_half a_same a_setBy a_setAt a_isSet a_rto a_smooth a_spread a_timed a_since a_retry a_waits a_rest a_segSeq a_segAck a_segFlags a_segWindow a_segLength a_segBytes a_row a_many a_taken) (fun q => wY_flow_47 q (zI e) ny (zI (if nxt < la then 1 else 0)) g_now g_sent b_seq b_flags b_acked b_window b_many b_data b_rows b_state b_error b_iss b_una b_nxt b_max b_last b_closed b_written b_irs b_unread b_bytes b_held b_rcv b_finAt b_marked b_wnd b_peak b_half b_rto b_same b_tries b_smooth b_spread b_byNumber b_byAck b_sampled b_told b_retry b_ackAt b_waitAt b_timedAt b_timed) (fun u v => QF e L now st er tr iss una la cl irs rcv fi un fst wnd pk hf rto sa smo rs nr nw ns u0 v0 u v) := by
  intro d
  induction d with
  | zero =>
    intro st er tr iss una nxt mx la cl irs rcv fi un fst wnd pk hf rto sa smo tm si rt wt rs nr nw ns f_now f_sent a_state a_error a_tries a_iss a_una a_nxt a_max a_last a_closing a_kept a_rcv a_first a_held a_fin a_unread a_came a_ended a_wnd a_peak a_half a_same a_setBy a_setAt a_isSet a_rto a_smooth a_spread a_timed a_since a_retry a_waits a_rest a_segSeq a_segAck a_segFlags a_segWindow a_segLength a_segBytes a_row a_many a_taken g_now g_sent b_seq b_flags b_acked b_window b_many b_data b_rows b_state b_error b_iss b_una b_nxt b_max b_last b_closed b_written b_irs b_unread b_bytes b_held b_rcv b_finAt b_marked b_wnd b_peak b_half b_rto b_same b_tries b_smooth b_spread b_byNumber b_byAck b_sampled b_told b_retry b_ackAt b_waitAt b_timedAt b_timed nx ny hd hx hy h4 hs hcl I2 R
    obtain ⟨nx, rfl⟩ : ∃ n', nx = n' + 2 := ⟨nx - 2, by omega⟩
    obtain ⟨ny, rfl⟩ : ∃ n', ny = n' + 1 := ⟨ny - 1, by omega⟩
    rw [if_neg (by omega)]
    exact lk_flA he h4 hs hcl (by omega) I2 R
  | succ d ih =>
    intro st er tr iss una nxt mx la cl irs rcv fi un fst wnd pk hf rto sa smo tm si rt wt rs nr nw ns f_now f_sent a_state a_error a_tries a_iss a_una a_nxt a_max a_last a_closing a_kept a_rcv a_first a_held a_fin a_unread a_came a_ended a_wnd a_peak a_half a_same a_setBy a_setAt a_isSet a_rto a_smooth a_spread a_timed a_since a_retry a_waits a_rest a_segSeq a_segAck a_segFlags a_segWindow a_segLength a_segBytes a_row a_many a_taken g_now g_sent b_seq b_flags b_acked b_window b_many b_data b_rows b_state b_error b_iss b_una b_nxt b_max b_last b_closed b_written b_irs b_unread b_bytes b_held b_rcv b_finAt b_marked b_wnd b_peak b_half b_rto b_same b_tries b_smooth b_spread b_byNumber b_byAck b_sampled b_told b_retry b_ackAt b_waitAt b_timedAt b_timed nx ny hd hx hy h4 hs hcl I2 R
    obtain ⟨nx, rfl⟩ : ∃ n', nx = n' + 2 := ⟨nx - 2, by omega⟩
    obtain ⟨ny, rfl⟩ : ∃ n', ny = n' + 2 := ⟨ny - 2, by omega⟩
    by_cases hl : la ≤ nxt
    · rw [if_neg (by omega)]
      exact lk_flA he h4 hs hcl (by omega) I2 R
    · rw [if_pos (by omega)]
      have R0 := R
      obtain ⟨R, F⟩ := R
      obtain ⟨rfl, rfl, xst, xer, xtr, xiss, xuna, xnxt, xmx, xla, xcl, xrcv, xfst, xfi, xun, xen, xwnd, xpk, xhf, xrto, xsm, xsb, xsa, xis, xsmo, xspr, xtm, xsi, xrt, xwt, xrs, yst, yer, ytr, yiss, yuna, ynxt, ymx, yla, ycl, yirs, yrcv, yfi, yun, ywnd, ypk, yhf, yrto, ysa, ysmo, ytm, ysi, yrt, ywt, yrs, I1, I3, I4, I5, K, C, H, W⟩ := RE_el R
      have b2 := E2_b I2 (by omega)
      have b4 := I4
      unfold E4 at b4
      have hr : -100 ≤ (if pk ≤ wnd then pk else wnd) - (nxt - una) ∧ (if pk ≤ wnd then pk else wnd) - (nxt - una) ≤ 100 := by split <;> omega
      have X : ∀ q : SX → Prop, ∀ n : Int, (n = if la - nxt ≤ 8 then la - nxt else 8) → wX_flow_43 q (wX_flow_11 q (zI e) (nx + 1)) (zI e) (zI n) (zI ((if pk ≤ wnd then pk else wnd) - (nxt - una))) (zI now) f_sent a_state a_error a_tries a_iss a_una a_nxt a_max a_last a_closing a_kept a_rcv a_first a_held a_fin a_unread a_came a_ended a_wnd a_peak a_half a_same a_setBy a_setAt a_isSet a_rto a_smooth a_spread a_timed a_since a_retry a_waits a_rest a_segSeq a_segAck a_segFlags a_segWindow a_segLength a_segBytes a_row a_many a_taken → wX_flow_11 q (zI e) (nx + 2) (zI 1) (zI now) f_sent a_state a_error a_tries a_iss a_una a_nxt a_max a_last a_closing a_kept a_rcv a_first a_held a_fin a_unread a_came a_ended a_wnd a_peak a_half a_same a_setBy a_setAt a_isSet a_rto a_smooth a_spread a_timed a_since a_retry a_waits a_rest a_segSeq a_segAck a_segFlags a_segWindow a_segLength a_segBytes a_row a_many a_taken := by
        intro q n hn h
        rw [wX_flow_11]
        refine br_f (by decide) ⟨e_in he, ?_⟩
        rw [e_cl he, xnxt (by omega), x_bytesFrom he (xla (by omega)) (by omega), x_roomOf he (xnxt (by omega)) (xuna (by omega)) xwnd xpk (by omega) I4, if_pos (show nxt ≤ la by omega)]
        by_cases h8 : la - nxt ≤ 8
        · rw [if_pos h8] at hn
          subst hn
          exact br_t (by rw [zl_8, zI_le (by omega)]; exact h8) h
        · rw [if_neg h8] at hn
          subst hn
          exact br_f (by rw [zl_8, zI_le (by omega)]; exact h8) h
      have Y : ∀ q : SY → Prop, ∀ n : Int, (n = if la - nxt ≤ 8 then la - nxt else 8) → wY_flow_87 q (wY_flow_47 q (zI e) (ny + 1)) (zI e) (zL n) (zL ((if pk ≤ wnd then pk else wnd) - (nxt - una))) (zI now) g_sent b_seq b_flags b_acked b_window b_many b_data b_rows b_state b_error b_iss b_una b_nxt b_max b_last b_closed b_written b_irs b_unread b_bytes b_held b_rcv b_finAt b_marked b_wnd b_peak b_half b_rto b_same b_tries b_smooth b_spread b_byNumber b_byAck b_sampled b_told b_retry b_ackAt b_waitAt b_timedAt b_timed → wY_flow_47 q (zI e) (ny + 2) (zI 1) (zI now) g_sent b_seq b_flags b_acked b_window b_many b_data b_rows b_state b_error b_iss b_una b_nxt b_max b_last b_closed b_written b_irs b_unread b_bytes b_held b_rcv b_finAt b_marked b_wnd b_peak b_half b_rto b_same b_tries b_smooth b_spread b_byNumber b_byAck b_sampled b_told b_retry b_ackAt b_waitAt b_timedAt b_timed := by
        intro q n hn h
        rw [wY_flow_47]
        refine br_f (by decide) ⟨e_in he, e_in he, ?_⟩
        rw [e_cl he, ynxt, yla, zL_sub]
        refine nm_e ?_
        rw [y_room he ynxt yuna ywnd ypk I4]
        by_cases h8 : la - nxt ≤ 8
        · rw [if_pos h8] at hn
          subst hn
          exact br_t (by rw [zk_8, zL_le (by omega)]; exact h8) h
        · rw [if_neg h8] at hn
          subst hn
          exact br_f (by rw [zk_8, zL_le (by omega)]; exact h8) h
      have hn1 : ∃ n : Int, (n = if la - nxt ≤ 8 then la - nxt else 8) ∧ 0 < n ∧ n ≤ 8 ∧ n ≤ la - nxt := ⟨_, rfl, by split <;> omega, by split <;> omega, by split <;> omega⟩
      obtain ⟨n, hn, hn0, hn8, hnl⟩ := hn1
      refine LK_x (fun q h => X q n hn h) (LK_y (fun q h => Y q n hn h) ?_)
      clear X Y hn
      generalize (if pk ≤ wnd then pk else wnd) - (nxt - una) = r at *
      unfold wX_flow_43 wY_flow_87
      simp (disch := omega) only [zI_le, zL_le]
      by_cases hnr : n ≤ r
      · refine LX_t hnr (LY_t hnr (lk_fl52 he h4 hs hcl (by omega) I2 R0 ?_))
        intro h0 mx1 tm1 si1 rt1 wt1 f_now1 f_sent1 a_state1 a_error1 a_tries1 a_iss1 a_una1 a_nxt1 a_max1 a_last1 a_closing1 a_kept1 a_rcv1 a_first1 a_held1 a_fin1 a_unread1 a_came1 a_ended1 a_wnd1 a_peak1 a_half1 a_same1 a_setBy1 a_setAt1 a_isSet1 a_rto1 a_smooth1 a_spread1 a_timed1 a_since1 a_retry1 a_waits1 a_rest1 a_segSeq1 a_segAck1 a_segFlags1 a_segWindow1 a_segLength1 a_segBytes1 a_row1 a_many1 a_taken1 g_now1 g_sent1 b_seq1 b_flags1 b_acked1 b_window1 b_many1 b_data1 b_rows1 b_state1 b_error1 b_iss1 b_una1 b_nxt1 b_max1 b_last1 b_closed1 b_written1 b_irs1 b_unread1 b_bytes1 b_held1 b_rcv1 b_finAt1 b_marked1 b_wnd1 b_peak1 b_half1 b_rto1 b_same1 b_tries1 b_smooth1 b_spread1 b_byNumber1 b_byAck1 b_sampled1 b_told1 b_retry1 b_ackAt1 b_waitAt1 b_timedAt1 b_timed1 R1 J1
        exact ih (nx + 1) (ny + 1) (by omega) (by omega) (by omega) h4 hs hcl J1 R1
      · refine LX_f hnr (LY_f hnr (lk_fl52 he h4 hs hcl (by omega) I2 R0 ?_))
        intro h0 mx1 tm1 si1 rt1 wt1 f_now1 f_sent1 a_state1 a_error1 a_tries1 a_iss1 a_una1 a_nxt1 a_max1 a_last1 a_closing1 a_kept1 a_rcv1 a_first1 a_held1 a_fin1 a_unread1 a_came1 a_ended1 a_wnd1 a_peak1 a_half1 a_same1 a_setBy1 a_setAt1 a_isSet1 a_rto1 a_smooth1 a_spread1 a_timed1 a_since1 a_retry1 a_waits1 a_rest1 a_segSeq1 a_segAck1 a_segFlags1 a_segWindow1 a_segLength1 a_segBytes1 a_row1 a_many1 a_taken1 g_now1 g_sent1 b_seq1 b_flags1 b_acked1 b_window1 b_many1 b_data1 b_rows1 b_state1 b_error1 b_iss1 b_una1 b_nxt1 b_max1 b_last1 b_closed1 b_written1 b_irs1 b_unread1 b_bytes1 b_held1 b_rcv1 b_finAt1 b_marked1 b_wnd1 b_peak1 b_half1 b_rto1 b_same1 b_tries1 b_smooth1 b_spread1 b_byNumber1 b_byAck1 b_sampled1 b_told1 b_retry1 b_ackAt1 b_waitAt1 b_timedAt1 b_timed1 R1 J1
        exact ih (nx + 1) (ny + 1) (by omega) (by omega) (by omega) h4 hs hcl J1 R1
theorem lk_flow (he : e < 2) (h2 : 2 ≤ st) (I2 : E2 L st iss una nxt mx la cl tm) (R : RZ e L now st er tr iss una nxt mx la cl irs rcv fi un fst wnd pk hf rto sa smo tm si rt wt rs nr nw ns u0 v0 (f_now, f_sent, a_state, a_error, a_tries, a_iss, a_una, a_nxt, a_max, a_last, a_closing, a_kept, a_rcv, a_first, a_held, a_fin, a_unread, a_came, a_ended, a_wnd, a_peak, a_half, a_same, a_setBy, a_setAt, a_isSet, a_rto, a_smooth, a_spread, a_timed, a_since, a_retry, a_waits, a_rest, a_segSeq, a_segAck, a_segFlags, a_segWindow, a_segLength, a_segBytes, a_row, a_many, a_taken) (g_now, g_sent, b_seq, b_flags, b_acked, b_window, b_many, b_data, b_rows, b_state, b_error, b_iss, b_una, b_nxt, b_max, b_last, b_closed, b_written, b_irs, b_unread, b_bytes, b_held, b_rcv, b_finAt, b_marked, b_wnd, b_peak, b_half, b_rto, b_same, b_tries, b_smooth, b_spread, b_byNumber, b_byAck, b_sampled, b_told, b_retry, b_ackAt, b_waitAt, b_timedAt, b_timed)) :
    LK ap0 aq0 (fun q => wpX_flow q (f_now, f_sent, a_state, a_error, a_tries, a_iss, a_una, a_nxt, a_max, a_last, a_closing, a_kept, a_rcv, a_first, a_held, a_fin, a_unread, a_came, a_ended, a_wnd, a_peak, a_half, a_same, a_setBy, a_setAt, a_isSet, a_rto, a_smooth, a_spread, a_timed, a_since, a_retry, a_waits, a_rest, a_segSeq, a_segAck, a_segFlags, a_segWindow, a_segLength, a_segBytes, a_row, a_many, a_taken) (zI e)) (fun q => wpY_flow q (g_now, g_sent, b_seq, b_flags, b_acked, b_window, b_many, b_data, b_rows, b_state, b_error, b_iss, b_una, b_nxt, b_max, b_last, b_closed, b_written, b_irs, b_unread, b_bytes, b_held, b_rcv, b_finAt, b_marked, b_wnd, b_peak, b_half, b_rto, b_same, b_tries, b_smooth, b_spread, b_byNumber, b_byAck, b_sampled, b_told, b_retry, b_ackAt, b_waitAt, b_timedAt, b_timed) (zI e)) (fun u v => QF e L now st er tr iss una la cl irs rcv fi un fst wnd pk hf rto sa smo rs nr nw ns u0 v0 u v) := by
  have R0 := R
  obtain ⟨R, F⟩ := R
  obtain ⟨rfl, rfl, xst, xer, xtr, xiss, xuna, xnxt, xmx, xla, xcl, xrcv, xfst, xfi, xun, xen, xwnd, xpk, xhf, xrto, xsm, xsb, xsa, xis, xsmo, xspr, xtm, xsi, xrt, xwt, xrs, yst, yer, ytr, yiss, yuna, ynxt, ymx, yla, ycl, yirs, yrcv, yfi, yun, ywnd, ypk, yhf, yrto, ysa, ysmo, ytm, ysi, yrt, ywt, yrs, I1, I3, I4, I5, K, C, H, W⟩ := RE_el R
  have b2 := E2_b I2 h2
  have b1 := I1
  unfold E1 at b1
  have b11 := b1.1
  unfold wpX_flow wpY_flow
  simp only [x_flows he xst b1.1]
  by_cases h : st < 4 ∨ st = 6 ∨ st = 10
  · simp only [if_pos h]
    refine LX_t trivial (LK_y (fun q k => ?_) (LK_r0 ⟨nxt, mx, tm, si, rt, wt, R0, I2⟩))
    refine ⟨e_in he, ?_⟩
    rw [e_cl he, yst]
    refine nm_e ?_
    simp (disch := omega) only [zl_4, zl_6, zl_9, zI_lt, zI_eq, zI_le]
    by_cases h1 : st < 4
    · exact br_t h1 k
    · by_cases h3 : st = 6
      · exact br_f h1 (br_t h3 k)
      · exact br_f h1 (br_f h3 (br_f (by omega) k))
  · simp only [if_neg h]
    have K1 := lk_flow_l (u0 := u0) (v0 := v0) he 40 42 42 (by omega) (by omega) (by omega) (by omega) (by omega) b1.2.2.2.1 I2 R0
    refine LX_f (by decide) (LX_e 42 (LK_y (fun q k => ?_) K1))
    refine ⟨e_in he, ?_⟩
    rw [e_cl he, yst]
    refine nm_e ?_
    simp (disch := omega) only [e_in he, yla, ynxt, zl_4, zl_6, zl_9, zI_lt, zI_eq, zI_le, zL_le, true_and]
    refine br_f (by omega) (br_f (by omega) (br_t (by omega) ?_))
    by_cases hl : nxt < la
    · rw [if_pos hl] at k
      exact br_f (by omega) ⟨42, k⟩
    · rw [if_neg hl] at k
      exact br_t (by omega) ⟨42, k⟩
end
end
section
/-! first piece, measure, timeouts -/
section
variable {e : Nat} {L now : Int} {st er tr iss una nxt mx la cl irs rcv fi un fst wnd pk hf rto sa smo tm si rt wt rs nr nw ns : Int} {f_now f_sent : Int32} {a_state a_error a_tries a_iss a_una a_nxt a_max a_last a_closing a_kept a_rcv a_first a_held a_fin a_unread a_came a_ended a_wnd a_peak a_half a_same a_setBy a_setAt a_isSet a_rto a_smooth a_spread a_timed a_since a_retry a_waits a_rest a_segSeq a_segAck a_segFlags a_segWindow a_segLength a_segBytes a_row a_many a_taken : Nat → Int32} {g_now g_sent : Int32} {b_seq b_flags b_acked b_window b_many b_data b_rows b_state b_error b_iss : Nat → Int32} {b_una b_nxt b_max b_last : Nat → Int64} {b_closed b_written b_irs b_unread b_bytes b_held : Nat → Int32} {b_rcv b_finAt : Nat → Int64} {b_marked b_wnd b_peak b_half b_rto b_same b_tries b_smooth b_spread b_byNumber b_byAck b_sampled b_told b_retry b_ackAt b_waitAt b_timedAt : Nat → Int32} {b_timed : Nat → Int64} {u0 : SX} {v0 : SY}
/-- the end is related, somehow -/
def OKs (e : Nat) (L now nr nw ns : Int) (u0 : SX) (v0 : SY) (u : SX) (v : SY) : Prop :=
  ∃ st er tr iss una nxt mx la cl irs rcv fi un fst wnd pk hf rto sa smo tm si rt wt rs : Int, RZ e L now st er tr iss una nxt mx la cl irs rcv fi un fst wnd pk hf rto sa smo tm si rt wt rs nr nw ns u0 v0 u v ∧ E2 L st iss una nxt mx la cl tm
theorem OK_el {P : Prop} {u : SX} {v : SY} (h : OKs e L now nr nw ns u0 v0 u v) (k : ∀ st er tr iss una nxt mx la cl irs rcv fi un fst wnd pk hf rto sa smo tm si rt wt rs : Int, RZ e L now st er tr iss una nxt mx la cl irs rcv fi un fst wnd pk hf rto sa smo tm si rt wt rs nr nw ns u0 v0 u v → E2 L st iss una nxt mx la cl tm → P) : P :=
  Exists.elim h fun st h => Exists.elim h fun er h => Exists.elim h fun tr h => Exists.elim h fun iss h => Exists.elim h fun una h => Exists.elim h fun nxt h => Exists.elim h fun mx h => Exists.elim h fun la h => Exists.elim h fun cl h => Exists.elim h fun irs h => Exists.elim h fun rcv h => Exists.elim h fun fi h => Exists.elim h fun un h => Exists.elim h fun fst h => Exists.elim h fun wnd h => Exists.elim h fun pk h => Exists.elim h fun hf h => Exists.elim h fun rto h => Exists.elim h fun sa h => Exists.elim h fun smo h => Exists.elim h fun tm h => Exists.elim h fun si h => Exists.elim h fun rt h => Exists.elim h fun wt h => Exists.elim h fun rs h => k st er tr iss una nxt mx la cl irs rcv fi un fst wnd pk hf rto sa smo tm si rt wt rs h.1 h.2
theorem OK_i (R : RZ e L now st er tr iss una nxt mx la cl irs rcv fi un fst wnd pk hf rto sa smo tm si rt wt rs nr nw ns u0 v0 (f_now, f_sent, a_state, a_error, a_tries, a_iss, a_una, a_nxt, a_max, a_last, a_closing, a_kept, a_rcv, a_first, a_held, a_fin, a_unread, a_came, a_ended, a_wnd, a_peak, a_half, a_same, a_setBy, a_setAt, a_isSet, a_rto, a_smooth, a_spread, a_timed, a_since, a_retry, a_waits, a_rest, a_segSeq, a_segAck, a_segFlags, a_segWindow, a_segLength, a_segBytes, a_row, a_many, a_taken) (g_now, g_sent, b_seq, b_flags, b_acked, b_window, b_many, b_data, b_rows, b_state, b_error, b_iss, b_una, b_nxt, b_max, b_last, b_closed, b_written, b_irs, b_unread, b_bytes, b_held, b_rcv, b_finAt, b_marked, b_wnd, b_peak, b_half, b_rto, b_same, b_tries, b_smooth, b_spread, b_byNumber, b_byAck, b_sampled, b_told, b_retry, b_ackAt, b_waitAt, b_timedAt, b_timed)) (I2 : E2 L st iss una nxt mx la cl tm) : OKs e L now nr nw ns u0 v0 (f_now, f_sent, a_state, a_error, a_tries, a_iss, a_una, a_nxt, a_max, a_last, a_closing, a_kept, a_rcv, a_first, a_held, a_fin, a_unread, a_came, a_ended, a_wnd, a_peak, a_half, a_same, a_setBy, a_setAt, a_isSet, a_rto, a_smooth, a_spread, a_timed, a_since, a_retry, a_waits, a_rest, a_segSeq, a_segAck, a_segFlags, a_segWindow, a_segLength, a_segBytes, a_row, a_many, a_taken) (g_now, g_sent, b_seq, b_flags, b_acked, b_window, b_many, b_data, b_rows, b_state, b_error, b_iss, b_una, b_nxt, b_max, b_last, b_closed, b_written, b_irs, b_unread, b_bytes, b_held, b_rcv, b_finAt, b_marked, b_wnd, b_peak, b_half, b_rto, b_same, b_tries, b_smooth, b_spread, b_byNumber, b_byAck, b_sampled, b_told, b_retry, b_ackAt, b_waitAt, b_timedAt, b_timed) := ⟨st, er, tr, iss, una, nxt, mx, la, cl, irs, rcv, fi, un, fst, wnd, pk, hf, rto, sa, smo, tm, si, rt, wt, rs, R, I2⟩
theorem QF_OK {u : SX} {v : SY} (h : QF e L now st er tr iss una la cl irs rcv fi un fst wnd pk hf rto sa smo rs nr nw ns u0 v0 u v) : OKs e L now nr nw ns u0 v0 u v := by
  obtain ⟨nxt, mx, tm, si, rt, wt, R, I2⟩ := h
  exact ⟨st, er, tr, iss, una, nxt, mx, la, cl, irs, rcv, fi, un, fst, wnd, pk, hf, rto, sa, smo, tm, si, rt, wt, rs, R, I2⟩
theorem lk_em_re {fx fy ln : Int} {n : Nat} (he : e < 2) (h4 : 4 ≤ st) (I2 : E2 L st iss una nxt mx la cl tm) (hcl : 0 ≤ cl ∧ cl ≤ 1) (hn : n ≤ 8) (hfl : Fl st fx fy) (hln : ln = n + fx % 2 + fx / 4 % 2) (hl0 : 0 < ln) (hlm : una + ln ≤ mx) (hb : n ≠ 0 → una + n ≤ la) (R : RZ e L now st er tr iss una nxt mx la cl irs rcv fi un fst wnd pk hf rto sa smo tm si rt wt rs nr nw ns u0 v0 (f_now, f_sent, a_state, a_error, a_tries, a_iss, a_una, a_nxt, a_max, a_last, a_closing, a_kept, a_rcv, a_first, a_held, a_fin, a_unread, a_came, a_ended, a_wnd, a_peak, a_half, a_same, a_setBy, a_setAt, a_isSet, a_rto, a_smooth, a_spread, a_timed, a_since, a_retry, a_waits, a_rest, a_segSeq, a_segAck, a_segFlags, a_segWindow, a_segLength, a_segBytes, a_row, a_many, a_taken) (g_now, g_sent, b_seq, b_flags, b_acked, b_window, b_many, b_data, b_rows, b_state, b_error, b_iss, b_una, b_nxt, b_max, b_last, b_closed, b_written, b_irs, b_unread, b_bytes, b_held, b_rcv, b_finAt, b_marked, b_wnd, b_peak, b_half, b_rto, b_same, b_tries, b_smooth, b_spread, b_byNumber, b_byAck, b_sampled, b_told, b_retry, b_ackAt, b_waitAt, b_timedAt, b_timed)) :
    LK ap0 aq0 (fun q => wpX_emit q (f_now, f_sent, a_state, a_error, a_tries, a_iss, a_una, a_nxt, a_max, a_last, a_closing, a_kept, a_rcv, a_first, a_held, a_fin, a_unread, a_came, a_ended, a_wnd, a_peak, a_half, a_same, a_setBy, a_setAt, a_isSet, a_rto, a_smooth, a_spread, a_timed, a_since, a_retry, a_waits, a_rest, a_segSeq, a_segAck, a_segFlags, a_segWindow, a_segLength, a_segBytes, a_row, a_many, a_taken) (zI e) (zI ((iss + una) % 65536)) (zI fx) (zI n)) (fun q => wpY_send q (g_now, g_sent, b_seq, b_flags, b_acked, b_window, b_many, b_data, b_rows, b_state, b_error, b_iss, b_una, b_nxt, b_max, b_last, b_closed, b_written, b_irs, b_unread, b_bytes, b_held, b_rcv, b_finAt, b_marked, b_wnd, b_peak, b_half, b_rto, b_same, b_tries, b_smooth, b_spread, b_byNumber, b_byAck, b_sampled, b_told, b_retry, b_ackAt, b_waitAt, b_timedAt, b_timed) (zI e) (zL una) (zI fy) (zI n))
      (fun u v => RZ e L now st er tr iss una nxt mx la cl irs rcv fi un fst wnd pk hf rto sa smo tm si (if rt < 0 then now + rto else rt) (-1) rs nr nw ns u0 v0 u v) := by
  have b2 := E2_b I2 (by omega)
  have b27 := I2.2.2.2.2.2.2.1 h4
  have h := lk_emit (p := una) he (by omega) b2.1 (by omega) hn hfl hln (fun _ => by omega) (by omega) (fun z => ⟨b27, by omega, hb z⟩) R
  have c1 : ¬ (ln ≠ 0 ∧ mx < una + ln) := by omega
  have c2 : ¬ (ln ≠ 0 ∧ una = mx ∧ tm < 0) := by omega
  have c3 : ¬ st = 2 := by omega
  have c4 : (if ln ≠ 0 ∧ rt < 0 then now + rto else rt) = if rt < 0 then now + rto else rt := by
    by_cases z : rt < 0
    · rw [if_pos z, if_pos ⟨by omega, z⟩]
    · rw [if_neg z, if_neg (fun y => z y.2)]
  rw [if_neg c1, if_neg c2, if_neg c2, if_neg c3, c4] at h
  exact h
theorem lk_first (he : e < 2) (h4 : 4 ≤ st) (I2 : E2 L st iss una nxt mx la cl tm) (hm : una < mx) (R : RZ e L now st er tr iss una nxt mx la cl irs rcv fi un fst wnd pk hf rto sa smo tm si rt wt rs nr nw ns u0 v0 (f_now, f_sent, a_state, a_error, a_tries, a_iss, a_una, a_nxt, a_max, a_last, a_closing, a_kept, a_rcv, a_first, a_held, a_fin, a_unread, a_came, a_ended, a_wnd, a_peak, a_half, a_same, a_setBy, a_setAt, a_isSet, a_rto, a_smooth, a_spread, a_timed, a_since, a_retry, a_waits, a_rest, a_segSeq, a_segAck, a_segFlags, a_segWindow, a_segLength, a_segBytes, a_row, a_many, a_taken) (g_now, g_sent, b_seq, b_flags, b_acked, b_window, b_many, b_data, b_rows, b_state, b_error, b_iss, b_una, b_nxt, b_max, b_last, b_closed, b_written, b_irs, b_unread, b_bytes, b_held, b_rcv, b_finAt, b_marked, b_wnd, b_peak, b_half, b_rto, b_same, b_tries, b_smooth, b_spread, b_byNumber, b_byAck, b_sampled, b_told, b_retry, b_ackAt, b_waitAt, b_timedAt, b_timed)) :
    LK ap0 aq0 (fun q => wpX_sendFirst q (f_now, f_sent, a_state, a_error, a_tries, a_iss, a_una, a_nxt, a_max, a_last, a_closing, a_kept, a_rcv, a_first, a_held, a_fin, a_unread, a_came, a_ended, a_wnd, a_peak, a_half, a_same, a_setBy, a_setAt, a_isSet, a_rto, a_smooth, a_spread, a_timed, a_since, a_retry, a_waits, a_rest, a_segSeq, a_segAck, a_segFlags, a_segWindow, a_segLength, a_segBytes, a_row, a_many, a_taken) (zI e)) (fun q => wpY_firstPiece q (g_now, g_sent, b_seq, b_flags, b_acked, b_window, b_many, b_data, b_rows, b_state, b_error, b_iss, b_una, b_nxt, b_max, b_last, b_closed, b_written, b_irs, b_unread, b_bytes, b_held, b_rcv, b_finAt, b_marked, b_wnd, b_peak, b_half, b_rto, b_same, b_tries, b_smooth, b_spread, b_byNumber, b_byAck, b_sampled, b_told, b_retry, b_ackAt, b_waitAt, b_timedAt, b_timed) (zI e)) (fun u v => RZ e L now st er tr iss una nxt mx la cl irs rcv fi un fst wnd pk hf rto sa smo tm si (if rt < 0 then now + rto else rt) (-1) rs nr nw ns u0 v0 u v) := by
  have R0 := R
  obtain ⟨R, F⟩ := R
  obtain ⟨rfl, rfl, xst, xer, xtr, xiss, xuna, xnxt, xmx, xla, xcl, xrcv, xfst, xfi, xun, xen, xwnd, xpk, xhf, xrto, xsm, xsb, xsa, xis, xsmo, xspr, xtm, xsi, xrt, xwt, xrs, yst, yer, ytr, yiss, yuna, ynxt, ymx, yla, ycl, yirs, yrcv, yfi, yun, ywnd, ypk, yhf, yrto, ysa, ysmo, ytm, ysi, yrt, ywt, yrs, I1, I3, I4, I5, K, C, H, W⟩ := RE_el R
  have b2 := E2_b I2 (by omega)
  have hcl : 0 ≤ cl ∧ cl ≤ 1 := I1.2.2.2.1
  have hx : ∃ n : Nat, (n : Int) = (if 8 ≤ (if la ≤ mx then la - una else mx - una) then 8 else (if la ≤ mx then la - una else mx - una)) ∧ n ≤ 8 ∧ una + n ≤ la ∧ una + n ≤ mx ∧ (n = 0 → una = la) := by
    by_cases h1 : la ≤ mx
    · rw [if_pos h1]
      by_cases h3 : 8 ≤ la - una
      · rw [if_pos h3]; exact ⟨8, rfl, by omega, by omega, by omega, by omega⟩
      · rw [if_neg h3]; exact ⟨(la - una).toNat, by omega, by omega, by omega, by omega, by omega⟩
    · rw [if_neg h1]
      by_cases h3 : 8 ≤ mx - una
      · rw [if_pos h3]; exact ⟨8, rfl, by omega, by omega, by omega, by omega⟩
      · rw [if_neg h3]; exact ⟨(mx - una).toNat, by omega, by omega, by omega, by omega, by omega⟩
  obtain ⟨n, hn, hn8, hnl, hnm, hn0⟩ := hx
  have hX : ∀ q, wX_sendFirst_44 q (zI e) (zI n) (zI now) f_sent a_state a_error a_tries a_iss a_una a_nxt a_max a_last a_closing a_kept a_rcv a_first a_held a_fin a_unread a_came a_ended a_wnd a_peak a_half a_same a_setBy a_setAt a_isSet a_rto a_smooth a_spread a_timed a_since a_retry a_waits a_rest a_segSeq a_segAck a_segFlags a_segWindow a_segLength a_segBytes a_row a_many a_taken → wpX_sendFirst q (zI now, f_sent, a_state, a_error, a_tries, a_iss, a_una, a_nxt, a_max, a_last, a_closing, a_kept, a_rcv, a_first, a_held, a_fin, a_unread, a_came, a_ended, a_wnd, a_peak, a_half, a_same, a_setBy, a_setAt, a_isSet, a_rto, a_smooth, a_spread, a_timed, a_since, a_retry, a_waits, a_rest, a_segSeq, a_segAck, a_segFlags, a_segWindow, a_segLength, a_segBytes, a_row, a_many, a_taken) (zI e) := by
    intro q h
    unfold wpX_sendFirst
    refine ⟨e_in he, ?_⟩
    rw [e_cl he, xuna (by omega), x_bytesFrom he (xla (by omega)) (by omega), if_pos (by omega)]
    refine ⟨e_in he, e_in he, ?_⟩
    rw [xmx (by omega), x_offset, zo_pos (by omega)]
    unfold wX_sendFirst_35
    simp (disch := omega) only [zl_8, zI_le]
    by_cases h1 : la ≤ mx
    · rw [if_pos h1] at hn
      refine br_t (by omega) ?_
      by_cases h3 : la - una ≤ 8
      · refine br_t h3 ?_
        rw [show la - una = n by rw [hn]; split <;> omega]; exact h
      · refine br_f h3 ?_
        rw [show (8 : Int) = n by rw [hn]; split <;> omega]; exact h
    · rw [if_neg h1] at hn
      refine br_f (by omega) ?_
      by_cases h3 : mx - una ≤ 8
      · refine br_t h3 ?_
        rw [show mx - una = n by rw [hn]; split <;> omega]; exact h
      · refine br_f h3 ?_
        rw [show (8 : Int) = n by rw [hn]; split <;> omega]; exact h
  have hY : ∀ q, wY_firstPiece_61 q (zI e) (zI n) (zI now) g_sent b_seq b_flags b_acked b_window b_many b_data b_rows b_state b_error b_iss b_una b_nxt b_max b_last b_closed b_written b_irs b_unread b_bytes b_held b_rcv b_finAt b_marked b_wnd b_peak b_half b_rto b_same b_tries b_smooth b_spread b_byNumber b_byAck b_sampled b_told b_retry b_ackAt b_waitAt b_timedAt b_timed → wpY_firstPiece q (zI now, g_sent, b_seq, b_flags, b_acked, b_window, b_many, b_data, b_rows, b_state, b_error, b_iss, b_una, b_nxt, b_max, b_last, b_closed, b_written, b_irs, b_unread, b_bytes, b_held, b_rcv, b_finAt, b_marked, b_wnd, b_peak, b_half, b_rto, b_same, b_tries, b_smooth, b_spread, b_byNumber, b_byAck, b_sampled, b_told, b_retry, b_ackAt, b_waitAt, b_timedAt, b_timed) (zI e) := by
    intro q h
    unfold wpY_firstPiece wY_firstPiece_31
    simp (disch := omega) only [e_in he, e_cl he, yla, ymx, yuna, zk_8, zL_sub, zL_le, zI_i, zl_8, true_and, and_true, true_implies, false_implies, forall_eq, not_true_eq_false, not_false_eq_true, implies_true, forall_const]
    by_cases h1 : la ≤ mx
    · rw [if_pos h1] at hn
      refine br_t h1 ?_
      by_cases h3 : 8 ≤ la - una
      · rw [if_pos h3] at hn
        refine br_t h3 ?_
        rw [show (8 : Int) = n from hn.symm]; exact h
      · rw [if_neg h3] at hn
        rw [← hn]; exact br_f (by omega) h
    · rw [if_neg h1] at hn
      refine br_f h1 ?_
      by_cases h3 : 8 ≤ mx - una
      · rw [if_pos h3] at hn
        refine br_t h3 ?_
        rw [show (8 : Int) = n from hn.symm]; exact h
      · rw [if_neg h3] at hn
        rw [← hn]; exact br_f (by omega) h
  refine LK_x hX (LK_y hY ?_)
  unfold wX_sendFirst_44 wY_firstPiece_61 wX_sendFirst_62
  refine LX_a (e_in he) ?_
  rw [e_cl he, xuna (by omega)]
  by_cases h0 : n = 0
  · have := hn0 h0
    subst h0
    refine LX_t (by decide) (LY_t (by decide) (LY_a (e_in he) (LY_a (e_in he) ?_)))
    rw [ymx, yuna]
    refine LY_f (by rw [zL_le (by omega)]; omega) (LY_a (e_in he) ?_)
    exact LK_b (lk_em_re (fx := 6) (fy := 4) (ln := 1) (n := 0) he h4 I2 hcl (by omega) (Or.inl ⟨by omega, Or.inr (Or.inl ⟨rfl, rfl⟩)⟩) rfl (by omega) (by omega) (fun z => absurd rfl z) R0) (fun f_now1 f_sent1 a_state1 a_error1 a_tries1 a_iss1 a_una1 a_nxt1 a_max1 a_last1 a_closing1 a_kept1 a_rcv1 a_first1 a_held1 a_fin1 a_unread1 a_came1 a_ended1 a_wnd1 a_peak1 a_half1 a_same1 a_setBy1 a_setAt1 a_isSet1 a_rto1 a_smooth1 a_spread1 a_timed1 a_since1 a_retry1 a_waits1 a_rest1 a_segSeq1 a_segAck1 a_segFlags1 a_segWindow1 a_segLength1 a_segBytes1 a_row1 a_many1 a_taken1 g_now1 g_sent1 b_seq1 b_flags1 b_acked1 b_window1 b_many1 b_data1 b_rows1 b_state1 b_error1 b_iss1 b_una1 b_nxt1 b_max1 b_last1 b_closed1 b_written1 b_irs1 b_unread1 b_bytes1 b_held1 b_rcv1 b_finAt1 b_marked1 b_wnd1 b_peak1 b_half1 b_rto1 b_same1 b_tries1 b_smooth1 b_spread1 b_byNumber1 b_byAck1 b_sampled1 b_told1 b_retry1 b_ackAt1 b_waitAt1 b_timedAt1 b_timed1 q => LK_r0 q)
  · refine LX_f (by rw [zl_0, zI_le (by omega)]; omega) (LY_f (by rw [zl_0, zI_le (by omega)]; omega) (LY_a (e_in he) ?_))
    rw [yuna]
    exact LK_b (lk_em_re (fx := 2) (fy := 0) (ln := n) (n := n) he h4 I2 hcl (by omega) (Or.inl ⟨by omega, Or.inl ⟨rfl, rfl⟩⟩) (by omega) (by omega) (by omega) (fun z => by omega) R0) (fun f_now1 f_sent1 a_state1 a_error1 a_tries1 a_iss1 a_una1 a_nxt1 a_max1 a_last1 a_closing1 a_kept1 a_rcv1 a_first1 a_held1 a_fin1 a_unread1 a_came1 a_ended1 a_wnd1 a_peak1 a_half1 a_same1 a_setBy1 a_setAt1 a_isSet1 a_rto1 a_smooth1 a_spread1 a_timed1 a_since1 a_retry1 a_waits1 a_rest1 a_segSeq1 a_segAck1 a_segFlags1 a_segWindow1 a_segLength1 a_segBytes1 a_row1 a_many1 a_taken1 g_now1 g_sent1 b_seq1 b_flags1 b_acked1 b_window1 b_many1 b_data1 b_rows1 b_state1 b_error1 b_iss1 b_una1 b_nxt1 b_max1 b_last1 b_closed1 b_written1 b_irs1 b_unread1 b_bytes1 b_held1 b_rcv1 b_finAt1 b_marked1 b_wnd1 b_peak1 b_half1 b_rto1 b_same1 b_tries1 b_smooth1 b_spread1 b_byNumber1 b_byAck1 b_sampled1 b_told1 b_retry1 b_ackAt1 b_waitAt1 b_timedAt1 b_timed1 q => LK_r0 q)
end
end
section
/-! measure, again and late, due and pass -/
section
variable {e : Nat} {L now : Int} {st er tr iss una nxt mx la cl irs rcv fi un fst wnd pk hf rto sa smo tm si rt wt rs nr nw ns : Int} {f_now f_sent : Int32} {a_state a_error a_tries a_iss a_una a_nxt a_max a_last a_closing a_kept a_rcv a_first a_held a_fin a_unread a_came a_ended a_wnd a_peak a_half a_same a_setBy a_setAt a_isSet a_rto a_smooth a_spread a_timed a_since a_retry a_waits a_rest a_segSeq a_segAck a_segFlags a_segWindow a_segLength a_segBytes a_row a_many a_taken : Nat → Int32} {g_now g_sent : Int32} {b_seq b_flags b_acked b_window b_many b_data b_rows b_state b_error b_iss : Nat → Int32} {b_una b_nxt b_max b_last : Nat → Int64} {b_closed b_written b_irs b_unread b_bytes b_held : Nat → Int32} {b_rcv b_finAt : Nat → Int64} {b_marked b_wnd b_peak b_half b_rto b_same b_tries b_smooth b_spread b_byNumber b_byAck b_sampled b_told b_retry b_ackAt b_waitAt b_timedAt : Nat → Int32} {b_timed : Nat → Int64} {u0 : SX} {v0 : SY}
theorem lk_me {s' : Int} {w : Int32} (he : e < 2) (hs : 0 ≤ s' ∧ s' ≤ 8 * now) (R : RZ e L now st er tr iss una nxt mx la cl irs rcv fi un fst wnd pk hf rto sa smo tm si rt wt rs nr nw ns u0 v0 (f_now, f_sent, a_state, a_error, a_tries, a_iss, a_una, a_nxt, a_max, a_last, a_closing, a_kept, a_rcv, a_first, a_held, a_fin, a_unread, a_came, a_ended, a_wnd, a_peak, a_half, a_same, a_setBy, a_setAt, a_isSet, a_rto, a_smooth, a_spread, a_timed, a_since, a_retry, a_waits, a_rest, a_segSeq, a_segAck, a_segFlags, a_segWindow, a_segLength, a_segBytes, a_row, a_many, a_taken) (g_now, g_sent, b_seq, b_flags, b_acked, b_window, b_many, b_data, b_rows, b_state, b_error, b_iss, b_una, b_nxt, b_max, b_last, b_closed, b_written, b_irs, b_unread, b_bytes, b_held, b_rcv, b_finAt, b_marked, b_wnd, b_peak, b_half, b_rto, b_same, b_tries, b_smooth, b_spread, b_byNumber, b_byAck, b_sampled, b_told, b_retry, b_ackAt, b_waitAt, b_timedAt, b_timed)) :
    LK ap0 aq0 (fun q => wX_measure_100 q (zI e) f_now f_sent a_state a_error a_tries a_iss a_una a_nxt a_max a_last a_closing a_kept a_rcv a_first a_held a_fin a_unread a_came a_ended a_wnd a_peak a_half a_same a_setBy a_setAt a_isSet a_rto (upd a_smooth e (zI s')) (upd a_spread e w) (upd a_timed e (zI (-1))) a_since a_retry a_waits a_rest a_segSeq a_segAck a_segFlags a_segWindow a_segLength a_segBytes a_row a_many a_taken) (fun q => wY_measure_93 q (zI e) g_now g_sent b_seq b_flags b_acked b_window b_many b_data b_rows b_state b_error b_iss b_una b_nxt b_max b_last b_closed b_written b_irs b_unread b_bytes b_held b_rcv b_finAt b_marked b_wnd b_peak b_half b_rto b_same b_tries (upd b_smooth e (zI s')) (upd b_spread e w) b_byNumber b_byAck b_sampled b_told b_retry b_ackAt b_waitAt b_timedAt b_timed)
      (fun u v => ∃ r' : Int, RZ e L now st er tr iss una nxt mx la cl irs rcv fi un fst wnd pk hf r' 1 s' (-1) si rt wt rs nr nw ns u0 v0 u v) := by
  have hne : 1 - e ≠ e := by omega
  obtain ⟨R, F⟩ := R
  obtain ⟨rfl, rfl, xst, xer, xtr, xiss, xuna, xnxt, xmx, xla, xcl, xrcv, xfst, xfi, xun, xen, xwnd, xpk, xhf, xrto, xsm, xsb, xsa, xis, xsmo, xspr, xtm, xsi, xrt, xwt, xrs, yst, yer, ytr, yiss, yuna, ynxt, ymx, yla, ycl, yirs, yrcv, yfi, yun, ywnd, ypk, yhf, yrto, ysa, ysmo, ytm, ysi, yrt, ywt, yrs, I1, I3, I4, I5, K, C, H, W⟩ := RE_el R
  have b4 := I4
  unfold E4 at b4
  have G : ∀ r' : Int, 2 ≤ r' ∧ r' ≤ 64 → RZ e L now st er tr iss una nxt mx la cl irs rcv fi un fst wnd pk hf r' 1 s' (-1) si rt wt rs nr nw ns u0 v0 (zI now, f_sent, a_state, a_error, a_tries, a_iss, a_una, a_nxt, a_max, a_last, a_closing, a_kept, a_rcv, a_first, a_held, a_fin, a_unread, a_came, a_ended, a_wnd, a_peak, a_half, a_same, a_setBy, a_setAt, a_isSet, upd a_rto e (zI r'), upd a_smooth e (zI s'), upd a_spread e w, upd a_timed e (zI (-1)), a_since, a_retry, a_waits, a_rest, a_segSeq, a_segAck, a_segFlags, a_segWindow, a_segLength, a_segBytes, a_row, a_many, a_taken) (zI now, g_sent, b_seq, b_flags, b_acked, b_window, b_many, b_data, b_rows, b_state, b_error, b_iss, b_una, b_nxt, b_max, b_last, b_closed, b_written, b_irs, b_unread, b_bytes, b_held, b_rcv, b_finAt, b_marked, b_wnd, b_peak, b_half, upd b_rto e (zI r'), b_same, b_tries, upd b_smooth e (zI s'), upd b_spread e w, b_byNumber, b_byAck, upd b_sampled e (zI 1), b_told, b_retry, b_ackAt, b_waitAt, b_timedAt, vp_updL b_timed e (zL (-1))) := by
    intro r' hr
    refine ⟨RE_in ⟨rfl, rfl, xst, xer, xtr, xiss, xuna, xnxt, xmx, xla, xcl, xrcv, xfst, xfi, xun, xen, xwnd, xpk, xhf, pk_us, xsm, xsb, xsa, xis, pk_us, fun _ => pk_us.trans pk_us.symm, pk_us, xsi, xrt, xwt, xrs, yst, yer, ytr, yiss, yuna, ynxt, ymx, yla, ycl, yirs, yrcv, yfi, yun, ywnd, ypk, yhf, pk_us, pk_us, pk_us, pk_uLs, ysi, yrt, ywt, yrs, I1, I3, ?_, E5_sa I5 hs, K, C, H, W⟩, FR_s F ?_ ?_ rfl⟩
    · unfold E4; omega
    · simp only [vX, pk_un hne]
    · simp only [vY, pk_un hne, pk_uLn hne]
  unfold wX_measure_100 wY_measure_93
  simp only [e_in he, e_cl he, pk_us, zl_1, zI_nb1, zk_1, zL_neg, show ¬ (8 : Int32) = 0 by decide, true_and, and_true, true_implies, false_implies, forall_eq, not_true_eq_false, not_false_eq_true, implies_true, forall_const]
  generalize zI s' / 8 + w = t
  by_cases h1 : 2 ≤ t
  · refine LX_t h1 (LY_t h1 ?_)
    have h1' := Int32.le_iff_toInt_le.mp h1
    rw [show (2 : Int32).toInt = 2 from rfl] at h1'
    by_cases h3 : t ≤ 64
    · have h3' := Int32.le_iff_toInt_le.mp h3
      rw [show (64 : Int32).toInt = 64 from rfl] at h3'
      have K1 := G t.toInt ⟨h1', h3'⟩
      rw [zI_self] at K1
      exact LX_t h3 (LY_t h3 (LK_r0 ⟨_, K1⟩))
    · exact LX_f h3 (LY_f h3 (LK_r0 ⟨64, G 64 (by omega)⟩))
  · exact LX_f h1 (LY_f h1 (LK_r0 ⟨2, G 2 (by omega)⟩))
theorem lk_measure (he : e < 2) (R : RZ e L now st er tr iss una nxt mx la cl irs rcv fi un fst wnd pk hf rto sa smo tm si rt wt rs nr nw ns u0 v0 (f_now, f_sent, a_state, a_error, a_tries, a_iss, a_una, a_nxt, a_max, a_last, a_closing, a_kept, a_rcv, a_first, a_held, a_fin, a_unread, a_came, a_ended, a_wnd, a_peak, a_half, a_same, a_setBy, a_setAt, a_isSet, a_rto, a_smooth, a_spread, a_timed, a_since, a_retry, a_waits, a_rest, a_segSeq, a_segAck, a_segFlags, a_segWindow, a_segLength, a_segBytes, a_row, a_many, a_taken) (g_now, g_sent, b_seq, b_flags, b_acked, b_window, b_many, b_data, b_rows, b_state, b_error, b_iss, b_una, b_nxt, b_max, b_last, b_closed, b_written, b_irs, b_unread, b_bytes, b_held, b_rcv, b_finAt, b_marked, b_wnd, b_peak, b_half, b_rto, b_same, b_tries, b_smooth, b_spread, b_byNumber, b_byAck, b_sampled, b_told, b_retry, b_ackAt, b_waitAt, b_timedAt, b_timed)) :
    LK ap0 aq0 (fun q => wpX_measure q (f_now, f_sent, a_state, a_error, a_tries, a_iss, a_una, a_nxt, a_max, a_last, a_closing, a_kept, a_rcv, a_first, a_held, a_fin, a_unread, a_came, a_ended, a_wnd, a_peak, a_half, a_same, a_setBy, a_setAt, a_isSet, a_rto, a_smooth, a_spread, a_timed, a_since, a_retry, a_waits, a_rest, a_segSeq, a_segAck, a_segFlags, a_segWindow, a_segLength, a_segBytes, a_row, a_many, a_taken) (zI e)) (fun q => wpY_measure q (g_now, g_sent, b_seq, b_flags, b_acked, b_window, b_many, b_data, b_rows, b_state, b_error, b_iss, b_una, b_nxt, b_max, b_last, b_closed, b_written, b_irs, b_unread, b_bytes, b_held, b_rcv, b_finAt, b_marked, b_wnd, b_peak, b_half, b_rto, b_same, b_tries, b_smooth, b_spread, b_byNumber, b_byAck, b_sampled, b_told, b_retry, b_ackAt, b_waitAt, b_timedAt, b_timed) (zI e)) (fun u v => ∃ r' s' : Int, RZ e L now st er tr iss una nxt mx la cl irs rcv fi un fst wnd pk hf r' 1 s' (-1) si rt wt rs nr nw ns u0 v0 u v) := by
  have R0 := R
  obtain ⟨R, F⟩ := R
  obtain ⟨rfl, rfl, xst, xer, xtr, xiss, xuna, xnxt, xmx, xla, xcl, xrcv, xfst, xfi, xun, xen, xwnd, xpk, xhf, xrto, xsm, xsb, xsa, xis, xsmo, xspr, xtm, xsi, xrt, xwt, xrs, yst, yer, ytr, yiss, yuna, ynxt, ymx, yla, ycl, yirs, yrcv, yfi, yun, ywnd, ypk, yhf, yrto, ysa, ysmo, ytm, ysi, yrt, ywt, yrs, I1, I3, I4, I5, K, C, H, W⟩ := RE_el R
  have b5 := E5_b I5
  have b53 := I5.2.2.1
  unfold wpX_measure wpY_measure wX_measure_89 wY_measure_60
  by_cases h : sa = 0
  · rw [if_pos h] at xsmo
    simp (disch := omega) only [e_in he, e_cl he, xsi, ysi, xsmo, ysa, h, zl_0, zl_8, zl_2, zI_sub, zI_mul, zI_le, zI_eq, true_and, and_true, true_implies, false_implies, forall_eq, not_true_eq_false, not_false_eq_true, implies_true, forall_const]
    refine LX_f (by omega) ?_
    exact LK_m (fun u v ⟨r', k⟩ => ⟨r', _, k⟩) (lk_me (s' := 8 * (now - si)) (w := zI (2 * (now - si))) he (by omega) R0)
  · rw [if_neg h] at xsmo
    have hb := b53 (by omega)
    simp (disch := omega) only [e_in he, e_cl he, xsi, ysi, xsmo, ysmo, ysa, xspr h, zl_0, zl_8, zl_4, zI_sub, zI_add, zI_div, zI_neg, zI_le, zI_eq, true_and, and_true, true_implies, false_implies, forall_eq, not_true_eq_false, not_false_eq_true, implies_true, forall_const]
    refine LX_t hb.1 (LX_a (by omega) (LY_f h (LY_a (by omega) ?_)))
    by_cases hd : 0 ≤ now - si - smo / 8
    · refine LX_t hd (LX_a (by omega) (LY_t hd (LY_a (by omega) ?_)))
      exact LK_m (fun u v ⟨r', k⟩ => ⟨r', _, k⟩) (lk_me he (by omega) R0)
    · refine LX_f hd (LX_a (by omega) (LY_f hd (LY_a (by omega) ?_)))
      exact LK_m (fun u v ⟨r', k⟩ => ⟨r', _, k⟩) (lk_me he (by omega) R0)
theorem x_slower {post : SX → Prop} {r2 : Int} (he : e < 2) (xrto : a_rto e = zI rto) (hr : 2 ≤ rto ∧ rto ≤ 64) (h2 : r2 = if rto ≤ 32 then 2 * rto else 64) (K : post (zI now, f_sent, a_state, a_error, a_tries, a_iss, a_una, a_nxt, a_max, a_last, a_closing, a_kept, a_rcv, a_first, a_held, a_fin, a_unread, a_came, a_ended, a_wnd, a_peak, a_half, a_same, a_setBy, a_setAt, a_isSet, upd a_rto e (zI r2), a_smooth, a_spread, upd a_timed e (zI (-1)), a_since, upd a_retry e (zI (now + r2)), a_waits, a_rest, a_segSeq, a_segAck, a_segFlags, a_segWindow, a_segLength, a_segBytes, a_row, a_many, a_taken)) : wpX_slower post (zI now, f_sent, a_state, a_error, a_tries, a_iss, a_una, a_nxt, a_max, a_last, a_closing, a_kept, a_rcv, a_first, a_held, a_fin, a_unread, a_came, a_ended, a_wnd, a_peak, a_half, a_same, a_setBy, a_setAt, a_isSet, a_rto, a_smooth, a_spread, a_timed, a_since, a_retry, a_waits, a_rest, a_segSeq, a_segAck, a_segFlags, a_segWindow, a_segLength, a_segBytes, a_row, a_many, a_taken) (zI e) := by
  unfold wpX_slower wX_slower_31
  simp (disch := omega) only [e_in he, e_cl he, xrto, pk_us, zl_2, zl_64, zl_1, zI_neg, zI_mul, zI_le, zI_add, true_and, and_true, true_implies, false_implies, forall_eq, not_true_eq_false, not_false_eq_true, implies_true, forall_const]
  by_cases h : rto ≤ 32
  · rw [if_pos h] at h2
    subst h2
    exact br_t (by omega) K
  · rw [if_neg h] at h2
    subst h2
    exact br_f (by omega) K
theorem y_l54 {post : SY → Prop} {r2 : Int} {x2 : Int32} (he : e < 2) (yrto : b_rto e = zI rto) (hr : 2 ≤ rto ∧ rto ≤ 64) (h2 : r2 = if rto ≤ 32 then 2 * rto else 64) (K : wY_late_83 post (zI e) x2 (zI r2) (zI e) g_now g_sent b_seq b_flags b_acked b_window b_many b_data b_rows b_state b_error b_iss b_una b_nxt b_max b_last b_closed b_written b_irs b_unread b_bytes b_held b_rcv b_finAt b_marked b_wnd b_peak b_half b_rto b_same b_tries b_smooth b_spread b_byNumber b_byAck b_sampled b_told b_retry b_ackAt b_waitAt b_timedAt b_timed) : wY_late_54 post (zI e) x2 g_now g_sent b_seq b_flags b_acked b_window b_many b_data b_rows b_state b_error b_iss b_una b_nxt b_max b_last b_closed b_written b_irs b_unread b_bytes b_held b_rcv b_finAt b_marked b_wnd b_peak b_half b_rto b_same b_tries b_smooth b_spread b_byNumber b_byAck b_sampled b_told b_retry b_ackAt b_waitAt b_timedAt b_timed := by
  unfold wY_late_54
  simp (disch := omega) only [e_in he, e_cl he, yrto, zl_2, zl_32, zl_64, zI_mul, zI_le, true_and, and_true, true_implies, false_implies, forall_eq, not_true_eq_false, not_false_eq_true, implies_true, forall_const]
  by_cases h : rto ≤ 32
  · rw [if_pos h] at h2
    subst h2
    exact br_t h K
  · rw [if_neg h] at h2
    subst h2
    exact br_f h K
theorem x_narrow {post : SX → Prop} {h2 : Int} (he : e < 2) (xmx : a_max e = zI ((iss + mx) % 65536)) (xuna : a_una e = zI ((iss + una) % 65536)) (hr : una ≤ mx ∧ mx ≤ una + 100) (hh : h2 = if 8 ≤ (mx - una) / 2 then (mx - una) / 2 else 8) (K : post (f_now, f_sent, a_state, a_error, a_tries, a_iss, a_una, a_nxt, a_max, a_last, a_closing, a_kept, a_rcv, a_first, a_held, a_fin, a_unread, a_came, a_ended, a_wnd, a_peak, upd a_half e (zI h2), a_same, a_setBy, a_setAt, a_isSet, a_rto, a_smooth, a_spread, a_timed, a_since, a_retry, a_waits, a_rest, a_segSeq, a_segAck, a_segFlags, a_segWindow, a_segLength, a_segBytes, a_row, a_many, a_taken)) : wpX_narrow post (f_now, f_sent, a_state, a_error, a_tries, a_iss, a_una, a_nxt, a_max, a_last, a_closing, a_kept, a_rcv, a_first, a_held, a_fin, a_unread, a_came, a_ended, a_wnd, a_peak, a_half, a_same, a_setBy, a_setAt, a_isSet, a_rto, a_smooth, a_spread, a_timed, a_since, a_retry, a_waits, a_rest, a_segSeq, a_segAck, a_segFlags, a_segWindow, a_segLength, a_segBytes, a_row, a_many, a_taken) (zI e) := by
  unfold wpX_narrow
  simp (disch := omega) only [e_in he, e_cl he, xmx, xuna, x_offset, zo_pos, zl_2, zl_8, zl_0, zI_div, zI_le, zI_eq, true_and, and_true, true_implies, false_implies, forall_eq, not_true_eq_false, not_false_eq_true, implies_true, forall_const]
  refine ⟨by omega, ?_⟩
  by_cases h : 8 ≤ (mx - una) / 2
  · rw [if_pos h] at hh
    subst hh
    exact br_t h K
  · rw [if_neg h] at hh
    subst hh
    exact br_f h K
theorem y_halved {post : Int32 → Prop} {h2 : Int} (he : e < 2) (ymx : b_max e = zL mx) (yuna : b_una e = zL una) (hr : una ≤ mx ∧ mx ≤ una + 100) (hh : h2 = if 8 ≤ (mx - una) / 2 then (mx - una) / 2 else 8) (K : post (zI h2)) : wpY_halved post (g_now, g_sent, b_seq, b_flags, b_acked, b_window, b_many, b_data, b_rows, b_state, b_error, b_iss, b_una, b_nxt, b_max, b_last, b_closed, b_written, b_irs, b_unread, b_bytes, b_held, b_rcv, b_finAt, b_marked, b_wnd, b_peak, b_half, b_rto, b_same, b_tries, b_smooth, b_spread, b_byNumber, b_byAck, b_sampled, b_told, b_retry, b_ackAt, b_waitAt, b_timedAt, b_timed) (zI e) := by
  unfold wpY_halved
  simp (disch := omega) only [e_in he, e_cl he, ymx, yuna, zL_sub, zI_i, zl_2, zl_8, zl_0, zI_div, zI_le, zI_eq, true_and, and_true, true_implies, false_implies, forall_eq, not_true_eq_false, not_false_eq_true, implies_true, forall_const]
  refine ⟨by omega, ?_⟩
  by_cases h : 8 ≤ (mx - una) / 2
  · rw [if_pos h] at hh
    subst hh
    exact br_t h K
  · rw [if_neg h] at hh
    subst hh
    exact br_f h K
theorem E2_tm (h : E2 L st iss una nxt mx la cl tm) : E2 L st iss una nxt mx la cl (-1) := by
  obtain ⟨a1, a2, a3, a4, a5, a6, a7, a8, a9⟩ := h
  exact ⟨a1, a2, a3, fun z => ⟨(a4 z).1, (a4 z).2.1, rfl⟩, a5, a6, a7, a8, Or.inl rfl⟩
theorem E2_0 (h : E2 L st iss una nxt mx la cl tm) : E2 L 0 iss 1 nxt mx 1 0 (-1) := by
  obtain ⟨a1, a2, a3, a4, a5, a6, a7, a8, a9⟩ := h
  exact ⟨a1, by omega, fun z => by omega, fun z => by omega, fun z => by omega, fun z => by omega, fun z => by omega, fun z => by omega, Or.inl rfl⟩
theorem E5_nr {nr' nw' ns' : Int} (h : E5 now st sa smo si rt wt rs nr nw ns) (h1 : 0 ≤ nr' ∧ nr' ≤ now + 1 ∧ (rt = -1 ∨ nr' ≤ rt)) (h2 : 0 ≤ nw' ∧ nw' ≤ now + 1 ∧ (wt = -1 ∨ nw' ≤ wt)) (h3 : 0 ≤ ns' ∧ ns' ≤ now + 1 ∧ (rs = -1 ∨ ns' ≤ rs)) : E5 now st sa smo si rt wt rs nr' nw' ns' := by
  obtain ⟨a1, a2, a3, a4, a5, a6, a7, a8, a9, a10⟩ := h
  exact ⟨a1, a2, a3, a4, by omega, by omega, by omega, a8, a9, by omega⟩
end
end
section
/-! again and late, due and pass -/
section
variable {e : Nat} {L now : Int} {st er tr iss una nxt mx la cl irs rcv fi un fst wnd pk hf rto sa smo tm si rt wt rs nr nw ns : Int} {f_now f_sent : Int32} {a_state a_error a_tries a_iss a_una a_nxt a_max a_last a_closing a_kept a_rcv a_first a_held a_fin a_unread a_came a_ended a_wnd a_peak a_half a_same a_setBy a_setAt a_isSet a_rto a_smooth a_spread a_timed a_since a_retry a_waits a_rest a_segSeq a_segAck a_segFlags a_segWindow a_segLength a_segBytes a_row a_many a_taken : Nat → Int32} {g_now g_sent : Int32} {b_seq b_flags b_acked b_window b_many b_data b_rows b_state b_error b_iss : Nat → Int32} {b_una b_nxt b_max b_last : Nat → Int64} {b_closed b_written b_irs b_unread b_bytes b_held : Nat → Int32} {b_rcv b_finAt : Nat → Int64} {b_marked b_wnd b_peak b_half b_rto b_same b_tries b_smooth b_spread b_byNumber b_byAck b_sampled b_told b_retry b_ackAt b_waitAt b_timedAt : Nat → Int32} {b_timed : Nat → Int64} {u0 : SX} {v0 : SY}
theorem E2_nu (h : E2 L st iss una nxt mx la cl tm) (h4 : 4 ≤ st) : E2 L st iss una una mx la cl (-1) := by
  obtain ⟨a1, a2, a3, a4, a5, a6, a7, a8, a9⟩ := h
  have := a5 (by omega)
  exact ⟨a1, a2, fun z => by omega, fun z => by omega, fun z => by omega, fun z => by omega, a7, a8, Or.inl rfl⟩
theorem lk_again (he : e < 2) (h2 : 2 ≤ st) (I2 : E2 L st iss una nxt mx la cl tm) (R : RZ e L now st er tr iss una nxt mx la cl irs rcv fi un fst wnd pk hf rto sa smo tm si rt wt rs nr nw ns u0 v0 (f_now, f_sent, a_state, a_error, a_tries, a_iss, a_una, a_nxt, a_max, a_last, a_closing, a_kept, a_rcv, a_first, a_held, a_fin, a_unread, a_came, a_ended, a_wnd, a_peak, a_half, a_same, a_setBy, a_setAt, a_isSet, a_rto, a_smooth, a_spread, a_timed, a_since, a_retry, a_waits, a_rest, a_segSeq, a_segAck, a_segFlags, a_segWindow, a_segLength, a_segBytes, a_row, a_many, a_taken) (g_now, g_sent, b_seq, b_flags, b_acked, b_window, b_many, b_data, b_rows, b_state, b_error, b_iss, b_una, b_nxt, b_max, b_last, b_closed, b_written, b_irs, b_unread, b_bytes, b_held, b_rcv, b_finAt, b_marked, b_wnd, b_peak, b_half, b_rto, b_same, b_tries, b_smooth, b_spread, b_byNumber, b_byAck, b_sampled, b_told, b_retry, b_ackAt, b_waitAt, b_timedAt, b_timed)) :
    LK ap0 aq0 (fun q => wpX_again q (f_now, f_sent, a_state, a_error, a_tries, a_iss, a_una, a_nxt, a_max, a_last, a_closing, a_kept, a_rcv, a_first, a_held, a_fin, a_unread, a_came, a_ended, a_wnd, a_peak, a_half, a_same, a_setBy, a_setAt, a_isSet, a_rto, a_smooth, a_spread, a_timed, a_since, a_retry, a_waits, a_rest, a_segSeq, a_segAck, a_segFlags, a_segWindow, a_segLength, a_segBytes, a_row, a_many, a_taken) (zI e)) (fun q => wpY_late q (g_now, g_sent, b_seq, b_flags, b_acked, b_window, b_many, b_data, b_rows, b_state, b_error, b_iss, b_una, b_nxt, b_max, b_last, b_closed, b_written, b_irs, b_unread, b_bytes, b_held, b_rcv, b_finAt, b_marked, b_wnd, b_peak, b_half, b_rto, b_same, b_tries, b_smooth, b_spread, b_byNumber, b_byAck, b_sampled, b_told, b_retry, b_ackAt, b_waitAt, b_timedAt, b_timed) (zI e)) (fun u v => OKs e L now (now + 1) nw ns u0 v0 u v) := by
  have hne : 1 - e ≠ e := by omega
  obtain ⟨R, F⟩ := R
  obtain ⟨rfl, rfl, xst, xer, xtr, xiss, xuna, xnxt, xmx, xla, xcl, xrcv, xfst, xfi, xun, xen, xwnd, xpk, xhf, xrto, xsm, xsb, xsa, xis, xsmo, xspr, xtm, xsi, xrt, xwt, xrs, yst, yer, ytr, yiss, yuna, ynxt, ymx, yla, ycl, yirs, yrcv, yfi, yun, ywnd, ypk, yhf, yrto, ysa, ysmo, ytm, ysi, yrt, ywt, yrs, I1, I3, I4, I5, K, C, H, W⟩ := RE_el R
  have b2 := E2_b I2 h2
  have b4 := I4
  unfold E4 at b4
  have b1 := I1
  unfold E1 at b1
  have b5 := E5_b I5
  have b510 := I5.2.2.2.2.2.2.2.2.2
  obtain ⟨r2, hr2⟩ : ∃ r2 : Int, r2 = if rto ≤ 32 then 2 * rto else 64 := ⟨_, rfl⟩
  have hr2' : 2 ≤ r2 ∧ r2 ≤ 64 := by rw [hr2]; split <;> omega
  have J5 : E5 now st sa smo si (now + r2) wt rs (now + 1) nw ns := E5_nr (E5_rt I5 (by omega)) (by omega) ⟨by omega, by omega, by have := I5.2.2.2.2.2.1; omega⟩ ⟨by omega, by omega, by have := I5.2.2.2.2.2.2.1; omega⟩
  have J4 : E4 wnd pk hf r2 := ⟨b4.1, b4.2.1, b4.2.2.1, hr2'⟩
  by_cases hp : una = mx
  · apply LK_x
    · intro q h
      unfold wpX_again
      refine ⟨e_in he, e_in he, ?_⟩
      rw [e_cl he, xuna h2, xmx h2]
      refine br_t (by rw [hp]) ?_
      refine x_slower he xrto b4.2.2.2 hr2 ?_
      dsimp only
      refine ⟨e_in he, ?_⟩
      rw [xuna h2, zl_1, zl_65535, zI_sub, zI_m16, zm_sub]
      exact h
    apply LK_y
    · intro q h
      unfold wpY_late
      refine ⟨e_in he, e_in he, ?_⟩
      rw [e_cl he, yuna, ymx]
      refine br_t (by rw [hp]) ?_
      unfold wY_late_21
      refine br_f (by decide) ?_
      refine y_l54 he yrto b4.2.2.2 hr2 ?_
      unfold wY_late_83
      refine ⟨e_in he, ?_⟩
      rw [e_cl he]
      refine nm_e ⟨e_in he, e_in he, ?_⟩
      rw [pk_us, zI_add]
      refine nm_e ⟨e_in he, nm_e (br_f (by decide) ⟨e_in he, ?_⟩)⟩
      rw [yuna, zk_1, zL_neg, zL_sub]
      exact h
    refine LK_b (lk_emit0 (u0 := u0) (v0 := v0) (p := una - 1) (rto := r2) (rt := now + r2) (tm := -1) (nr := now + 1) he (by have := I2.2.2.2.2.2.1; omega) b2.1 (by omega) (by omega) ⟨RE_in ⟨rfl, rfl, xst, xer, xtr, xiss, xuna, xnxt, xmx, xla, xcl, xrcv, xfst, xfi, xun, xen, xwnd, xpk, xhf, pk_us, xsm, xsb, xsa, xis, xsmo, xspr, pk_us, xsi, pk_us, xwt, xrs, yst, yer, ytr, yiss, yuna, ynxt, ymx, yla, ycl, yirs, yrcv, yfi, yun, ywnd, ypk, yhf, pk_us, ysa, ysmo, pk_uLs, ysi, pk_us, ywt, yrs, I1, I3, J4, J5, K, C, H, W⟩, FR_s F ?_ ?_ rfl⟩) ?_
    · simp only [vX, pk_un hne]
    · simp only [vY, pk_un hne, pk_uLn hne]
    · intro f_now1 f_sent1 a_state1 a_error1 a_tries1 a_iss1 a_una1 a_nxt1 a_max1 a_last1 a_closing1 a_kept1 a_rcv1 a_first1 a_held1 a_fin1 a_unread1 a_came1 a_ended1 a_wnd1 a_peak1 a_half1 a_same1 a_setBy1 a_setAt1 a_isSet1 a_rto1 a_smooth1 a_spread1 a_timed1 a_since1 a_retry1 a_waits1 a_rest1 a_segSeq1 a_segAck1 a_segFlags1 a_segWindow1 a_segLength1 a_segBytes1 a_row1 a_many1 a_taken1 g_now1 g_sent1 b_seq1 b_flags1 b_acked1 b_window1 b_many1 b_data1 b_rows1 b_state1 b_error1 b_iss1 b_una1 b_nxt1 b_max1 b_last1 b_closed1 b_written1 b_irs1 b_unread1 b_bytes1 b_held1 b_rcv1 b_finAt1 b_marked1 b_wnd1 b_peak1 b_half1 b_rto1 b_same1 b_tries1 b_smooth1 b_spread1 b_byNumber1 b_byAck1 b_sampled1 b_told1 b_retry1 b_ackAt1 b_waitAt1 b_timedAt1 b_timed1 R1
      exact LK_r0 (OK_i R1 (E2_tm I2))
  · have hxt : vp_nar .byte ((zI tr + 1).toInt8.toInt32) = zI (tr + 1) := by rw [zl_1, zI_add, zI_8 (by omega), zI_n8 (by omega)]
    have hpx : ¬ zI ((iss + una) % 65536) = zI ((iss + mx) % 65536) := by rw [zI_eq (by omega), zm_eq (by omega)]; exact hp
    have hpy : ¬ zL una = zL mx := by rw [zL_eq (by omega)]; exact hp
    have xtr := xtr (by omega)
    by_cases ht : tr + 1 = 6
    · apply LK_x
      · intro q h
        unfold wpX_again
        refine ⟨e_in he, e_in he, ?_⟩
        rw [e_cl he, xuna h2, xmx h2]
        refine br_f hpx ⟨e_in he, e_in he, ?_⟩
        rw [xtr, hxt]
        refine nm_e ⟨e_in he, ?_⟩
        rw [pk_us]
        exact br_t (by rw [ht]; rfl) h
      apply LK_y
      · intro q h
        unfold wpY_late
        refine ⟨e_in he, e_in he, ?_⟩
        rw [e_cl he, yuna, ymx]
        refine br_f hpy ?_
        unfold wY_late_21
        refine br_t rfl ⟨e_in he, e_in he, ?_⟩
        rw [e_cl he, ytr, zl_1, zI_add]
        refine nm_e ⟨e_in he, ?_⟩
        rw [pk_us]
        exact br_t (by rw [ht]; rfl) h
      refine LK_b (lk_over_t (why := 2) (code := 2) he (pk_un hne) (pk_un hne) (by omega) rfl ⟨R, F⟩) ?_
      intro f_now1 f_sent1 a_state1 a_error1 a_tries1 a_iss1 a_una1 a_nxt1 a_max1 a_last1 a_closing1 a_kept1 a_rcv1 a_first1 a_held1 a_fin1 a_unread1 a_came1 a_ended1 a_wnd1 a_peak1 a_half1 a_same1 a_setBy1 a_setAt1 a_isSet1 a_rto1 a_smooth1 a_spread1 a_timed1 a_since1 a_retry1 a_waits1 a_rest1 a_segSeq1 a_segAck1 a_segFlags1 a_segWindow1 a_segLength1 a_segBytes1 a_row1 a_many1 a_taken1 g_now1 g_sent1 b_seq1 b_flags1 b_acked1 b_window1 b_many1 b_data1 b_rows1 b_state1 b_error1 b_iss1 b_una1 b_nxt1 b_max1 b_last1 b_closed1 b_written1 b_irs1 b_unread1 b_bytes1 b_held1 b_rcv1 b_finAt1 b_marked1 b_wnd1 b_peak1 b_half1 b_rto1 b_same1 b_tries1 b_smooth1 b_spread1 b_byNumber1 b_byAck1 b_sampled1 b_told1 b_retry1 b_ackAt1 b_waitAt1 b_timedAt1 b_timed1 R1
      obtain ⟨R1, F1⟩ := R1
      obtain ⟨rfl, rfl, xst1, xer1, xtr1, xiss1, xuna1, xnxt1, xmx1, xla1, xcl1, xrcv1, xfst1, xfi1, xun1, xen1, xwnd1, xpk1, xhf1, xrto1, xsm1, xsb1, xsa1, xis1, xsmo1, xspr1, xtm1, xsi1, xrt1, xwt1, xrs1, yst1, yer1, ytr1, yiss1, yuna1, ynxt1, ymx1, yla1, ycl1, yirs1, yrcv1, yfi1, yun1, ywnd1, ypk1, yhf1, yrto1, ysa1, ysmo1, ytm1, ysi1, yrt1, ywt1, yrs1, I11, I31, I41, I51, K1, C1, H1, W1⟩ := RE_el R1
      exact LK_r0 (OK_i ⟨RE_in ⟨rfl, rfl, xst1, xer1, xtr1, xiss1, xuna1, xnxt1, xmx1, xla1, xcl1, xrcv1, xfst1, xfi1, xun1, xen1, xwnd1, xpk1, xhf1, xrto1, xsm1, xsb1, xsa1, xis1, xsmo1, xspr1, xtm1, xsi1, xrt1, xwt1, xrs1, yst1, yer1, ytr1, yiss1, yuna1, ynxt1, ymx1, yla1, ycl1, yirs1, yrcv1, yfi1, yun1, ywnd1, ypk1, yhf1, yrto1, ysa1, ysmo1, ytm1, ysi1, yrt1, ywt1, yrs1, I11, I31, I41, E5_nr I51 (by omega) (by omega) (by omega), K1, C1, H1, W1⟩, F1⟩ (E2_0 I2))
    · have htx : ¬ zI (tr + 1) = 6 := by rw [zl_6, zI_eq (by omega)]; exact ht
      have J1 : E1 st er (tr + 1) cl := ⟨b1.1, b1.2.1, by omega, b1.2.2.2⟩
      apply LK_x
      · intro q h
        unfold wpX_again
        refine ⟨e_in he, e_in he, ?_⟩
        rw [e_cl he, xuna h2, xmx h2]
        refine br_f hpx ⟨e_in he, e_in he, ?_⟩
        rw [xtr, hxt]
        refine nm_e ⟨e_in he, ?_⟩
        rw [pk_us]
        refine br_f htx ?_
        refine x_slower he xrto b4.2.2.2 hr2 ?_
        dsimp only
        refine ⟨e_in he, ?_⟩
        exact h
      apply LK_y
      · intro q h
        unfold wpY_late
        refine ⟨e_in he, e_in he, ?_⟩
        rw [e_cl he, yuna, ymx]
        refine br_f hpy ?_
        unfold wY_late_21
        refine br_t rfl ⟨e_in he, e_in he, ?_⟩
        rw [e_cl he, ytr, zl_1, zI_add]
        refine nm_e ⟨e_in he, ?_⟩
        rw [pk_us]
        refine br_f htx ?_
        refine y_l54 he yrto b4.2.2.2 hr2 ?_
        unfold wY_late_83
        refine ⟨e_in he, ?_⟩
        rw [e_cl he]
        refine nm_e ⟨e_in he, e_in he, ?_⟩
        rw [pk_us, zI_add]
        refine nm_e ⟨e_in he, nm_e (br_t rfl ⟨e_in he, ?_⟩)⟩
        rw [zk_1, zL_neg]
        exact h
      rw [xst, yst]
      by_cases h4 : 4 ≤ st
      · refine LX_t (by rw [zl_4, zI_le (by omega)]; exact h4) (LY_t (by rw [zl_4, zI_le (by omega)]; exact h4) ?_)
        obtain ⟨f2, hf2⟩ : ∃ f2 : Int, f2 = if 8 ≤ (mx - una) / 2 then (mx - una) / 2 else 8 := ⟨_, rfl⟩
        have hf2' : 8 ≤ f2 ∧ f2 ≤ 64 := by rw [hf2]; split <;> omega
        have hmm : una ≤ mx ∧ mx ≤ una + 100 := by omega
        have J44 : E4 wnd 8 f2 r2 := ⟨b4.1, by omega, hf2', hr2'⟩
        apply LK_x
        · intro q h
          refine x_narrow he (xmx h2) (xuna h2) hmm hf2 ?_
          dsimp only
          refine ⟨e_in he, nm_e ⟨e_in he, nm_e ⟨e_in he, e_in he, nm_e ⟨e_in he, ?_⟩⟩⟩⟩
          exact h
        apply LK_y
        · intro q h
          refine y_halved he ymx yuna hmm hf2 ?_
          refine ⟨e_in he, nm_e ⟨e_in he, nm_e ⟨e_in he, nm_e ⟨e_in he, e_in he, nm_e ⟨e_in he, ?_⟩⟩⟩⟩⟩
          exact h
        rw [xwnd, ywnd]
        have J2 : E2 L st iss una una mx la cl (-1) := E2_nu I2 h4
        have K1 : RZ e L now st er (tr + 1) iss una una mx la cl irs rcv fi un fst wnd 8 f2 r2 sa smo (-1) si (now + r2) wt rs (now + 1) nw ns u0 v0 (zI now, f_sent, a_state, a_error, upd a_tries e (zI (tr + 1)), a_iss, a_una, upd a_nxt e (a_una e), a_max, a_last, a_closing, a_kept, a_rcv, a_first, a_held, a_fin, a_unread, a_came, a_ended, a_wnd, upd a_peak e 8, upd a_half e (zI f2), upd a_same e 0, a_setBy, a_setAt, a_isSet, upd a_rto e (zI r2), a_smooth, a_spread, upd a_timed e (zI (-1)), a_since, upd a_retry e (zI (now + r2)), a_waits, a_rest, a_segSeq, a_segAck, a_segFlags, a_segWindow, a_segLength, a_segBytes, a_row, a_many, a_taken) (zI now, g_sent, b_seq, b_flags, b_acked, b_window, b_many, b_data, b_rows, b_state, b_error, b_iss, b_una, vp_updL b_nxt e (b_una e), b_max, b_last, b_closed, b_written, b_irs, b_unread, b_bytes, b_held, b_rcv, b_finAt, b_marked, b_wnd, upd b_peak e 8, upd b_half e (zI f2), upd b_rto e (zI r2), upd b_same e 0, upd b_tries e (zI (tr + 1)), b_smooth, b_spread, b_byNumber, b_byAck, b_sampled, b_told, upd b_retry e (zI (now + r2)), b_ackAt, b_waitAt, b_timedAt, vp_updL b_timed e (zL (-1))) := by
          refine ⟨RE_in ⟨rfl, rfl, xst, xer, fun _ => pk_us, xiss, xuna, fun _ => pk_us.trans (xuna h2), xmx, xla, xcl, xrcv, xfst, xfi, xun, xen, xwnd, pk_us, pk_us, pk_us, fun _ => pk_us.trans pk_us.symm, xsb, xsa, xis, xsmo, xspr, pk_us, xsi, pk_us, xwt, xrs, yst, yer, pk_us, yiss, yuna, pk_uLs.trans yuna, ymx, yla, ycl, yirs, yrcv, yfi, yun, ywnd, pk_us, pk_us, pk_us, ysa, ysmo, pk_uLs, ysi, pk_us, ywt, yrs, J1, I3, J44, J5, K, C, H, W⟩, FR_s F ?_ ?_ rfl⟩
          · simp only [vX, pk_un hne]
          · simp only [vY, pk_un hne, pk_uLn hne]
        by_cases hw : wnd = 0
        · refine LX_t (by rw [hw]; rfl) (LY_t (by rw [hw]; rfl) ?_)
          refine LK_b (lk_first he h4 J2 (by omega) K1) ?_
          intro f_now1 f_sent1 a_state1 a_error1 a_tries1 a_iss1 a_una1 a_nxt1 a_max1 a_last1 a_closing1 a_kept1 a_rcv1 a_first1 a_held1 a_fin1 a_unread1 a_came1 a_ended1 a_wnd1 a_peak1 a_half1 a_same1 a_setBy1 a_setAt1 a_isSet1 a_rto1 a_smooth1 a_spread1 a_timed1 a_since1 a_retry1 a_waits1 a_rest1 a_segSeq1 a_segAck1 a_segFlags1 a_segWindow1 a_segLength1 a_segBytes1 a_row1 a_many1 a_taken1 g_now1 g_sent1 b_seq1 b_flags1 b_acked1 b_window1 b_many1 b_data1 b_rows1 b_state1 b_error1 b_iss1 b_una1 b_nxt1 b_max1 b_last1 b_closed1 b_written1 b_irs1 b_unread1 b_bytes1 b_held1 b_rcv1 b_finAt1 b_marked1 b_wnd1 b_peak1 b_half1 b_rto1 b_same1 b_tries1 b_smooth1 b_spread1 b_byNumber1 b_byAck1 b_sampled1 b_told1 b_retry1 b_ackAt1 b_waitAt1 b_timedAt1 b_timed1 R1
          exact LK_r0 (OK_i R1 J2)
        · refine LX_f (by rw [zl_0, zI_eq (by omega)]; exact hw) (LY_f (by rw [zl_0, zI_eq (by omega)]; exact hw) ?_)
          refine LK_b (lk_flow he h2 J2 K1) ?_
          intro f_now1 f_sent1 a_state1 a_error1 a_tries1 a_iss1 a_una1 a_nxt1 a_max1 a_last1 a_closing1 a_kept1 a_rcv1 a_first1 a_held1 a_fin1 a_unread1 a_came1 a_ended1 a_wnd1 a_peak1 a_half1 a_same1 a_setBy1 a_setAt1 a_isSet1 a_rto1 a_smooth1 a_spread1 a_timed1 a_since1 a_retry1 a_waits1 a_rest1 a_segSeq1 a_segAck1 a_segFlags1 a_segWindow1 a_segLength1 a_segBytes1 a_row1 a_many1 a_taken1 g_now1 g_sent1 b_seq1 b_flags1 b_acked1 b_window1 b_many1 b_data1 b_rows1 b_state1 b_error1 b_iss1 b_una1 b_nxt1 b_max1 b_last1 b_closed1 b_written1 b_irs1 b_unread1 b_bytes1 b_held1 b_rcv1 b_finAt1 b_marked1 b_wnd1 b_peak1 b_half1 b_rto1 b_same1 b_tries1 b_smooth1 b_spread1 b_byNumber1 b_byAck1 b_sampled1 b_told1 b_retry1 b_ackAt1 b_waitAt1 b_timedAt1 b_timed1 R1
          exact LK_r0 (QF_OK R1)
      · refine LX_f (by rw [zl_4, zI_le (by omega)]; exact h4) (LY_f (by rw [zl_4, zI_le (by omega)]; exact h4) (LX_a (e_in he) (LX_a (e_in he) ?_)))
        have b26 := I2.2.2.2.2.2.1 (by omega)
        have K1 : RZ e L now st er (tr + 1) iss una nxt mx la cl irs rcv fi un fst wnd pk hf r2 sa smo (-1) si (now + r2) wt rs (now + 1) nw ns u0 v0 (zI now, f_sent, a_state, a_error, upd a_tries e (zI (tr + 1)), a_iss, a_una, a_nxt, a_max, a_last, a_closing, a_kept, a_rcv, a_first, a_held, a_fin, a_unread, a_came, a_ended, a_wnd, a_peak, a_half, a_same, a_setBy, a_setAt, a_isSet, upd a_rto e (zI r2), a_smooth, a_spread, upd a_timed e (zI (-1)), a_since, upd a_retry e (zI (now + r2)), a_waits, a_rest, a_segSeq, a_segAck, a_segFlags, a_segWindow, a_segLength, a_segBytes, a_row, a_many, a_taken) (zI now, g_sent, b_seq, b_flags, b_acked, b_window, b_many, b_data, b_rows, b_state, b_error, b_iss, b_una, b_nxt, b_max, b_last, b_closed, b_written, b_irs, b_unread, b_bytes, b_held, b_rcv, b_finAt, b_marked, b_wnd, b_peak, b_half, upd b_rto e (zI r2), b_same, upd b_tries e (zI (tr + 1)), b_smooth, b_spread, b_byNumber, b_byAck, b_sampled, b_told, upd b_retry e (zI (now + r2)), b_ackAt, b_waitAt, b_timedAt, vp_updL b_timed e (zL (-1))) := by
          refine ⟨RE_in ⟨rfl, rfl, xst, xer, fun _ => pk_us, xiss, xuna, xnxt, xmx, xla, xcl, xrcv, xfst, xfi, xun, xen, xwnd, xpk, xhf, pk_us, xsm, xsb, xsa, xis, xsmo, xspr, pk_us, xsi, pk_us, xwt, xrs, yst, yer, pk_us, yiss, yuna, ynxt, ymx, yla, ycl, yirs, yrcv, yfi, yun, ywnd, ypk, yhf, pk_us, ysa, ysmo, pk_uLs, ysi, pk_us, ywt, yrs, J1, I3, J4, J5, K, C, H, W⟩, FR_s F ?_ ?_ rfl⟩
          · simp only [vX, pk_un hne]
          · simp only [vY, pk_un hne, pk_uLn hne]
        have c1 : ¬ ((1 : Int) ≠ 0 ∧ mx < 0 + 1) := by omega
        have c2 : ¬ ((1 : Int) ≠ 0 ∧ 0 = mx ∧ (-1 : Int) < 0) := by omega
        rw [xiss, show zI iss = zI ((iss + 0) % 65536) by congr 1; omega]
        unfold wX_again_106
        by_cases hs : st = 2
        · refine LX_t (by rw [hs]; rfl) ?_
          refine LK_b (lk_emit (p := 0) (fx := 1) (fy := 1) (ln := 1) (n := 0) he h2 b2.1 (by omega) (by omega) (Or.inr ⟨hs, rfl, rfl⟩) rfl (fun _ => by omega) (by omega) (fun z => absurd rfl z) K1) ?_
          intro f_now1 f_sent1 a_state1 a_error1 a_tries1 a_iss1 a_una1 a_nxt1 a_max1 a_last1 a_closing1 a_kept1 a_rcv1 a_first1 a_held1 a_fin1 a_unread1 a_came1 a_ended1 a_wnd1 a_peak1 a_half1 a_same1 a_setBy1 a_setAt1 a_isSet1 a_rto1 a_smooth1 a_spread1 a_timed1 a_since1 a_retry1 a_waits1 a_rest1 a_segSeq1 a_segAck1 a_segFlags1 a_segWindow1 a_segLength1 a_segBytes1 a_row1 a_many1 a_taken1 g_now1 g_sent1 b_seq1 b_flags1 b_acked1 b_window1 b_many1 b_data1 b_rows1 b_state1 b_error1 b_iss1 b_una1 b_nxt1 b_max1 b_last1 b_closed1 b_written1 b_irs1 b_unread1 b_bytes1 b_held1 b_rcv1 b_finAt1 b_marked1 b_wnd1 b_peak1 b_half1 b_rto1 b_same1 b_tries1 b_smooth1 b_spread1 b_byNumber1 b_byAck1 b_sampled1 b_told1 b_retry1 b_ackAt1 b_waitAt1 b_timedAt1 b_timed1 R1
          rw [if_neg c1, if_neg c2, if_neg c2] at R1
          exact LK_r0 (OK_i R1 (E2_tm I2))
        · refine LX_f (by rw [zl_2, zI_eq (by omega)]; exact hs) ?_
          refine LK_b (lk_emit (p := 0) (fx := 3) (fy := 1) (ln := 1) (n := 0) he h2 b2.1 (by omega) (by omega) (Or.inl ⟨hs, Or.inr (Or.inr ⟨rfl, rfl⟩)⟩) rfl (fun _ => by omega) (by omega) (fun z => absurd rfl z) K1) ?_
          intro f_now1 f_sent1 a_state1 a_error1 a_tries1 a_iss1 a_una1 a_nxt1 a_max1 a_last1 a_closing1 a_kept1 a_rcv1 a_first1 a_held1 a_fin1 a_unread1 a_came1 a_ended1 a_wnd1 a_peak1 a_half1 a_same1 a_setBy1 a_setAt1 a_isSet1 a_rto1 a_smooth1 a_spread1 a_timed1 a_since1 a_retry1 a_waits1 a_rest1 a_segSeq1 a_segAck1 a_segFlags1 a_segWindow1 a_segLength1 a_segBytes1 a_row1 a_many1 a_taken1 g_now1 g_sent1 b_seq1 b_flags1 b_acked1 b_window1 b_many1 b_data1 b_rows1 b_state1 b_error1 b_iss1 b_una1 b_nxt1 b_max1 b_last1 b_closed1 b_written1 b_irs1 b_unread1 b_bytes1 b_held1 b_rcv1 b_finAt1 b_marked1 b_wnd1 b_peak1 b_half1 b_rto1 b_same1 b_tries1 b_smooth1 b_spread1 b_byNumber1 b_byAck1 b_sampled1 b_told1 b_retry1 b_ackAt1 b_waitAt1 b_timedAt1 b_timed1 R1
          rw [if_neg c1, if_neg c2, if_neg c2] at R1
          exact LK_r0 (OK_i R1 (E2_tm I2))
end
end
section
/-! due and pass -/
section
variable {e : Nat} {L now : Int} {st er tr iss una nxt mx la cl irs rcv fi un fst wnd pk hf rto sa smo tm si rt wt rs nr nw ns : Int} {f_now f_sent : Int32} {a_state a_error a_tries a_iss a_una a_nxt a_max a_last a_closing a_kept a_rcv a_first a_held a_fin a_unread a_came a_ended a_wnd a_peak a_half a_same a_setBy a_setAt a_isSet a_rto a_smooth a_spread a_timed a_since a_retry a_waits a_rest a_segSeq a_segAck a_segFlags a_segWindow a_segLength a_segBytes a_row a_many a_taken : Nat → Int32} {g_now g_sent : Int32} {b_seq b_flags b_acked b_window b_many b_data b_rows b_state b_error b_iss : Nat → Int32} {b_una b_nxt b_max b_last : Nat → Int64} {b_closed b_written b_irs b_unread b_bytes b_held : Nat → Int32} {b_rcv b_finAt : Nat → Int64} {b_marked b_wnd b_peak b_half b_rto b_same b_tries b_smooth b_spread b_byNumber b_byAck b_sampled b_told b_retry b_ackAt b_waitAt b_timedAt : Nat → Int32} {b_timed : Nat → Int64} {u0 : SX} {v0 : SY}
theorem lk_due36 (he : e < 2) (I2 : E2 L st iss una nxt mx la cl tm) (R : RZ e L now st er tr iss una nxt mx la cl irs rcv fi un fst wnd pk hf rto sa smo tm si rt wt rs (now + 1) (now + 1) now u0 v0 (f_now, f_sent, a_state, a_error, a_tries, a_iss, a_una, a_nxt, a_max, a_last, a_closing, a_kept, a_rcv, a_first, a_held, a_fin, a_unread, a_came, a_ended, a_wnd, a_peak, a_half, a_same, a_setBy, a_setAt, a_isSet, a_rto, a_smooth, a_spread, a_timed, a_since, a_retry, a_waits, a_rest, a_segSeq, a_segAck, a_segFlags, a_segWindow, a_segLength, a_segBytes, a_row, a_many, a_taken) (g_now, g_sent, b_seq, b_flags, b_acked, b_window, b_many, b_data, b_rows, b_state, b_error, b_iss, b_una, b_nxt, b_max, b_last, b_closed, b_written, b_irs, b_unread, b_bytes, b_held, b_rcv, b_finAt, b_marked, b_wnd, b_peak, b_half, b_rto, b_same, b_tries, b_smooth, b_spread, b_byNumber, b_byAck, b_sampled, b_told, b_retry, b_ackAt, b_waitAt, b_timedAt, b_timed)) :
    LK ap0 aq0 (fun q => wX_due_36 q (zI e) f_now f_sent a_state a_error a_tries a_iss a_una a_nxt a_max a_last a_closing a_kept a_rcv a_first a_held a_fin a_unread a_came a_ended a_wnd a_peak a_half a_same a_setBy a_setAt a_isSet a_rto a_smooth a_spread a_timed a_since a_retry a_waits a_rest a_segSeq a_segAck a_segFlags a_segWindow a_segLength a_segBytes a_row a_many a_taken) (fun q => wY_pass_36 q (zI e) g_now g_sent b_seq b_flags b_acked b_window b_many b_data b_rows b_state b_error b_iss b_una b_nxt b_max b_last b_closed b_written b_irs b_unread b_bytes b_held b_rcv b_finAt b_marked b_wnd b_peak b_half b_rto b_same b_tries b_smooth b_spread b_byNumber b_byAck b_sampled b_told b_retry b_ackAt b_waitAt b_timedAt b_timed) (fun u v => OKs e L now (now + 1) (now + 1) (now + 1) u0 v0 u v) := by
  have R0 := R
  obtain ⟨R, F⟩ := R
  obtain ⟨rfl, rfl, xst, xer, xtr, xiss, xuna, xnxt, xmx, xla, xcl, xrcv, xfst, xfi, xun, xen, xwnd, xpk, xhf, xrto, xsm, xsb, xsa, xis, xsmo, xspr, xtm, xsi, xrt, xwt, xrs, yst, yer, ytr, yiss, yuna, ynxt, ymx, yla, ycl, yirs, yrcv, yfi, yun, ywnd, ypk, yhf, yrto, ysa, ysmo, ytm, ysi, yrt, ywt, yrs, I1, I3, I4, I5, K, C, H, W⟩ := RE_el R
  have b5 := E5_b I5
  have b57 := I5.2.2.2.2.2.2.1
  have b55 := I5.2.2.2.2.1
  have b56 := I5.2.2.2.2.2.1
  have hc : zI rs = zI now ↔ rs = now := zI_eq (by omega)
  unfold wX_due_36 wY_pass_36
  refine LX_a (e_in he) (LY_a (e_in he) ?_)
  rw [e_cl he, xrs, yrs]
  by_cases h : rs = now
  · refine LX_t (hc.mpr h) (LY_t (hc.mpr h) (LY_a (e_in he) ?_))
    rw [yer]
    refine LK_b (lk_over (why := 0) (code := er) he (by omega) (if_pos (by omega)).symm R0) ?_
    intro f_now1 f_sent1 a_state1 a_error1 a_tries1 a_iss1 a_una1 a_nxt1 a_max1 a_last1 a_closing1 a_kept1 a_rcv1 a_first1 a_held1 a_fin1 a_unread1 a_came1 a_ended1 a_wnd1 a_peak1 a_half1 a_same1 a_setBy1 a_setAt1 a_isSet1 a_rto1 a_smooth1 a_spread1 a_timed1 a_since1 a_retry1 a_waits1 a_rest1 a_segSeq1 a_segAck1 a_segFlags1 a_segWindow1 a_segLength1 a_segBytes1 a_row1 a_many1 a_taken1 g_now1 g_sent1 b_seq1 b_flags1 b_acked1 b_window1 b_many1 b_data1 b_rows1 b_state1 b_error1 b_iss1 b_una1 b_nxt1 b_max1 b_last1 b_closed1 b_written1 b_irs1 b_unread1 b_bytes1 b_held1 b_rcv1 b_finAt1 b_marked1 b_wnd1 b_peak1 b_half1 b_rto1 b_same1 b_tries1 b_smooth1 b_spread1 b_byNumber1 b_byAck1 b_sampled1 b_told1 b_retry1 b_ackAt1 b_waitAt1 b_timedAt1 b_timed1 R1
    obtain ⟨R1, F1⟩ := R1
    obtain ⟨rfl, rfl, xst1, xer1, xtr1, xiss1, xuna1, xnxt1, xmx1, xla1, xcl1, xrcv1, xfst1, xfi1, xun1, xen1, xwnd1, xpk1, xhf1, xrto1, xsm1, xsb1, xsa1, xis1, xsmo1, xspr1, xtm1, xsi1, xrt1, xwt1, xrs1, yst1, yer1, ytr1, yiss1, yuna1, ynxt1, ymx1, yla1, ycl1, yirs1, yrcv1, yfi1, yun1, ywnd1, ypk1, yhf1, yrto1, ysa1, ysmo1, ytm1, ysi1, yrt1, ywt1, yrs1, I11, I31, I41, I51, K1, C1, H1, W1⟩ := RE_el R1
    exact LK_r0 (OK_i ⟨RE_in ⟨rfl, rfl, xst1, xer1, xtr1, xiss1, xuna1, xnxt1, xmx1, xla1, xcl1, xrcv1, xfst1, xfi1, xun1, xen1, xwnd1, xpk1, xhf1, xrto1, xsm1, xsb1, xsa1, xis1, xsmo1, xspr1, xtm1, xsi1, xrt1, xwt1, xrs1, yst1, yer1, ytr1, yiss1, yuna1, ynxt1, ymx1, yla1, ycl1, yirs1, yrcv1, yfi1, yun1, ywnd1, ypk1, yhf1, yrto1, ysa1, ysmo1, ytm1, ysi1, yrt1, ywt1, yrs1, I11, I31, I41, E5_nr I51 (by omega) (by omega) (by omega), K1, C1, H1, W1⟩, F1⟩ (E2_0 I2))
  · exact LX_f (fun z => h (hc.mp z)) (LY_f (fun z => h (hc.mp z)) (LK_r0 (OK_i ⟨RE_in ⟨rfl, rfl, xst, xer, xtr, xiss, xuna, xnxt, xmx, xla, xcl, xrcv, xfst, xfi, xun, xen, xwnd, xpk, xhf, xrto, xsm, xsb, xsa, xis, xsmo, xspr, xtm, xsi, xrt, xwt, xrs, yst, yer, ytr, yiss, yuna, ynxt, ymx, yla, ycl, yirs, yrcv, yfi, yun, ywnd, ypk, yhf, yrto, ysa, ysmo, ytm, ysi, yrt, ywt, yrs, I1, I3, I4, E5_nr I5 (by omega) (by omega) (by omega), K, C, H, W⟩, F⟩ I2)))
theorem lk_due18 (he : e < 2) (I2 : E2 L st iss una nxt mx la cl tm) (R : RZ e L now st er tr iss una nxt mx la cl irs rcv fi un fst wnd pk hf rto sa smo tm si rt wt rs (now + 1) now now u0 v0 (f_now, f_sent, a_state, a_error, a_tries, a_iss, a_una, a_nxt, a_max, a_last, a_closing, a_kept, a_rcv, a_first, a_held, a_fin, a_unread, a_came, a_ended, a_wnd, a_peak, a_half, a_same, a_setBy, a_setAt, a_isSet, a_rto, a_smooth, a_spread, a_timed, a_since, a_retry, a_waits, a_rest, a_segSeq, a_segAck, a_segFlags, a_segWindow, a_segLength, a_segBytes, a_row, a_many, a_taken) (g_now, g_sent, b_seq, b_flags, b_acked, b_window, b_many, b_data, b_rows, b_state, b_error, b_iss, b_una, b_nxt, b_max, b_last, b_closed, b_written, b_irs, b_unread, b_bytes, b_held, b_rcv, b_finAt, b_marked, b_wnd, b_peak, b_half, b_rto, b_same, b_tries, b_smooth, b_spread, b_byNumber, b_byAck, b_sampled, b_told, b_retry, b_ackAt, b_waitAt, b_timedAt, b_timed)) :
    LK ap0 aq0 (fun q => wX_due_18 q (zI e) f_now f_sent a_state a_error a_tries a_iss a_una a_nxt a_max a_last a_closing a_kept a_rcv a_first a_held a_fin a_unread a_came a_ended a_wnd a_peak a_half a_same a_setBy a_setAt a_isSet a_rto a_smooth a_spread a_timed a_since a_retry a_waits a_rest a_segSeq a_segAck a_segFlags a_segWindow a_segLength a_segBytes a_row a_many a_taken) (fun q => wY_pass_18 q (zI e) g_now g_sent b_seq b_flags b_acked b_window b_many b_data b_rows b_state b_error b_iss b_una b_nxt b_max b_last b_closed b_written b_irs b_unread b_bytes b_held b_rcv b_finAt b_marked b_wnd b_peak b_half b_rto b_same b_tries b_smooth b_spread b_byNumber b_byAck b_sampled b_told b_retry b_ackAt b_waitAt b_timedAt b_timed) (fun u v => OKs e L now (now + 1) (now + 1) (now + 1) u0 v0 u v) := by
  have R0 := R
  obtain ⟨R, F⟩ := R
  obtain ⟨rfl, rfl, xst, xer, xtr, xiss, xuna, xnxt, xmx, xla, xcl, xrcv, xfst, xfi, xun, xen, xwnd, xpk, xhf, xrto, xsm, xsb, xsa, xis, xsmo, xspr, xtm, xsi, xrt, xwt, xrs, yst, yer, ytr, yiss, yuna, ynxt, ymx, yla, ycl, yirs, yrcv, yfi, yun, ywnd, ypk, yhf, yrto, ysa, ysmo, ytm, ysi, yrt, ywt, yrs, I1, I3, I4, I5, K, C, H, W⟩ := RE_el R
  have b5 := E5_b I5
  have b57 := I5.2.2.2.2.2.2.1
  have b55 := I5.2.2.2.2.1
  have b56 := I5.2.2.2.2.2.1
  have b59 := I5.2.2.2.2.2.2.2.2.1
  have hc : zI wt = zI now ↔ wt = now := zI_eq (by omega)
  have hcl : 0 ≤ cl ∧ cl ≤ 1 := I1.2.2.2.1
  unfold wX_due_18 wY_pass_18
  refine LX_a (e_in he) (LY_a (e_in he) ?_)
  rw [e_cl he, xwt, ywt]
  by_cases h : wt = now
  · refine LX_t (hc.mpr h) (LY_t (hc.mpr h) ?_)
    have h4 : 4 ≤ st := by omega
    have b2 := E2_b I2 (by omega)
    refine LK_b (lk_ack he (by omega) b2.1 (by omega) (by omega) R0) ?_
    intro f_now1 f_sent1 a_state1 a_error1 a_tries1 a_iss1 a_una1 a_nxt1 a_max1 a_last1 a_closing1 a_kept1 a_rcv1 a_first1 a_held1 a_fin1 a_unread1 a_came1 a_ended1 a_wnd1 a_peak1 a_half1 a_same1 a_setBy1 a_setAt1 a_isSet1 a_rto1 a_smooth1 a_spread1 a_timed1 a_since1 a_retry1 a_waits1 a_rest1 a_segSeq1 a_segAck1 a_segFlags1 a_segWindow1 a_segLength1 a_segBytes1 a_row1 a_many1 a_taken1 g_now1 g_sent1 b_seq1 b_flags1 b_acked1 b_window1 b_many1 b_data1 b_rows1 b_state1 b_error1 b_iss1 b_una1 b_nxt1 b_max1 b_last1 b_closed1 b_written1 b_irs1 b_unread1 b_bytes1 b_held1 b_rcv1 b_finAt1 b_marked1 b_wnd1 b_peak1 b_half1 b_rto1 b_same1 b_tries1 b_smooth1 b_spread1 b_byNumber1 b_byAck1 b_sampled1 b_told1 b_retry1 b_ackAt1 b_waitAt1 b_timedAt1 b_timed1 R1
    obtain ⟨R1, F1⟩ := R1
    obtain ⟨rfl, rfl, xst1, xer1, xtr1, xiss1, xuna1, xnxt1, xmx1, xla1, xcl1, xrcv1, xfst1, xfi1, xun1, xen1, xwnd1, xpk1, xhf1, xrto1, xsm1, xsb1, xsa1, xis1, xsmo1, xspr1, xtm1, xsi1, xrt1, xwt1, xrs1, yst1, yer1, ytr1, yiss1, yuna1, ynxt1, ymx1, yla1, ycl1, yirs1, yrcv1, yfi1, yun1, ywnd1, ypk1, yhf1, yrto1, ysa1, ysmo1, ytm1, ysi1, yrt1, ywt1, yrs1, I11, I31, I41, I51, K1, C1, H1, W1⟩ := RE_el R1
    exact lk_due36 he I2 ⟨RE_in ⟨rfl, rfl, xst1, xer1, xtr1, xiss1, xuna1, xnxt1, xmx1, xla1, xcl1, xrcv1, xfst1, xfi1, xun1, xen1, xwnd1, xpk1, xhf1, xrto1, xsm1, xsb1, xsa1, xis1, xsmo1, xspr1, xtm1, xsi1, xrt1, xwt1, xrs1, yst1, yer1, ytr1, yiss1, yuna1, ynxt1, ymx1, yla1, ycl1, yirs1, yrcv1, yfi1, yun1, ywnd1, ypk1, yhf1, yrto1, ysa1, ysmo1, ytm1, ysi1, yrt1, ywt1, yrs1, I11, I31, I41, E5_nr I51 (by omega) (by omega) (by omega), K1, C1, H1, W1⟩, F1⟩
  · exact LX_f (fun z => h (hc.mp z)) (LY_f (fun z => h (hc.mp z)) (lk_due36 he I2 ⟨RE_in ⟨rfl, rfl, xst, xer, xtr, xiss, xuna, xnxt, xmx, xla, xcl, xrcv, xfst, xfi, xun, xen, xwnd, xpk, xhf, xrto, xsm, xsb, xsa, xis, xsmo, xspr, xtm, xsi, xrt, xwt, xrs, yst, yer, ytr, yiss, yuna, ynxt, ymx, yla, ycl, yirs, yrcv, yfi, yun, ywnd, ypk, yhf, yrto, ysa, ysmo, ytm, ysi, yrt, ywt, yrs, I1, I3, I4, E5_nr I5 (by omega) (by omega) (by omega), K, C, H, W⟩, F⟩))
theorem lk_due (he : e < 2) (I2 : E2 L st iss una nxt mx la cl tm) (R : RZ e L now st er tr iss una nxt mx la cl irs rcv fi un fst wnd pk hf rto sa smo tm si rt wt rs now now now u0 v0 (f_now, f_sent, a_state, a_error, a_tries, a_iss, a_una, a_nxt, a_max, a_last, a_closing, a_kept, a_rcv, a_first, a_held, a_fin, a_unread, a_came, a_ended, a_wnd, a_peak, a_half, a_same, a_setBy, a_setAt, a_isSet, a_rto, a_smooth, a_spread, a_timed, a_since, a_retry, a_waits, a_rest, a_segSeq, a_segAck, a_segFlags, a_segWindow, a_segLength, a_segBytes, a_row, a_many, a_taken) (g_now, g_sent, b_seq, b_flags, b_acked, b_window, b_many, b_data, b_rows, b_state, b_error, b_iss, b_una, b_nxt, b_max, b_last, b_closed, b_written, b_irs, b_unread, b_bytes, b_held, b_rcv, b_finAt, b_marked, b_wnd, b_peak, b_half, b_rto, b_same, b_tries, b_smooth, b_spread, b_byNumber, b_byAck, b_sampled, b_told, b_retry, b_ackAt, b_waitAt, b_timedAt, b_timed)) :
    LK ap0 aq0 (fun q => wpX_due q (f_now, f_sent, a_state, a_error, a_tries, a_iss, a_una, a_nxt, a_max, a_last, a_closing, a_kept, a_rcv, a_first, a_held, a_fin, a_unread, a_came, a_ended, a_wnd, a_peak, a_half, a_same, a_setBy, a_setAt, a_isSet, a_rto, a_smooth, a_spread, a_timed, a_since, a_retry, a_waits, a_rest, a_segSeq, a_segAck, a_segFlags, a_segWindow, a_segLength, a_segBytes, a_row, a_many, a_taken) (zI e)) (fun q => wpY_pass q (g_now, g_sent, b_seq, b_flags, b_acked, b_window, b_many, b_data, b_rows, b_state, b_error, b_iss, b_una, b_nxt, b_max, b_last, b_closed, b_written, b_irs, b_unread, b_bytes, b_held, b_rcv, b_finAt, b_marked, b_wnd, b_peak, b_half, b_rto, b_same, b_tries, b_smooth, b_spread, b_byNumber, b_byAck, b_sampled, b_told, b_retry, b_ackAt, b_waitAt, b_timedAt, b_timed) (zI e)) (fun u v => OKs e L now (now + 1) (now + 1) (now + 1) u0 v0 u v) := by
  have R0 := R
  obtain ⟨R, F⟩ := R
  obtain ⟨rfl, rfl, xst, xer, xtr, xiss, xuna, xnxt, xmx, xla, xcl, xrcv, xfst, xfi, xun, xen, xwnd, xpk, xhf, xrto, xsm, xsb, xsa, xis, xsmo, xspr, xtm, xsi, xrt, xwt, xrs, yst, yer, ytr, yiss, yuna, ynxt, ymx, yla, ycl, yirs, yrcv, yfi, yun, ywnd, ypk, yhf, yrto, ysa, ysmo, ytm, ysi, yrt, ywt, yrs, I1, I3, I4, I5, K, C, H, W⟩ := RE_el R
  have b5 := E5_b I5
  have b57 := I5.2.2.2.2.2.2.1
  have b55 := I5.2.2.2.2.1
  have b56 := I5.2.2.2.2.2.1
  have b58 := I5.2.2.2.2.2.2.2.1
  have hc : zI rt = zI now ↔ rt = now := zI_eq (by omega)
  unfold wpX_due wpY_pass
  refine LX_a (e_in he) (LY_a (e_in he) ?_)
  rw [e_cl he, xrt, yrt]
  by_cases h : rt = now
  · refine LX_t (hc.mpr h) (LY_t (hc.mpr h) ?_)
    refine LK_b (lk_again he (by omega) I2 R0) ?_
    intro f_now1 f_sent1 a_state1 a_error1 a_tries1 a_iss1 a_una1 a_nxt1 a_max1 a_last1 a_closing1 a_kept1 a_rcv1 a_first1 a_held1 a_fin1 a_unread1 a_came1 a_ended1 a_wnd1 a_peak1 a_half1 a_same1 a_setBy1 a_setAt1 a_isSet1 a_rto1 a_smooth1 a_spread1 a_timed1 a_since1 a_retry1 a_waits1 a_rest1 a_segSeq1 a_segAck1 a_segFlags1 a_segWindow1 a_segLength1 a_segBytes1 a_row1 a_many1 a_taken1 g_now1 g_sent1 b_seq1 b_flags1 b_acked1 b_window1 b_many1 b_data1 b_rows1 b_state1 b_error1 b_iss1 b_una1 b_nxt1 b_max1 b_last1 b_closed1 b_written1 b_irs1 b_unread1 b_bytes1 b_held1 b_rcv1 b_finAt1 b_marked1 b_wnd1 b_peak1 b_half1 b_rto1 b_same1 b_tries1 b_smooth1 b_spread1 b_byNumber1 b_byAck1 b_sampled1 b_told1 b_retry1 b_ackAt1 b_waitAt1 b_timedAt1 b_timed1 R1
    refine OK_el R1 ?_
    intro st1 er1 tr1 iss1 una1 nxt1 mx1 la1 cl1 irs1 rcv1 fi1 un1 fst1 wnd1 pk1 hf1 rto1 sa1 smo1 tm1 si1 rt1 wt1 rs1 R1 J1
    exact lk_due18 he J1 R1
  · exact LX_f (fun z => h (hc.mp z)) (LY_f (fun z => h (hc.mp z)) (lk_due18 he I2 ⟨RE_in ⟨rfl, rfl, xst, xer, xtr, xiss, xuna, xnxt, xmx, xla, xcl, xrcv, xfst, xfi, xun, xen, xwnd, xpk, xhf, xrto, xsm, xsb, xsa, xis, xsmo, xspr, xtm, xsi, xrt, xwt, xrs, yst, yer, ytr, yiss, yuna, ynxt, ymx, yla, ycl, yirs, yrcv, yfi, yun, ywnd, ypk, yhf, yrto, ysa, ysmo, ytm, ysi, yrt, ywt, yrs, I1, I3, I4, E5_nr I5 (by omega) (by omega) (by omega), K, C, H, W⟩, F⟩))
/-- nothing is due at an end: pass does nothing -/
theorem y_pass_n {post : SY → Prop} (he : e < 2) (yrt : b_retry e = zI rt) (ywt : b_ackAt e = zI wt) (yrs : b_waitAt e = zI rs) (h1 : ¬ zI rt = g_now) (h2 : ¬ zI wt = g_now) (h3 : ¬ zI rs = g_now) (K : post (g_now, g_sent, b_seq, b_flags, b_acked, b_window, b_many, b_data, b_rows, b_state, b_error, b_iss, b_una, b_nxt, b_max, b_last, b_closed, b_written, b_irs, b_unread, b_bytes, b_held, b_rcv, b_finAt, b_marked, b_wnd, b_peak, b_half, b_rto, b_same, b_tries, b_smooth, b_spread, b_byNumber, b_byAck, b_sampled, b_told, b_retry, b_ackAt, b_waitAt, b_timedAt, b_timed)) : wpY_pass post (g_now, g_sent, b_seq, b_flags, b_acked, b_window, b_many, b_data, b_rows, b_state, b_error, b_iss, b_una, b_nxt, b_max, b_last, b_closed, b_written, b_irs, b_unread, b_bytes, b_held, b_rcv, b_finAt, b_marked, b_wnd, b_peak, b_half, b_rto, b_same, b_tries, b_smooth, b_spread, b_byNumber, b_byAck, b_sampled, b_told, b_retry, b_ackAt, b_waitAt, b_timedAt, b_timed) (zI e) := by
  unfold wpY_pass wY_pass_18 wY_pass_36
  refine ⟨e_in he, ?_⟩
  rw [e_cl he, yrt]
  refine br_f h1 ⟨e_in he, ?_⟩
  rw [ywt]
  refine br_f h2 ⟨e_in he, ?_⟩
  rw [yrs]
  exact br_f h3 K
end
end
section
/-! the next time at which something is due -/
def mn (t x : Int) : Int := if x < 0 then t else if t < 0 then x else if t ≤ x then t else x
section
variable {e : Nat} {L now : Int} {st er tr iss una nxt mx la cl irs rcv fi un fst wnd pk hf rto sa smo tm si rt wt rs nr nw ns : Int} {f_now f_sent : Int32} {a_state a_error a_tries a_iss a_una a_nxt a_max a_last a_closing a_kept a_rcv a_first a_held a_fin a_unread a_came a_ended a_wnd a_peak a_half a_same a_setBy a_setAt a_isSet a_rto a_smooth a_spread a_timed a_since a_retry a_waits a_rest a_segSeq a_segAck a_segFlags a_segWindow a_segLength a_segBytes a_row a_many a_taken : Nat → Int32} {g_now g_sent : Int32} {b_seq b_flags b_acked b_window b_many b_data b_rows b_state b_error b_iss : Nat → Int32} {b_una b_nxt b_max b_last : Nat → Int64} {b_closed b_written b_irs b_unread b_bytes b_held : Nat → Int32} {b_rcv b_finAt : Nat → Int64} {b_marked b_wnd b_peak b_half b_rto b_same b_tries b_smooth b_spread b_byNumber b_byAck b_sampled b_told b_retry b_ackAt b_waitAt b_timedAt : Nat → Int32} {b_timed : Nat → Int64} {u0 : SX} {v0 : SY}
theorem mn_r {t x : Int} (ht : -1 ≤ t ∧ t < 1073741824) (hx : -1 ≤ x ∧ x < 1073741824) : -1 ≤ mn t x ∧ mn t x < 1073741824 := by unfold mn; split <;> (try split) <;> (try split) <;> omega
theorem x_nd69 {post : Int32 → Prop} {J : Int32 → Int32 → Prop} {t : Int} (he : e < 2) (xrs : a_rest e = zI rs) (ht : -1 ≤ t ∧ t < 1073741824) (hx : -1 ≤ rs ∧ rs < 1073741824) (K : J (zI (mn t rs)) (zI (e + 1))) : wX_nextDue_69 post J (zI t) (zI e) f_now f_sent a_state a_error a_tries a_iss a_una a_nxt a_max a_last a_closing a_kept a_rcv a_first a_held a_fin a_unread a_came a_ended a_wnd a_peak a_half a_same a_setBy a_setAt a_isSet a_rto a_smooth a_spread a_timed a_since a_retry a_waits a_rest a_segSeq a_segAck a_segFlags a_segWindow a_segLength a_segBytes a_row a_many a_taken := by
  unfold wX_nextDue_69
  simp (disch := omega) only [e_in he, e_cl he, xrs, zl_0, zl_1, zI_lt, zI_le, zI_add, true_and, and_true, true_implies, false_implies, forall_eq, not_true_eq_false, not_false_eq_true, implies_true, forall_const]
  unfold mn at K
  by_cases h1 : rs < 0
  · rw [if_pos h1] at K
    exact br_t h1 K
  · rw [if_neg h1] at K
    refine br_f h1 ?_
    by_cases h2 : t < 0
    · rw [if_pos h2] at K
      exact br_t h2 K
    · rw [if_neg h2] at K
      refine br_f h2 ?_
      by_cases h3 : t ≤ rs
      · rw [if_pos h3] at K
        exact br_t h3 K
      · rw [if_neg h3] at K
        exact br_f h3 K
theorem x_nd39 {post : Int32 → Prop} {J : Int32 → Int32 → Prop} {t : Int} (he : e < 2) (xwt : a_waits e = zI wt) (ht : -1 ≤ t ∧ t < 1073741824) (hx : -1 ≤ wt ∧ wt < 1073741824) (K : wX_nextDue_69 post J (zI (mn t wt)) (zI e) f_now f_sent a_state a_error a_tries a_iss a_una a_nxt a_max a_last a_closing a_kept a_rcv a_first a_held a_fin a_unread a_came a_ended a_wnd a_peak a_half a_same a_setBy a_setAt a_isSet a_rto a_smooth a_spread a_timed a_since a_retry a_waits a_rest a_segSeq a_segAck a_segFlags a_segWindow a_segLength a_segBytes a_row a_many a_taken) : wX_nextDue_39 post J (zI t) (zI e) f_now f_sent a_state a_error a_tries a_iss a_una a_nxt a_max a_last a_closing a_kept a_rcv a_first a_held a_fin a_unread a_came a_ended a_wnd a_peak a_half a_same a_setBy a_setAt a_isSet a_rto a_smooth a_spread a_timed a_since a_retry a_waits a_rest a_segSeq a_segAck a_segFlags a_segWindow a_segLength a_segBytes a_row a_many a_taken := by
  unfold wX_nextDue_39 wX_nextDue_62
  simp (disch := omega) only [e_in he, e_cl he, xwt, zl_0, zI_lt, zI_le, true_and, and_true, true_implies, false_implies, forall_eq, not_true_eq_false, not_false_eq_true, implies_true, forall_const]
  unfold mn at K
  by_cases h1 : wt < 0
  · rw [if_pos h1] at K
    exact br_t h1 K
  · rw [if_neg h1] at K
    refine br_f h1 ?_
    by_cases h2 : t < 0
    · rw [if_pos h2] at K
      exact br_t h2 K
    · rw [if_neg h2] at K
      refine br_f h2 ?_
      by_cases h3 : t ≤ wt
      · rw [if_pos h3] at K
        exact br_t h3 K
      · rw [if_neg h3] at K
        exact br_f h3 K
theorem x_nd4 {post : Int32 → Prop} {n : Nat} {t : Int} (he : e < 2) (xrt : a_retry e = zI rt) (xwt : a_waits e = zI wt) (xrs : a_rest e = zI rs) (ht : -1 ≤ t ∧ t < 1073741824) (hx : -1 ≤ rt ∧ rt < 1073741824) (hx2 : -1 ≤ wt ∧ wt < 1073741824) (hx3 : -1 ≤ rs ∧ rs < 1073741824)
    (K : wX_nextDue_4 post f_now f_sent a_state a_error a_tries a_iss a_una a_nxt a_max a_last a_closing a_kept a_rcv a_first a_held a_fin a_unread a_came a_ended a_wnd a_peak a_half a_same a_setBy a_setAt a_isSet a_rto a_smooth a_spread a_timed a_since a_retry a_waits a_rest a_segSeq a_segAck a_segFlags a_segWindow a_segLength a_segBytes a_row a_many a_taken n (zI (mn (mn (mn t rt) wt) rs)) (zI (e + 1))) : wX_nextDue_4 post f_now f_sent a_state a_error a_tries a_iss a_una a_nxt a_max a_last a_closing a_kept a_rcv a_first a_held a_fin a_unread a_came a_ended a_wnd a_peak a_half a_same a_setBy a_setAt a_isSet a_rto a_smooth a_spread a_timed a_since a_retry a_waits a_rest a_segSeq a_segAck a_segFlags a_segWindow a_segLength a_segBytes a_row a_many a_taken (n + 1) (zI t) (zI e) := by
  have K2 : wX_nextDue_39 post (wX_nextDue_4 post f_now f_sent a_state a_error a_tries a_iss a_una a_nxt a_max a_last a_closing a_kept a_rcv a_first a_held a_fin a_unread a_came a_ended a_wnd a_peak a_half a_same a_setBy a_setAt a_isSet a_rto a_smooth a_spread a_timed a_since a_retry a_waits a_rest a_segSeq a_segAck a_segFlags a_segWindow a_segLength a_segBytes a_row a_many a_taken n) (zI (mn t rt)) (zI e) f_now f_sent a_state a_error a_tries a_iss a_una a_nxt a_max a_last a_closing a_kept a_rcv a_first a_held a_fin a_unread a_came a_ended a_wnd a_peak a_half a_same a_setBy a_setAt a_isSet a_rto a_smooth a_spread a_timed a_since a_retry a_waits a_rest a_segSeq a_segAck a_segFlags a_segWindow a_segLength a_segBytes a_row a_many a_taken := x_nd39 he xwt (mn_r ht hx) hx2 (x_nd69 he xrs (mn_r (mn_r ht hx) hx2) hx3 K)
  rw [wX_nextDue_4]
  unfold wX_nextDue_32
  simp (disch := omega) only [e_in he, e_cl he, xrt, zl_0, zl_2, zI_lt, zI_le, true_and, and_true, true_implies, false_implies, forall_eq, not_true_eq_false, not_false_eq_true, implies_true, forall_const]
  refine br_f (by omega) ?_
  revert K2
  generalize wX_nextDue_4 post f_now f_sent a_state a_error a_tries a_iss a_una a_nxt a_max a_last a_closing a_kept a_rcv a_first a_held a_fin a_unread a_came a_ended a_wnd a_peak a_half a_same a_setBy a_setAt a_isSet a_rto a_smooth a_spread a_timed a_since a_retry a_waits a_rest a_segSeq a_segAck a_segFlags a_segWindow a_segLength a_segBytes a_row a_many a_taken n = J
  intro K2
  unfold mn at K2
  by_cases h1 : rt < 0
  · rw [if_pos h1] at K2
    exact br_t h1 K2
  · rw [if_neg h1] at K2
    refine br_f h1 ?_
    by_cases h2 : t < 0
    · rw [if_pos h2] at K2
      exact br_t h2 K2
    · rw [if_neg h2] at K2
      refine br_f h2 ?_
      by_cases h3 : t ≤ rt
      · rw [if_pos h3] at K2
        exact br_t h3 K2
      · rw [if_neg h3] at K2
        exact br_f h3 K2
theorem mn_s {t x : Int} (ht : -1 ≤ t) (hx : -1 ≤ x) : (mn t x = t ∨ mn t x = x) ∧ (t = -1 ∨ 0 ≤ mn t x ∧ mn t x ≤ t) ∧ (x = -1 ∨ 0 ≤ mn t x ∧ mn t x ≤ x) := by
  unfold mn; split <;> (try split) <;> (try split) <;> omega
/-- t is the first of the times that are set -/
def TS (t : Int) (ar aw as_ : Nat → Int32) : Prop := ∀ e, e < 2 → ∀ z : Int, -1 ≤ z → z < 1073741824 → (ar e = zI z ∨ aw e = zI z ∨ as_ e = zI z) → z = -1 ∨ 0 ≤ t ∧ t ≤ z
theorem x_nextDue {r0 w0 s0 r1 w1 s1 : Int} (x1 : a_retry 0 = zI r0) (x2 : a_waits 0 = zI w0) (x3 : a_rest 0 = zI s0) (x4 : a_retry 1 = zI r1) (x5 : a_waits 1 = zI w1) (x6 : a_rest 1 = zI s1)
    (h1 : -1 ≤ r0 ∧ r0 < 1073741824) (h2 : -1 ≤ w0 ∧ w0 < 1073741824) (h3 : -1 ≤ s0 ∧ s0 < 1073741824) (h4 : -1 ≤ r1 ∧ r1 < 1073741824) (h5 : -1 ≤ w1 ∧ w1 < 1073741824) (h6 : -1 ≤ s1 ∧ s1 < 1073741824) :
    ∃ t : Int, TS t a_retry a_waits a_rest ∧ (t = -1 ∨ t = r0 ∨ t = w0 ∨ t = s0 ∨ t = r1 ∨ t = w1 ∨ t = s1) ∧ -1 ≤ t ∧ t < 1073741824 ∧ ∀ {f_now f_sent : Int32} {a_state a_error a_tries a_iss a_una a_nxt a_max a_last a_closing a_kept a_rcv a_first a_held a_fin a_unread a_came a_ended a_wnd a_peak a_half a_same a_setBy a_setAt a_isSet a_rto a_smooth a_spread a_timed a_since a_segSeq a_segAck a_segFlags a_segWindow a_segLength a_segBytes a_row a_many a_taken : Nat → Int32} (post : Int32 → Prop), post (zI t) → wpX_nextDue post (f_now, f_sent, a_state, a_error, a_tries, a_iss, a_una, a_nxt, a_max, a_last, a_closing, a_kept, a_rcv, a_first, a_held, a_fin, a_unread, a_came, a_ended, a_wnd, a_peak, a_half, a_same, a_setBy, a_setAt, a_isSet, a_rto, a_smooth, a_spread, a_timed, a_since, a_retry, a_waits, a_rest, a_segSeq, a_segAck, a_segFlags, a_segWindow, a_segLength, a_segBytes, a_row, a_many, a_taken) := by
  have m1 := mn_s (t := -1) (x := r0) (by omega) h1.1
  have n1 := mn_r (t := -1) (x := r0) (by omega) h1
  have m2 := mn_s (t := mn (-1) r0) (x := w0) n1.1 h2.1
  have n2 := mn_r n1 h2
  have m3 := mn_s n2.1 h3.1
  have n3 := mn_r n2 h3
  have m4 := mn_s n3.1 h4.1
  have n4 := mn_r n3 h4
  have m5 := mn_s n4.1 h5.1
  have n5 := mn_r n4 h5
  have m6 := mn_s n5.1 h6.1
  have n6 := mn_r n5 h6
  refine ⟨mn (mn (mn (mn (mn (mn (-1) r0) w0) s0) r1) w1) s1, ?_, ?_, n6.1, n6.2, ?_⟩
  · intro e he z hz hz' h
    have he' : e = 0 ∨ e = 1 := by omega
    rcases he' with rfl | rfl
    · rw [x1, x2, x3] at h
      rw [zI_eq (by omega), zI_eq (by omega), zI_eq (by omega)] at h
      clear x1 x2 x3 x4 x5 x6
      generalize mn (-1) r0 = t1 at *
      generalize mn t1 w0 = t2 at *
      generalize mn t2 s0 = t3 at *
      generalize mn t3 r1 = t4 at *
      generalize mn t4 w1 = t5 at *
      generalize mn t5 s1 = t6 at *
      omega
    · rw [x4, x5, x6] at h
      rw [zI_eq (by omega), zI_eq (by omega), zI_eq (by omega)] at h
      clear x1 x2 x3 x4 x5 x6
      generalize mn (-1) r0 = t1 at *
      generalize mn t1 w0 = t2 at *
      generalize mn t2 s0 = t3 at *
      generalize mn t3 r1 = t4 at *
      generalize mn t4 w1 = t5 at *
      generalize mn t5 s1 = t6 at *
      omega
  · clear x1 x2 x3 x4 x5 x6
    generalize mn (-1) r0 = t1 at *
    generalize mn t1 w0 = t2 at *
    generalize mn t2 s0 = t3 at *
    generalize mn t3 r1 = t4 at *
    generalize mn t4 w1 = t5 at *
    generalize mn t5 s1 = t6 at *
    omega
  · intro f_now f_sent a_state a_error a_tries a_iss a_una a_nxt a_max a_last a_closing a_kept a_rcv a_first a_held a_fin a_unread a_came a_ended a_wnd a_peak a_half a_same a_setBy a_setAt a_isSet a_rto a_smooth a_spread a_timed a_since a_segSeq a_segAck a_segFlags a_segWindow a_segLength a_segBytes a_row a_many a_taken post K
    unfold wpX_nextDue
    refine ⟨3, ?_⟩
    refine x_nd4 (e := 0) (t := -1) (by omega) x1 x2 x3 (by omega) h1 h2 h3 ?_
    refine x_nd4 (e := 1) (by omega) x4 x5 x6 n3 h4 h5 h6 ?_
    rw [wX_nextDue_4]
    exact br_t (by decide) K
end
end
section
/-! tick -/
section
variable {e : Nat} {L now : Int} {st er tr iss una nxt mx la cl irs rcv fi un fst wnd pk hf rto sa smo tm si rt wt rs nr nw ns : Int} {f_now f_sent : Int32} {a_state a_error a_tries a_iss a_una a_nxt a_max a_last a_closing a_kept a_rcv a_first a_held a_fin a_unread a_came a_ended a_wnd a_peak a_half a_same a_setBy a_setAt a_isSet a_rto a_smooth a_spread a_timed a_since a_retry a_waits a_rest a_segSeq a_segAck a_segFlags a_segWindow a_segLength a_segBytes a_row a_many a_taken : Nat → Int32} {g_now g_sent : Int32} {b_seq b_flags b_acked b_window b_many b_data b_rows b_state b_error b_iss : Nat → Int32} {b_una b_nxt b_max b_last : Nat → Int64} {b_closed b_written b_irs b_unread b_bytes b_held : Nat → Int32} {b_rcv b_finAt : Nat → Int64} {b_marked b_wnd b_peak b_half b_rto b_same b_tries b_smooth b_spread b_byNumber b_byAck b_sampled b_told b_retry b_ackAt b_waitAt b_timedAt : Nat → Int32} {b_timed : Nat → Int64} {u0 : SX} {v0 : SY}
/-- an end is related, no frame -/
def ON (e : Nat) (L now nr nw ns : Int) (u : SX) (v : SY) : Prop :=
  ∃ st er tr iss una nxt mx la cl irs rcv fi un fst wnd pk hf rto sa smo tm si rt wt rs : Int, RE e L now st er tr iss una nxt mx la cl irs rcv fi un fst wnd pk hf rto sa smo tm si rt wt rs nr nw ns u v ∧ E2 L st iss una nxt mx la cl tm
theorem ON_el {P : Prop} {u : SX} {v : SY} (h : ON e L now nr nw ns u v) (k : ∀ st er tr iss una nxt mx la cl irs rcv fi un fst wnd pk hf rto sa smo tm si rt wt rs : Int, RE e L now st er tr iss una nxt mx la cl irs rcv fi un fst wnd pk hf rto sa smo tm si rt wt rs nr nw ns u v → E2 L st iss una nxt mx la cl tm → P) : P :=
  Exists.elim h fun st h => Exists.elim h fun er h => Exists.elim h fun tr h => Exists.elim h fun iss h => Exists.elim h fun una h => Exists.elim h fun nxt h => Exists.elim h fun mx h => Exists.elim h fun la h => Exists.elim h fun cl h => Exists.elim h fun irs h => Exists.elim h fun rcv h => Exists.elim h fun fi h => Exists.elim h fun un h => Exists.elim h fun fst h => Exists.elim h fun wnd h => Exists.elim h fun pk h => Exists.elim h fun hf h => Exists.elim h fun rto h => Exists.elim h fun sa h => Exists.elim h fun smo h => Exists.elim h fun tm h => Exists.elim h fun si h => Exists.elim h fun rt h => Exists.elim h fun wt h => Exists.elim h fun rs h => k st er tr iss una nxt mx la cl irs rcv fi un fst wnd pk hf rto sa smo tm si rt wt rs h.1 h.2
theorem ON_i {u : SX} {v : SY} (R : RE e L now st er tr iss una nxt mx la cl irs rcv fi un fst wnd pk hf rto sa smo tm si rt wt rs nr nw ns u v) (I2 : E2 L st iss una nxt mx la cl tm) : ON e L now nr nw ns u v := ⟨st, er, tr, iss, una, nxt, mx, la, cl, irs, rcv, fi, un, fst, wnd, pk, hf, rto, sa, smo, tm, si, rt, wt, rs, R, I2⟩
theorem OK_on {u : SX} {v : SY} (h : OKs e L now nr nw ns u0 v0 u v) : ON e L now nr nw ns u v := OK_el h (fun st er tr iss una nxt mx la cl irs rcv fi un fst wnd pk hf rto sa smo tm si rt wt rs R I2 => ON_i R.1 I2)
theorem OK_fr {u : SX} {v : SY} (h : OKs e L now nr nw ns u0 v0 u v) : FR e u0 v0 u v := OK_el h (fun st er tr iss una nxt mx la cl irs rcv fi un fst wnd pk hf rto sa smo tm si rt wt rs R I2 => R.2)
theorem ON_fr {e' : Nat} {u : SX} {v : SY} (he : e' = 1 - e) (F : FR e u0 v0 u v) (h : ON e' L now nr nw ns u0 v0) : ON e' L now nr nw ns u v := by
  refine ON_el h ?_
  intro st er tr iss una nxt mx la cl irs rcv fi un fst wnd pk hf rto sa smo tm si rt wt rs R I2
  subst he
  have R' : RE (1 - e) L now st er tr iss una nxt mx la cl irs rcv fi un fst wnd pk hf rto sa smo tm si rt wt rs nr nw ns u v := by
    unfold RE at R ⊢
    rw [F.1, F.2.1]
    exact R
  exact ON_i R' I2
theorem FR_r {u : SX} {v : SY} : FR e u v u v := ⟨rfl, rfl, rfl⟩
theorem E5_adv (h : E5 now st sa smo si rt wt rs (now + 1) (now + 1) (now + 1)) (hb : now + 1 ≤ 33554432) : E5 (now + 1) st sa smo si rt wt rs (now + 1) (now + 1) (now + 1) := by
  obtain ⟨a1, a2, a3, a4, a5, a6, a7, a8, a9, a10⟩ := h
  exact ⟨by omega, a2, fun z => by have := a3 z; omega, by omega, by omega, by omega, by omega, a8, a9, by omega⟩
theorem ON_adv (h : ON e L now (now + 1) (now + 1) (now + 1) (zI now, f_sent, a_state, a_error, a_tries, a_iss, a_una, a_nxt, a_max, a_last, a_closing, a_kept, a_rcv, a_first, a_held, a_fin, a_unread, a_came, a_ended, a_wnd, a_peak, a_half, a_same, a_setBy, a_setAt, a_isSet, a_rto, a_smooth, a_spread, a_timed, a_since, a_retry, a_waits, a_rest, a_segSeq, a_segAck, a_segFlags, a_segWindow, a_segLength, a_segBytes, a_row, a_many, a_taken) (zI now, g_sent, b_seq, b_flags, b_acked, b_window, b_many, b_data, b_rows, b_state, b_error, b_iss, b_una, b_nxt, b_max, b_last, b_closed, b_written, b_irs, b_unread, b_bytes, b_held, b_rcv, b_finAt, b_marked, b_wnd, b_peak, b_half, b_rto, b_same, b_tries, b_smooth, b_spread, b_byNumber, b_byAck, b_sampled, b_told, b_retry, b_ackAt, b_waitAt, b_timedAt, b_timed)) (hb : now + 1 ≤ 33554432) : ON e L (now + 1) (now + 1) (now + 1) (now + 1) (zI (now + 1), f_sent, a_state, a_error, a_tries, a_iss, a_una, a_nxt, a_max, a_last, a_closing, a_kept, a_rcv, a_first, a_held, a_fin, a_unread, a_came, a_ended, a_wnd, a_peak, a_half, a_same, a_setBy, a_setAt, a_isSet, a_rto, a_smooth, a_spread, a_timed, a_since, a_retry, a_waits, a_rest, a_segSeq, a_segAck, a_segFlags, a_segWindow, a_segLength, a_segBytes, a_row, a_many, a_taken) (zI (now + 1), g_sent, b_seq, b_flags, b_acked, b_window, b_many, b_data, b_rows, b_state, b_error, b_iss, b_una, b_nxt, b_max, b_last, b_closed, b_written, b_irs, b_unread, b_bytes, b_held, b_rcv, b_finAt, b_marked, b_wnd, b_peak, b_half, b_rto, b_same, b_tries, b_smooth, b_spread, b_byNumber, b_byAck, b_sampled, b_told, b_retry, b_ackAt, b_waitAt, b_timedAt, b_timed) := by
  refine ON_el h ?_
  intro st er tr iss una nxt mx la cl irs rcv fi un fst wnd pk hf rto sa smo tm si rt wt rs R I2
  obtain ⟨xnow, ynow, xst, xer, xtr, xiss, xuna, xnxt, xmx, xla, xcl, xrcv, xfst, xfi, xun, xen, xwnd, xpk, xhf, xrto, xsm, xsb, xsa, xis, xsmo, xspr, xtm, xsi, xrt, xwt, xrs, yst, yer, ytr, yiss, yuna, ynxt, ymx, yla, ycl, yirs, yrcv, yfi, yun, ywnd, ypk, yhf, yrto, ysa, ysmo, ytm, ysi, yrt, ywt, yrs, I1, I3, I4, I5, K, C, H, W⟩ := RE_el R
  exact ON_i (RE_in ⟨rfl, rfl, xst, xer, xtr, xiss, xuna, xnxt, xmx, xla, xcl, xrcv, xfst, xfi, xun, xen, xwnd, xpk, xhf, xrto, xsm, xsb, xsa, xis, xsmo, xspr, xtm, xsi, xrt, xwt, xrs, yst, yer, ytr, yiss, yuna, ynxt, ymx, yla, ycl, yirs, yrcv, yfi, yun, ywnd, ypk, yhf, yrto, ysa, ysmo, ytm, ysi, yrt, ywt, yrs, I1, I3, I4, E5_adv I5 hb, K, C, H, W⟩) I2
theorem ON_now (h : ON e L now nr nw ns (f_now, f_sent, a_state, a_error, a_tries, a_iss, a_una, a_nxt, a_max, a_last, a_closing, a_kept, a_rcv, a_first, a_held, a_fin, a_unread, a_came, a_ended, a_wnd, a_peak, a_half, a_same, a_setBy, a_setAt, a_isSet, a_rto, a_smooth, a_spread, a_timed, a_since, a_retry, a_waits, a_rest, a_segSeq, a_segAck, a_segFlags, a_segWindow, a_segLength, a_segBytes, a_row, a_many, a_taken) (g_now, g_sent, b_seq, b_flags, b_acked, b_window, b_many, b_data, b_rows, b_state, b_error, b_iss, b_una, b_nxt, b_max, b_last, b_closed, b_written, b_irs, b_unread, b_bytes, b_held, b_rcv, b_finAt, b_marked, b_wnd, b_peak, b_half, b_rto, b_same, b_tries, b_smooth, b_spread, b_byNumber, b_byAck, b_sampled, b_told, b_retry, b_ackAt, b_waitAt, b_timedAt, b_timed)) : f_now = zI now ∧ g_now = zI now := by
  refine ON_el h ?_
  intro st er tr iss una nxt mx la cl irs rcv fi un fst wnd pk hf rto sa smo tm si rt wt rs R I2
  obtain ⟨xnow, ynow, xst, xer, xtr, xiss, xuna, xnxt, xmx, xla, xcl, xrcv, xfst, xfi, xun, xen, xwnd, xpk, xhf, xrto, xsm, xsb, xsa, xis, xsmo, xspr, xtm, xsi, xrt, xwt, xrs, yst, yer, ytr, yiss, yuna, ynxt, ymx, yla, ycl, yirs, yrcv, yfi, yun, ywnd, ypk, yhf, yrto, ysa, ysmo, ytm, ysi, yrt, ywt, yrs, I1, I3, I4, I5, K, C, H, W⟩ := RE_el R
  exact ⟨xnow, ynow⟩
theorem ON_tm (h : ON e L now nr nw ns (f_now, f_sent, a_state, a_error, a_tries, a_iss, a_una, a_nxt, a_max, a_last, a_closing, a_kept, a_rcv, a_first, a_held, a_fin, a_unread, a_came, a_ended, a_wnd, a_peak, a_half, a_same, a_setBy, a_setAt, a_isSet, a_rto, a_smooth, a_spread, a_timed, a_since, a_retry, a_waits, a_rest, a_segSeq, a_segAck, a_segFlags, a_segWindow, a_segLength, a_segBytes, a_row, a_many, a_taken) (g_now, g_sent, b_seq, b_flags, b_acked, b_window, b_many, b_data, b_rows, b_state, b_error, b_iss, b_una, b_nxt, b_max, b_last, b_closed, b_written, b_irs, b_unread, b_bytes, b_held, b_rcv, b_finAt, b_marked, b_wnd, b_peak, b_half, b_rto, b_same, b_tries, b_smooth, b_spread, b_byNumber, b_byAck, b_sampled, b_told, b_retry, b_ackAt, b_waitAt, b_timedAt, b_timed)) : ∃ rt wt rs : Int, a_retry e = zI rt ∧ a_waits e = zI wt ∧ a_rest e = zI rs ∧ b_retry e = zI rt ∧ b_ackAt e = zI wt ∧ b_waitAt e = zI rs ∧ (rt = -1 ∨ nr ≤ rt ∧ rt ≤ now + 64) ∧ (wt = -1 ∨ nw ≤ wt ∧ wt ≤ now + 2) ∧ (rs = -1 ∨ ns ≤ rs ∧ rs ≤ now + 20) ∧ 0 ≤ now ∧ now ≤ 33554432 ∧ 0 ≤ nr ∧ 0 ≤ nw ∧ 0 ≤ ns := by
  refine ON_el h ?_
  intro st er tr iss una nxt mx la cl irs rcv fi un fst wnd pk hf rto sa smo tm si rt wt rs R I2
  obtain ⟨xnow, ynow, xst, xer, xtr, xiss, xuna, xnxt, xmx, xla, xcl, xrcv, xfst, xfi, xun, xen, xwnd, xpk, xhf, xrto, xsm, xsb, xsa, xis, xsmo, xspr, xtm, xsi, xrt, xwt, xrs, yst, yer, ytr, yiss, yuna, ynxt, ymx, yla, ycl, yirs, yrcv, yfi, yun, ywnd, ypk, yhf, yrto, ysa, ysmo, ytm, ysi, yrt, ywt, yrs, I1, I3, I4, I5, K, C, H, W⟩ := RE_el R
  exact ⟨rt, wt, rs, xrt, xwt, xrs, yrt, ywt, yrs, I5.2.2.2.2.1, I5.2.2.2.2.2.1, I5.2.2.2.2.2.2.1, I5.1.1, I5.1.2, I5.2.2.2.2.2.2.2.2.2.1, I5.2.2.2.2.2.2.2.2.2.2.2.1, I5.2.2.2.2.2.2.2.2.2.2.2.2.2.1⟩
theorem nd_t {b t r : Int} (h : r = -1 ∨ 0 ≤ t ∧ t ≤ r) (ht : t = -1 ∨ b + 1 ≤ t) (hn : ¬ t = b + 1) (hb : 0 ≤ b) : r ≠ b + 1 := by omega
theorem nd_l {n r B : Int} (h : r = -1 ∨ n ≤ r ∧ r ≤ B) (h1 : r ≠ n) : r = -1 ∨ n + 1 ≤ r := by omega
/-- nothing was due -/
theorem ON_nd {r w s : Int} (h : ON e L now now now now (f_now, f_sent, a_state, a_error, a_tries, a_iss, a_una, a_nxt, a_max, a_last, a_closing, a_kept, a_rcv, a_first, a_held, a_fin, a_unread, a_came, a_ended, a_wnd, a_peak, a_half, a_same, a_setBy, a_setAt, a_isSet, a_rto, a_smooth, a_spread, a_timed, a_since, a_retry, a_waits, a_rest, a_segSeq, a_segAck, a_segFlags, a_segWindow, a_segLength, a_segBytes, a_row, a_many, a_taken) (g_now, g_sent, b_seq, b_flags, b_acked, b_window, b_many, b_data, b_rows, b_state, b_error, b_iss, b_una, b_nxt, b_max, b_last, b_closed, b_written, b_irs, b_unread, b_bytes, b_held, b_rcv, b_finAt, b_marked, b_wnd, b_peak, b_half, b_rto, b_same, b_tries, b_smooth, b_spread, b_byNumber, b_byAck, b_sampled, b_told, b_retry, b_ackAt, b_waitAt, b_timedAt, b_timed)) (x1 : a_retry e = zI r) (x2 : a_waits e = zI w) (x3 : a_rest e = zI s) (hr : -1 ≤ r ∧ r < 1073741824) (hw : -1 ≤ w ∧ w < 1073741824) (hs : -1 ≤ s ∧ s < 1073741824) (h1 : r ≠ now) (h2 : w ≠ now) (h3 : s ≠ now) : ON e L now (now + 1) (now + 1) (now + 1) (f_now, f_sent, a_state, a_error, a_tries, a_iss, a_una, a_nxt, a_max, a_last, a_closing, a_kept, a_rcv, a_first, a_held, a_fin, a_unread, a_came, a_ended, a_wnd, a_peak, a_half, a_same, a_setBy, a_setAt, a_isSet, a_rto, a_smooth, a_spread, a_timed, a_since, a_retry, a_waits, a_rest, a_segSeq, a_segAck, a_segFlags, a_segWindow, a_segLength, a_segBytes, a_row, a_many, a_taken) (g_now, g_sent, b_seq, b_flags, b_acked, b_window, b_many, b_data, b_rows, b_state, b_error, b_iss, b_una, b_nxt, b_max, b_last, b_closed, b_written, b_irs, b_unread, b_bytes, b_held, b_rcv, b_finAt, b_marked, b_wnd, b_peak, b_half, b_rto, b_same, b_tries, b_smooth, b_spread, b_byNumber, b_byAck, b_sampled, b_told, b_retry, b_ackAt, b_waitAt, b_timedAt, b_timed) := by
  refine ON_el h ?_
  intro st er tr iss una nxt mx la cl irs rcv fi un fst wnd pk hf rto sa smo tm si rt wt rs R I2
  obtain ⟨xnow, ynow, xst, xer, xtr, xiss, xuna, xnxt, xmx, xla, xcl, xrcv, xfst, xfi, xun, xen, xwnd, xpk, xhf, xrto, xsm, xsb, xsa, xis, xsmo, xspr, xtm, xsi, xrt, xwt, xrs, yst, yer, ytr, yiss, yuna, ynxt, ymx, yla, ycl, yirs, yrcv, yfi, yun, ywnd, ypk, yhf, yrto, ysa, ysmo, ytm, ysi, yrt, ywt, yrs, I1, I3, I4, I5, K, C, H, W⟩ := RE_el R
  have b5 := E5_b I5
  rw [xrt, zI_eq (by omega)] at x1
  rw [xwt, zI_eq (by omega)] at x2
  rw [xrs, zI_eq (by omega)] at x3
  have p0 : 0 ≤ now + 1 := by clear x1 x2 x3 h1 h2 h3; omega
  have p1 : now + 1 ≤ now + 1 := Int.le_refl _
  exact ON_i (RE_in ⟨xnow, ynow, xst, xer, xtr, xiss, xuna, xnxt, xmx, xla, xcl, xrcv, xfst, xfi, xun, xen, xwnd, xpk, xhf, xrto, xsm, xsb, xsa, xis, xsmo, xspr, xtm, xsi, xrt, xwt, xrs, yst, yer, ytr, yiss, yuna, ynxt, ymx, yla, ycl, yirs, yrcv, yfi, yun, ywnd, ypk, yhf, yrto, ysa, ysmo, ytm, ysi, yrt, ywt, yrs, I1, I3, I4, E5_nr I5 ⟨p0, p1, nd_l I5.2.2.2.2.1 (fun z => h1 (x1.symm.trans z))⟩ ⟨p0, p1, nd_l I5.2.2.2.2.2.1 (fun z => h2 (x2.symm.trans z))⟩ ⟨p0, p1, nd_l I5.2.2.2.2.2.2.1 (fun z => h3 (x3.symm.trans z))⟩, K, C, H, W⟩) I2
theorem x_nextON {now : Int} (h0 : ON 0 L now (now + 1) (now + 1) (now + 1) (f_now, f_sent, a_state, a_error, a_tries, a_iss, a_una, a_nxt, a_max, a_last, a_closing, a_kept, a_rcv, a_first, a_held, a_fin, a_unread, a_came, a_ended, a_wnd, a_peak, a_half, a_same, a_setBy, a_setAt, a_isSet, a_rto, a_smooth, a_spread, a_timed, a_since, a_retry, a_waits, a_rest, a_segSeq, a_segAck, a_segFlags, a_segWindow, a_segLength, a_segBytes, a_row, a_many, a_taken) (g_now, g_sent, b_seq, b_flags, b_acked, b_window, b_many, b_data, b_rows, b_state, b_error, b_iss, b_una, b_nxt, b_max, b_last, b_closed, b_written, b_irs, b_unread, b_bytes, b_held, b_rcv, b_finAt, b_marked, b_wnd, b_peak, b_half, b_rto, b_same, b_tries, b_smooth, b_spread, b_byNumber, b_byAck, b_sampled, b_told, b_retry, b_ackAt, b_waitAt, b_timedAt, b_timed)) (h1 : ON 1 L now (now + 1) (now + 1) (now + 1) (f_now, f_sent, a_state, a_error, a_tries, a_iss, a_una, a_nxt, a_max, a_last, a_closing, a_kept, a_rcv, a_first, a_held, a_fin, a_unread, a_came, a_ended, a_wnd, a_peak, a_half, a_same, a_setBy, a_setAt, a_isSet, a_rto, a_smooth, a_spread, a_timed, a_since, a_retry, a_waits, a_rest, a_segSeq, a_segAck, a_segFlags, a_segWindow, a_segLength, a_segBytes, a_row, a_many, a_taken) (g_now, g_sent, b_seq, b_flags, b_acked, b_window, b_many, b_data, b_rows, b_state, b_error, b_iss, b_una, b_nxt, b_max, b_last, b_closed, b_written, b_irs, b_unread, b_bytes, b_held, b_rcv, b_finAt, b_marked, b_wnd, b_peak, b_half, b_rto, b_same, b_tries, b_smooth, b_spread, b_byNumber, b_byAck, b_sampled, b_told, b_retry, b_ackAt, b_waitAt, b_timedAt, b_timed)) :
    ∃ t : Int, TS t a_retry a_waits a_rest ∧ (t = -1 ∨ now + 1 ≤ t) ∧ -1 ≤ t ∧ t < 1073741824 ∧ ∀ {f_now f_sent : Int32} {a_state a_error a_tries a_iss a_una a_nxt a_max a_last a_closing a_kept a_rcv a_first a_held a_fin a_unread a_came a_ended a_wnd a_peak a_half a_same a_setBy a_setAt a_isSet a_rto a_smooth a_spread a_timed a_since a_segSeq a_segAck a_segFlags a_segWindow a_segLength a_segBytes a_row a_many a_taken : Nat → Int32} (post : Int32 → Prop), post (zI t) → wpX_nextDue post (f_now, f_sent, a_state, a_error, a_tries, a_iss, a_una, a_nxt, a_max, a_last, a_closing, a_kept, a_rcv, a_first, a_held, a_fin, a_unread, a_came, a_ended, a_wnd, a_peak, a_half, a_same, a_setBy, a_setAt, a_isSet, a_rto, a_smooth, a_spread, a_timed, a_since, a_retry, a_waits, a_rest, a_segSeq, a_segAck, a_segFlags, a_segWindow, a_segLength, a_segBytes, a_row, a_many, a_taken) := by
  obtain ⟨r0, w0, s0, x1, x2, x3, -, -, -, p1, p2, p3, n0, n1, -, -, -⟩ := ON_tm h0
  obtain ⟨r1, w1, s1, x4, x5, x6, -, -, -, p4, p5, p6, -, -, -, -, -⟩ := ON_tm h1
  obtain ⟨t, a, b, c, d, k⟩ := x_nextDue x1 x2 x3 x4 x5 x6 (by omega) (by omega) (by omega) (by omega) (by omega) (by omega)
  exact ⟨t, a, by omega, c, d, fun post hp => k post hp⟩
theorem sd_0 {a b c d : Int32} (h : a - b = c - d) (hc : c = d) : a = b := by subst hc; grind
/-- Q of the top: equal answers, both ends related -/
def QT (L now : Int) (a : Int32 × SX) (b : Int32 × SY) : Prop := b.1 = a.1 ∧ ∀ e, e < 2 → ON e L now (now + 1) (now + 1) (now + 1) a.2 b.2
end
end
section
/-! tick: the loop -/
section
variable {e : Nat} {L now : Int} {st er tr iss una nxt mx la cl irs rcv fi un fst wnd pk hf rto sa smo tm si rt wt rs nr nw ns : Int} {f_now f_sent : Int32} {a_state a_error a_tries a_iss a_una a_nxt a_max a_last a_closing a_kept a_rcv a_first a_held a_fin a_unread a_came a_ended a_wnd a_peak a_half a_same a_setBy a_setAt a_isSet a_rto a_smooth a_spread a_timed a_since a_retry a_waits a_rest a_segSeq a_segAck a_segFlags a_segWindow a_segLength a_segBytes a_row a_many a_taken : Nat → Int32} {g_now g_sent : Int32} {b_seq b_flags b_acked b_window b_many b_data b_rows b_state b_error b_iss : Nat → Int32} {b_una b_nxt b_max b_last : Nat → Int64} {b_closed b_written b_irs b_unread b_bytes b_held : Nat → Int32} {b_rcv b_finAt : Nat → Int64} {b_marked b_wnd b_peak b_half b_rto b_same b_tries b_smooth b_spread b_byNumber b_byAck b_sampled b_told b_retry b_ackAt b_waitAt b_timedAt : Nat → Int32} {b_timed : Nat → Int64} {u0 : SX} {v0 : SY}
theorem lk_tick_l {til n : Int} (hu : til ≤ 33554432) (hn : 0 ≤ n ∧ n ≤ 1000) : ∀ (d : Nat) {f_now f_sent : Int32} {a_state a_error a_tries a_iss a_una a_nxt a_max a_last a_closing a_kept a_rcv a_first a_held a_fin a_unread a_came a_ended a_wnd a_peak a_half a_same a_setBy a_setAt a_isSet a_rto a_smooth a_spread a_timed a_since a_retry a_waits a_rest a_segSeq a_segAck a_segFlags a_segWindow a_segLength a_segBytes a_row a_many a_taken : Nat → Int32} {g_now g_sent : Int32} {b_seq b_flags b_acked b_window b_many b_data b_rows b_state b_error b_iss : Nat → Int32} {b_una b_nxt b_max b_last : Nat → Int64} {b_closed b_written b_irs b_unread b_bytes b_held : Nat → Int32} {b_rcv b_finAt : Nat → Int64} {b_marked b_wnd b_peak b_half b_rto b_same b_tries b_smooth b_spread b_byNumber b_byAck b_sampled b_told b_retry b_ackAt b_waitAt b_timedAt : Nat → Int32} {b_timed : Nat → Int64} (b t i : Int) (nx ny : Nat), b + d = til → i + d = n → 0 ≤ i → d < nx → d < ny → f_sent = g_sent → g_now = zI b → TS t a_retry a_waits a_rest → (t = -1 ∨ b + 1 ≤ t) → t < 1073741824 →
    ON 0 L b (b + 1) (b + 1) (b + 1) (zI b, f_sent, a_state, a_error, a_tries, a_iss, a_una, a_nxt, a_max, a_last, a_closing, a_kept, a_rcv, a_first, a_held, a_fin, a_unread, a_came, a_ended, a_wnd, a_peak, a_half, a_same, a_setBy, a_setAt, a_isSet, a_rto, a_smooth, a_spread, a_timed, a_since, a_retry, a_waits, a_rest, a_segSeq, a_segAck, a_segFlags, a_segWindow, a_segLength, a_segBytes, a_row, a_many, a_taken) (zI b, g_sent, b_seq, b_flags, b_acked, b_window, b_many, b_data, b_rows, b_state, b_error, b_iss, b_una, b_nxt, b_max, b_last, b_closed, b_written, b_irs, b_unread, b_bytes, b_held, b_rcv, b_finAt, b_marked, b_wnd, b_peak, b_half, b_rto, b_same, b_tries, b_smooth, b_spread, b_byNumber, b_byAck, b_sampled, b_told, b_retry, b_ackAt, b_waitAt, b_timedAt, b_timed) → ON 1 L b (b + 1) (b + 1) (b + 1) (zI b, f_sent, a_state, a_error, a_tries, a_iss, a_una, a_nxt, a_max, a_last, a_closing, a_kept, a_rcv, a_first, a_held, a_fin, a_unread, a_came, a_ended, a_wnd, a_peak, a_half, a_same, a_setBy, a_setAt, a_isSet, a_rto, a_smooth, a_spread, a_timed, a_since, a_retry, a_waits, a_rest, a_segSeq, a_segAck, a_segFlags, a_segWindow, a_segLength, a_segBytes, a_row, a_many, a_taken) (zI b, g_sent, b_seq, b_flags, b_acked, b_window, b_many, b_data, b_rows, b_state, b_error, b_iss, b_una, b_nxt, b_max, b_last, b_closed, b_written, b_irs, b_unread, b_bytes, b_held, b_rcv, b_finAt, b_marked, b_wnd, b_peak, b_half, b_rto, b_same, b_tries, b_smooth, b_spread, b_byNumber, b_byAck, b_sampled, b_told, b_retry, b_ackAt, b_waitAt, b_timedAt, b_timed) →
    LK ap1 aq1 (fun q => wX_tick_30 q (zI til) nx (zI t) f_now f_sent a_state a_error a_tries a_iss a_una a_nxt a_max a_last a_closing a_kept a_rcv a_first a_held a_fin a_unread a_came a_ended a_wnd a_peak a_half a_same a_setBy a_setAt a_isSet a_rto a_smooth a_spread a_timed a_since a_retry a_waits a_rest a_segSeq a_segAck a_segFlags a_segWindow a_segLength a_segBytes a_row a_many a_taken) (fun q => wY_tick_20 q (zI n) ny (zI i) g_now g_sent b_seq b_flags b_acked b_window b_many b_data b_rows b_state b_error b_iss b_una b_nxt b_max b_last b_closed b_written b_irs b_unread b_bytes b_held b_rcv b_finAt b_marked b_wnd b_peak b_half b_rto b_same b_tries b_smooth b_spread b_byNumber b_byAck b_sampled b_told b_retry b_ackAt b_waitAt b_timedAt b_timed) (QT L til) := by
  intro d
  induction d with
  | zero =>
    intro f_now f_sent a_state a_error a_tries a_iss a_una a_nxt a_max a_last a_closing a_kept a_rcv a_first a_held a_fin a_unread a_came a_ended a_wnd a_peak a_half a_same a_setBy a_setAt a_isSet a_rto a_smooth a_spread a_timed a_since a_retry a_waits a_rest a_segSeq a_segAck a_segFlags a_segWindow a_segLength a_segBytes a_row a_many a_taken g_now g_sent b_seq b_flags b_acked b_window b_many b_data b_rows b_state b_error b_iss b_una b_nxt b_max b_last b_closed b_written b_irs b_unread b_bytes b_held b_rcv b_finAt b_marked b_wnd b_peak b_half b_rto b_same b_tries b_smooth b_spread b_byNumber b_byAck b_sampled b_told b_retry b_ackAt b_waitAt b_timedAt b_timed b t i nx ny hb hi hi0 hx hy hs hg hT ht ht2 h0 h1
    obtain ⟨nx, rfl⟩ : ∃ n', nx = n' + 1 := ⟨nx - 1, by omega⟩
    obtain ⟨ny, rfl⟩ : ∃ n', ny = n' + 1 := ⟨ny - 1, by omega⟩
    have hbu : b = til := by omega
    subst hbu
    subst hg
    obtain ⟨-, -, -, -, -, -, -, -, -, -, -, -, n0, -, -, -, -⟩ := ON_tm h0
    have hc : zI t < 0 ↔ t < 0 := by rw [zl_0, zI_lt (by omega)]
    have hc2 : zI b < zI t ↔ b < t := zI_lt (by omega)
    have hc3 : zI n ≤ zI i := by rw [zI_le (by omega)]; omega
    have K1 : LK ap1 aq1 (fun q => q f_sent (zI b, f_sent, a_state, a_error, a_tries, a_iss, a_una, a_nxt, a_max, a_last, a_closing, a_kept, a_rcv, a_first, a_held, a_fin, a_unread, a_came, a_ended, a_wnd, a_peak, a_half, a_same, a_setBy, a_setAt, a_isSet, a_rto, a_smooth, a_spread, a_timed, a_since, a_retry, a_waits, a_rest, a_segSeq, a_segAck, a_segFlags, a_segWindow, a_segLength, a_segBytes, a_row, a_many, a_taken)) (fun q => q g_sent (zI b, g_sent, b_seq, b_flags, b_acked, b_window, b_many, b_data, b_rows, b_state, b_error, b_iss, b_una, b_nxt, b_max, b_last, b_closed, b_written, b_irs, b_unread, b_bytes, b_held, b_rcv, b_finAt, b_marked, b_wnd, b_peak, b_half, b_rto, b_same, b_tries, b_smooth, b_spread, b_byNumber, b_byAck, b_sampled, b_told, b_retry, b_ackAt, b_waitAt, b_timedAt, b_timed)) (QT L b) := LK_r1 ⟨hs.symm, fun e he => by
      have he' : e = 0 ∨ e = 1 := by omega
      rcases he' with rfl | rfl
      · exact h0
      · exact h1⟩
    apply LK_x
    · intro q h
      rw [wX_tick_30]
      by_cases z : t < 0
      · exact br_t (hc.mpr z) h
      · exact br_f (fun y => z (hc.mp y)) (br_t (hc2.mpr (by omega)) h)
    apply LK_y
    · intro q h
      rw [wY_tick_20]
      exact br_t hc3 h
    exact K1
  | succ d ih =>
    intro f_now f_sent a_state a_error a_tries a_iss a_una a_nxt a_max a_last a_closing a_kept a_rcv a_first a_held a_fin a_unread a_came a_ended a_wnd a_peak a_half a_same a_setBy a_setAt a_isSet a_rto a_smooth a_spread a_timed a_since a_retry a_waits a_rest a_segSeq a_segAck a_segFlags a_segWindow a_segLength a_segBytes a_row a_many a_taken g_now g_sent b_seq b_flags b_acked b_window b_many b_data b_rows b_state b_error b_iss b_una b_nxt b_max b_last b_closed b_written b_irs b_unread b_bytes b_held b_rcv b_finAt b_marked b_wnd b_peak b_half b_rto b_same b_tries b_smooth b_spread b_byNumber b_byAck b_sampled b_told b_retry b_ackAt b_waitAt b_timedAt b_timed b t i nx ny hb hi hi0 hx hy hs hg hT ht ht2 h0 h1
    obtain ⟨nx, rfl⟩ : ∃ n', nx = n' + 1 := ⟨nx - 1, by omega⟩
    obtain ⟨ny, rfl⟩ : ∃ n', ny = n' + 1 := ⟨ny - 1, by omega⟩
    subst hg
    have A0 := ON_adv h0 (by omega)
    have A1 := ON_adv h1 (by omega)
    obtain ⟨r0, w0, s0, x1, x2, x3, y1, y2, y3, p1, p2, p3, n0, n1, -, -, -⟩ := ON_tm h0
    obtain ⟨r1, w1, s1, x4, x5, x6, y4, y5, y6, p4, p5, p6, -, -, -, -, -⟩ := ON_tm h1
    have hc3 : ¬ zI n ≤ zI i := by rw [zI_le (by omega)]; omega
    by_cases hd : t = b + 1
    · subst hd
      have hc1 : ¬ zI (b + 1) < 0 := by rw [zl_0, zI_lt (by omega)]; omega
      have hc2 : ¬ zI til < zI (b + 1) := by rw [zI_lt (by omega)]; omega
      apply LK_x
      · intro q h
        rw [wX_tick_30]
        exact br_f hc1 (br_f hc2 h)
      apply LK_y
      · intro q h
        rw [wY_tick_20]
        refine br_f hc3 ?_
        rw [show zI b + 1 = zI (b + 1) from zI_add b 1]
        exact nm_e h
      refine ON_el A0 ?_
      intro st er tr iss una nxt mx la cl irs rcv fi un fst wnd pk hf rto sa smo tm si rt wt rs R I2
      refine LK_b (lk_due (e := 0) (by omega) I2 ⟨R, FR_r⟩) ?_
      intro f_now1 f_sent1 a_state1 a_error1 a_tries1 a_iss1 a_una1 a_nxt1 a_max1 a_last1 a_closing1 a_kept1 a_rcv1 a_first1 a_held1 a_fin1 a_unread1 a_came1 a_ended1 a_wnd1 a_peak1 a_half1 a_same1 a_setBy1 a_setAt1 a_isSet1 a_rto1 a_smooth1 a_spread1 a_timed1 a_since1 a_retry1 a_waits1 a_rest1 a_segSeq1 a_segAck1 a_segFlags1 a_segWindow1 a_segLength1 a_segBytes1 a_row1 a_many1 a_taken1 g_now1 g_sent1 b_seq1 b_flags1 b_acked1 b_window1 b_many1 b_data1 b_rows1 b_state1 b_error1 b_iss1 b_una1 b_nxt1 b_max1 b_last1 b_closed1 b_written1 b_irs1 b_unread1 b_bytes1 b_held1 b_rcv1 b_finAt1 b_marked1 b_wnd1 b_peak1 b_half1 b_rto1 b_same1 b_tries1 b_smooth1 b_spread1 b_byNumber1 b_byAck1 b_sampled1 b_told1 b_retry1 b_ackAt1 b_waitAt1 b_timedAt1 b_timed1 Z1
      dsimp only
      have B0 := OK_on Z1
      have F1 := OK_fr Z1
      have B1 := ON_fr (e' := 1) rfl F1 A1
      clear R I2
      refine ON_el B1 ?_
      intro st er tr iss una nxt mx la cl irs rcv fi un fst wnd pk hf rto sa smo tm si rt wt rs R I2
      refine LK_b (lk_due (e := 1) (by omega) I2 ⟨R, FR_r⟩) ?_
      intro f_now2 f_sent2 a_state2 a_error2 a_tries2 a_iss2 a_una2 a_nxt2 a_max2 a_last2 a_closing2 a_kept2 a_rcv2 a_first2 a_held2 a_fin2 a_unread2 a_came2 a_ended2 a_wnd2 a_peak2 a_half2 a_same2 a_setBy2 a_setAt2 a_isSet2 a_rto2 a_smooth2 a_spread2 a_timed2 a_since2 a_retry2 a_waits2 a_rest2 a_segSeq2 a_segAck2 a_segFlags2 a_segWindow2 a_segLength2 a_segBytes2 a_row2 a_many2 a_taken2 g_now2 g_sent2 b_seq2 b_flags2 b_acked2 b_window2 b_many2 b_data2 b_rows2 b_state2 b_error2 b_iss2 b_una2 b_nxt2 b_max2 b_last2 b_closed2 b_written2 b_irs2 b_unread2 b_bytes2 b_held2 b_rcv2 b_finAt2 b_marked2 b_wnd2 b_peak2 b_half2 b_rto2 b_same2 b_tries2 b_smooth2 b_spread2 b_byNumber2 b_byAck2 b_sampled2 b_told2 b_retry2 b_ackAt2 b_waitAt2 b_timedAt2 b_timed2 Z2
      dsimp only
      have C1 := OK_on Z2
      have F2 := OK_fr Z2
      have C0 := ON_fr (e' := 0) rfl F2 B0
      obtain ⟨e1, e2⟩ := ON_now C0
      subst e1 e2
      obtain ⟨t', T', ht', ht2', ht3', kN⟩ := x_nextON C0 C1
      apply LK_x
      · intro q h
        exact kN _ h
      apply LK_y
      · intro q h
        exact nm_r (e' := zI (i + 1)) (zI_add i 1) h
      exact ih (b + 1) t' (i + 1) nx ny (by omega) (by omega) (by omega) (by omega) (by omega) (sd_0 F2.2.2 (sd_0 F1.2.2 hs)) rfl T' ht' ht3' C0 C1
    · have q1 := nd_t (hT 0 (by omega) r0 (by omega) (by omega) (Or.inl x1)) ht hd n0
      have q2 := nd_t (hT 0 (by omega) w0 (by omega) (by omega) (Or.inr (Or.inl x2))) ht hd n0
      have q3 := nd_t (hT 0 (by omega) s0 (by omega) (by omega) (Or.inr (Or.inr x3))) ht hd n0
      have q4 := nd_t (hT 1 (by omega) r1 (by omega) (by omega) (Or.inl x4)) ht hd n0
      have q5 := nd_t (hT 1 (by omega) w1 (by omega) (by omega) (Or.inr (Or.inl x5))) ht hd n0
      have q6 := nd_t (hT 1 (by omega) s1 (by omega) (by omega) (Or.inr (Or.inr x6))) ht hd n0
      have ne : ∀ z : Int, (-1 ≤ z ∧ z < 1073741824) → z ≠ b + 1 → ¬ zI z = zI (b + 1) := by
        intro z hz hz'
        rw [zI_eq (by omega)]; exact hz'
      have v1 : -1 ≤ r0 ∧ r0 < 1073741824 := by omega
      have v2 : -1 ≤ w0 ∧ w0 < 1073741824 := by omega
      have v3 : -1 ≤ s0 ∧ s0 < 1073741824 := by omega
      have v4 : -1 ≤ r1 ∧ r1 < 1073741824 := by omega
      have v5 : -1 ≤ w1 ∧ w1 < 1073741824 := by omega
      have v6 : -1 ≤ s1 ∧ s1 < 1073741824 := by omega
      have C0 := ON_nd A0 x1 x2 x3 v1 v2 v3 q1 q2 q3
      have C1 := ON_nd A1 x4 x5 x6 v4 v5 v6 q4 q5 q6
      apply LK_y
      · intro q h
        rw [wY_tick_20]
        refine br_f hc3 ?_
        rw [show zI b + 1 = zI (b + 1) from zI_add b 1]
        refine nm_e ?_
        refine y_pass_n (e := 0) (by decide) y1 y2 y3 (ne r0 v1 q1) (ne w0 v2 q2) (ne s0 v3 q3) ?_
        refine y_pass_n (e := 1) (by decide) y4 y5 y6 (ne r1 v4 q4) (ne w1 v5 q5) (ne s1 v6 q6) ?_
        exact nm_r (e' := zI (i + 1)) (zI_add i 1) h
      exact ih (b + 1) t (i + 1) (nx + 1) ny (by omega) (by omega) (by omega) (by omega) (by omega) hs rfl hT (by omega) ht2 C0 C1
end
end
section
/-! a segment that arrives; refuse -/
section
def SV (q f a w n s k : Int) (x : VX) (y : VY) : Prop := match x, y with
  | (f_now, a_state, a_error, a_tries, a_iss, a_una, a_nxt, a_max, a_last, a_closing, a_kept, a_rcv, a_first, a_held, a_fin, a_unread, a_came, a_ended, a_wnd, a_peak, a_half, a_same, a_setBy, a_setAt, a_isSet, a_rto, a_smooth, a_spread, a_timed, a_since, a_retry, a_waits, a_rest, a_segSeq, a_segAck, a_segFlags, a_segWindow, a_segLength, a_segBytes, a_row, a_many, a_taken), (g_now, b_seq, b_flags, b_acked, b_window, b_many, b_data, b_rows, b_state, b_error, b_iss, b_una, b_nxt, b_max, b_last, b_closed, b_written, b_irs, b_unread, b_bytes, b_held, b_rcv, b_finAt, b_marked, b_wnd, b_peak, b_half, b_rto, b_same, b_tries, b_smooth, b_spread, b_byNumber, b_byAck, b_sampled, b_told, b_retry, b_ackAt, b_waitAt, b_timedAt, b_timed) => SG q f a w n s k a_segSeq a_segAck a_segFlags a_segWindow a_segLength a_segBytes b_seq b_flags b_acked b_window b_many b_data
variable {e : Nat} {L now : Int} {st er tr iss una nxt mx la cl irs rcv fi un fst wnd pk hf rto sa smo tm si rt wt rs nr nw ns : Int} {f_now f_sent : Int32} {a_state a_error a_tries a_iss a_una a_nxt a_max a_last a_closing a_kept a_rcv a_first a_held a_fin a_unread a_came a_ended a_wnd a_peak a_half a_same a_setBy a_setAt a_isSet a_rto a_smooth a_spread a_timed a_since a_retry a_waits a_rest a_segSeq a_segAck a_segFlags a_segWindow a_segLength a_segBytes a_row a_many a_taken : Nat → Int32} {g_now g_sent : Int32} {b_seq b_flags b_acked b_window b_many b_data b_rows b_state b_error b_iss : Nat → Int32} {b_una b_nxt b_max b_last : Nat → Int64} {b_closed b_written b_irs b_unread b_bytes b_held : Nat → Int32} {b_rcv b_finAt : Nat → Int64} {b_marked b_wnd b_peak b_half b_rto b_same b_tries b_smooth b_spread b_byNumber b_byAck b_sampled b_told b_retry b_ackAt b_waitAt b_timedAt : Nat → Int32} {b_timed : Nat → Int64} {u0 : SX} {v0 : SY}
/-- the segment in X's slot S and Y's place T, of the other end -/
def SU (e : Nat) (S T q f a w n : Int) (u : SX) (v : SY) : Prop :=
  ∃ s k : Int, (S = 16 * ((1 - e : Nat) : Int) + s ∧ 0 ≤ s ∧ s < 16) ∧ (T = 16 * ((1 - e : Nat) : Int) + k ∧ 0 ≤ k ∧ k < 16) ∧ SV q f a w n s k (vX (1 - e) u) (vY (1 - e) v)
theorem SU_fr {S T q f a w n : Int} {u : SX} {v : SY} (F : FR e u0 v0 u v) (h : SU e S T q f a w n u0 v0) : SU e S T q f a w n u v := by
  obtain ⟨s, k, h1, h2, h3⟩ := h
  rw [← F.1, ← F.2.1] at h3
  exact ⟨s, k, h1, h2, h3⟩
theorem SU_el {S T q f a w n : Int} (he : e < 2) (h : SU e S T q f a w n (f_now, f_sent, a_state, a_error, a_tries, a_iss, a_una, a_nxt, a_max, a_last, a_closing, a_kept, a_rcv, a_first, a_held, a_fin, a_unread, a_came, a_ended, a_wnd, a_peak, a_half, a_same, a_setBy, a_setAt, a_isSet, a_rto, a_smooth, a_spread, a_timed, a_since, a_retry, a_waits, a_rest, a_segSeq, a_segAck, a_segFlags, a_segWindow, a_segLength, a_segBytes, a_row, a_many, a_taken) (g_now, g_sent, b_seq, b_flags, b_acked, b_window, b_many, b_data, b_rows, b_state, b_error, b_iss, b_una, b_nxt, b_max, b_last, b_closed, b_written, b_irs, b_unread, b_bytes, b_held, b_rcv, b_finAt, b_marked, b_wnd, b_peak, b_half, b_rto, b_same, b_tries, b_smooth, b_spread, b_byNumber, b_byAck, b_sampled, b_told, b_retry, b_ackAt, b_waitAt, b_timedAt, b_timed)) : (0 ≤ S ∧ S < 32) ∧ (0 ≤ T ∧ T < 32) ∧ (0 ≤ q ∧ q ≤ 65535) ∧ (0 ≤ f ∧ f < 16) ∧ (0 ≤ a ∧ a ≤ 65535) ∧ (0 ≤ w ∧ w ≤ 24) ∧ (0 ≤ n ∧ n ≤ 8) ∧
    a_segSeq S.toNat = zI q ∧ a_segAck S.toNat = zI a ∧ a_segFlags S.toNat = zI f ∧ a_segWindow S.toNat = zI w ∧ a_segLength S.toNat = zI n ∧
    b_seq T.toNat = zI q ∧ b_acked T.toNat = zI a ∧ b_flags T.toNat = zI f ∧ b_window T.toNat = zI w ∧ b_many T.toNat = zI n ∧
    (∀ y : Int, 0 ≤ y → y < n → b_data (8 * T + y).toNat = a_segBytes (8 * S + y).toNat &&& 255) := by
  obtain ⟨s, k, ⟨rfl, hs, hs'⟩, ⟨rfl, hk, hk'⟩, g⟩ := h
  have g : SG q f a w n s k (rg 16 (1 - e) a_segSeq) (rg 16 (1 - e) a_segAck) (rg 16 (1 - e) a_segFlags) (rg 16 (1 - e) a_segWindow) (rg 16 (1 - e) a_segLength) (rg 128 (1 - e) a_segBytes) (rg 16 (1 - e) b_seq) (rg 16 (1 - e) b_flags) (rg 16 (1 - e) b_acked) (rg 16 (1 - e) b_window) (rg 16 (1 - e) b_many) (rg 128 (1 - e) b_data) := g
  unfold SG rg at g
  rw [Int.emod_eq_of_lt hs hs', Int.emod_eq_of_lt hk hk'] at g
  obtain ⟨⟨g1, g2, g3, g4⟩, ⟨g5, g6, g7, g8⟩, ⟨g9, g10, g11, g12, g13⟩, ⟨g14, g15, g16, g17⟩, ⟨g18, g19, g20, g21⟩, g22⟩ := g
  refine ⟨by omega, by omega, ⟨g3, g4⟩, ⟨g7, g8⟩, ⟨g11, g12⟩, ⟨g16, g17⟩, ⟨g20, g21⟩, g1, g9, g5, g14, g18, g2, g10, g6, g15, g19, fun y h0 h1 => ?_⟩
  have := g22 y h0 h1
  rw [Int.emod_eq_of_lt (by omega) (by omega), Int.emod_eq_of_lt (by omega) (by omega)] at this
  rw [show 8 * (16 * ((1 - e : Nat) : Int) + k) + y = 128 * ((1 - e : Nat) : Int) + (8 * k + y) by omega, show 8 * (16 * ((1 - e : Nat) : Int) + s) + y = 128 * ((1 - e : Nat) : Int) + (8 * s + y) by omega]
  exact this
theorem x_length {post : Int32 → Prop} {S f n : Int} (hS : 0 ≤ S ∧ S < 32) (hf : 0 ≤ f ∧ f < 16) (xf : a_segFlags S.toNat = zI f) (xn : a_segLength S.toNat = zI n) : wpX_lengthOf post (f_now, f_sent, a_state, a_error, a_tries, a_iss, a_una, a_nxt, a_max, a_last, a_closing, a_kept, a_rcv, a_first, a_held, a_fin, a_unread, a_came, a_ended, a_wnd, a_peak, a_half, a_same, a_setBy, a_setAt, a_isSet, a_rto, a_smooth, a_spread, a_timed, a_since, a_retry, a_waits, a_rest, a_segSeq, a_segAck, a_segFlags, a_segWindow, a_segLength, a_segBytes, a_row, a_many, a_taken) (zI S) = post (zI (n + f % 2 + f / 4 % 2)) := by
  unfold wpX_lengthOf
  simp (disch := omega) only [zI_in, zI_cl, xf, xn, zl_1, zl_2, zl_31, zI_m1, zI_m5, fl_s, zI_add, Int.reduceMod, true_and, and_true, true_implies, false_implies, forall_eq, not_true_eq_false, not_false_eq_true, implies_true, forall_const]
theorem y_length {post : Int32 → Prop} {T f n : Int} (hT : 0 ≤ T ∧ T < 32) (hf : 0 ≤ f ∧ f < 16) (yf : b_flags T.toNat = zI f) (yn : b_many T.toNat = zI n) : wpY_length post (g_now, g_sent, b_seq, b_flags, b_acked, b_window, b_many, b_data, b_rows, b_state, b_error, b_iss, b_una, b_nxt, b_max, b_last, b_closed, b_written, b_irs, b_unread, b_bytes, b_held, b_rcv, b_finAt, b_marked, b_wnd, b_peak, b_half, b_rto, b_same, b_tries, b_smooth, b_spread, b_byNumber, b_byAck, b_sampled, b_told, b_retry, b_ackAt, b_waitAt, b_timedAt, b_timed) (zI T) = post (zI (n + f % 2 + f / 4 % 2)) := by
  unfold wpY_length
  have e2 : f / 4 % 2 * 4 / 4 = f / 4 % 2 := by omega
  simp (disch := omega) only [zI_in, zI_cl, yf, yn, zl_1, zl_4, zI_m1, fl_4, zI_div, zI_add, e2, show ¬ zI 4 = (0 : Int32) by decide, true_and, and_true, true_implies, false_implies, forall_eq, not_true_eq_false, not_false_eq_true, implies_true, forall_const]
theorem RZ_put0 {sq fx ak wn : Int} {m k : Nat} {sg : Nat → Nat} (he : e < 2) (R : RZ e L now st er tr iss una nxt mx la cl irs rcv fi un fst wnd pk hf rto sa smo tm si rt wt rs nr nw ns u0 v0 (f_now, f_sent, a_state, a_error, a_tries, a_iss, a_una, a_nxt, a_max, a_last, a_closing, a_kept, a_rcv, a_first, a_held, a_fin, a_unread, a_came, a_ended, a_wnd, a_peak, a_half, a_same, a_setBy, a_setAt, a_isSet, a_rto, a_smooth, a_spread, a_timed, a_since, a_retry, a_waits, a_rest, a_segSeq, a_segAck, a_segFlags, a_segWindow, a_segLength, a_segBytes, a_row, a_many, a_taken) (g_now, g_sent, b_seq, b_flags, b_acked, b_window, b_many, b_data, b_rows, b_state, b_error, b_iss, b_una, b_nxt, b_max, b_last, b_closed, b_written, b_irs, b_unread, b_bytes, b_held, b_rcv, b_finAt, b_marked, b_wnd, b_peak, b_half, b_rto, b_same, b_tries, b_smooth, b_spread, b_byNumber, b_byAck, b_sampled, b_told, b_retry, b_ackAt, b_waitAt, b_timedAt, b_timed)) (hm : m < 16) (hR : ER e m sg (a_many e) (rg 16 e a_row)) (hS : ES m sg (a_taken e) (rg 16 e a_segSeq) (rg 16 e a_segAck) (rg 16 e a_segFlags) (rg 16 e a_segWindow) (rg 16 e a_segLength) (rg 128 e a_segBytes) (rg 16 e b_seq) (rg 16 e b_flags) (rg 16 e b_acked) (rg 16 e b_window) (rg 16 e b_many) (rg 128 e b_data))
    (hk : k < 16) (hb : bt (a_taken e) k = false) (h1 : 0 ≤ sq ∧ sq ≤ 65535) (h2 : 0 ≤ fx ∧ fx < 16) (h3 : 0 ≤ ak ∧ ak ≤ 65535) (h4 : 0 ≤ wn ∧ wn ≤ 24) (h5 : fx / 2 % 2 = 0 → ak = 0) :
    RZ e L now st er tr iss una nxt mx la cl irs rcv fi un fst wnd pk hf rto sa smo tm si rt wt rs nr nw ns u0 v0 (f_now, f_sent + 1, a_state, a_error, a_tries, a_iss, a_una, a_nxt, a_max, a_last, a_closing, a_kept, a_rcv, a_first, a_held, a_fin, a_unread, a_came, a_ended, a_wnd, a_peak, a_half, a_same, a_setBy, a_setAt, a_isSet, a_rto, a_smooth, a_spread, a_timed, a_since, a_retry, a_waits, a_rest, upd a_segSeq ((16 * (e : Int) + k).toNat) (zI sq), upd a_segAck ((16 * (e : Int) + k).toNat) (zI ak), upd a_segFlags ((16 * (e : Int) + k).toNat) (zI fx), upd a_segWindow ((16 * (e : Int) + k).toNat) (zI wn), upd a_segLength ((16 * (e : Int) + k).toNat) (zI 0), a_segBytes, upd a_row ((16 * (e : Int) + m).toNat) (zI (16 * (e : Int) + k)), upd a_many e (zI (m + 1)), upd a_taken e (a_taken e ||| (zI 1 <<< (zI k &&& zI 31))))
      (g_now, g_sent + 1, upd b_seq ((16 * (e : Int) + m).toNat) (zI sq), upd b_flags ((16 * (e : Int) + m).toNat) (zI fx), upd b_acked ((16 * (e : Int) + m).toNat) (zI ak), upd b_window ((16 * (e : Int) + m).toNat) (zI wn), upd b_many ((16 * (e : Int) + m).toNat) (zI 0), b_data, upd b_rows e (zI (m + 1)), b_state, b_error, b_iss, b_una, b_nxt, b_max, b_last, b_closed, b_written, b_irs, b_unread, b_bytes, b_held, b_rcv, b_finAt, b_marked, b_wnd, b_peak, b_half, b_rto, b_same, b_tries, b_smooth, b_spread, b_byNumber, b_byAck, b_sampled, b_told, b_retry, b_ackAt, b_waitAt, b_timedAt, b_timed) := by
  have hne : 1 - e ≠ e := by omega
  obtain ⟨R, F⟩ := R
  obtain ⟨rfl, rfl, xst, xer, xtr, xiss, xuna, xnxt, xmx, xla, xcl, xrcv, xfst, xfi, xun, xen, xwnd, xpk, xhf, xrto, xsm, xsb, xsa, xis, xsmo, xspr, xtm, xsi, xrt, xwt, xrs, yst, yer, ytr, yiss, yuna, ynxt, ymx, yla, ycl, yirs, yrcv, yfi, yun, ywnd, ypk, yhf, yrto, ysa, ysmo, ytm, ysi, yrt, ywt, yrs, I1, I3, I4, I5, K, C, H, W⟩ := RE_el R
  have hk16 : (k : Int) % 16 = k := by omega
  have hm16' : (m : Int) % 16 = m := by omega
  refine ⟨RE_in ⟨rfl, rfl, xst, xer, xtr, xiss, xuna, xnxt, xmx, xla, xcl, xrcv, xfst, xfi, xun, xen, xwnd, xpk, xhf, xrto, xsm, xsb, xsa, xis, xsmo, xspr, xtm, xsi, xrt, xwt, xrs, yst, yer, ytr, yiss, yuna, ynxt, ymx, yla, ycl, yirs, yrcv, yfi, yun, ywnd, ypk, yhf, yrto, ysa, ysmo, ytm, ysi, yrt, ywt, yrs, I1, I3, I4, I5, K, C, H, ?_⟩, FR_s F ?_ ?_ (sd_1 _ _)⟩
  · rw [pk_us, pk_us, pk_us]
    refine EW_put (a := ak) (q := sq) (f := fx) (w := wn) (n := 0) he hR hS hm hk hb (fun i => bb_set _ k (by omega) i) (ch_u (by decide) he (by omega) ch_0) (ch_u (by decide) he (by omega) ch_0) (ch_u (by decide) he (by omega) ch_0) (ch_u (by decide) he (by omega) ch_0) (ch_u (by decide) he (by omega) ch_0) ch_0 (ch_u (by decide) he (by omega) ch_0) (ch_u (by decide) he (by omega) ch_0) (ch_u (by decide) he (by omega) ch_0) (ch_u (by decide) he (by omega) ch_0) (ch_u (by decide) he (by omega) ch_0) ch_0 ?_
    refine ⟨⟨?_, ?_, h1⟩, ⟨?_, ?_, h2⟩, ⟨?_, ?_, h3.1, h3.2, h5⟩, ⟨?_, ?_, h4⟩, ⟨?_, ?_, by omega, by omega⟩, fun y h0 h1 => by omega⟩
    · rw [rg_in (by decide) (by omega), if_pos hk16]
    · rw [rg_in (by decide) (by omega), if_pos hm16']
    · rw [rg_in (by decide) (by omega), if_pos hk16]
    · rw [rg_in (by decide) (by omega), if_pos hm16']
    · rw [rg_in (by decide) (by omega), if_pos hk16]
    · rw [rg_in (by decide) (by omega), if_pos hm16']
    · rw [rg_in (by decide) (by omega), if_pos hk16]
    · rw [rg_in (by decide) (by omega), if_pos hm16']
    · rw [rg_in (by decide) (by omega), if_pos hk16]
    · rw [rg_in (by decide) (by omega), if_pos hm16']
  · simp only [vX, pk_un hne, rg_out (n := 16) (by decide) (show 0 ≤ (k : Int) ∧ (k : Int) < 16 by omega) he (show 1 - e < 2 by omega) hne, rg_out (n := 16) (by decide) (show 0 ≤ (m : Int) ∧ (m : Int) < 16 by omega) he (show 1 - e < 2 by omega) hne]
  · simp only [vY, pk_un hne, rg_out (n := 16) (by decide) (show 0 ≤ (m : Int) ∧ (m : Int) < 16 by omega) he (show 1 - e < 2 by omega) hne]
theorem RZ_full (R : RZ e L now st er tr iss una nxt mx la cl irs rcv fi un fst wnd pk hf rto sa smo tm si rt wt rs nr nw ns u0 v0 (f_now, f_sent, a_state, a_error, a_tries, a_iss, a_una, a_nxt, a_max, a_last, a_closing, a_kept, a_rcv, a_first, a_held, a_fin, a_unread, a_came, a_ended, a_wnd, a_peak, a_half, a_same, a_setBy, a_setAt, a_isSet, a_rto, a_smooth, a_spread, a_timed, a_since, a_retry, a_waits, a_rest, a_segSeq, a_segAck, a_segFlags, a_segWindow, a_segLength, a_segBytes, a_row, a_many, a_taken) (g_now, g_sent, b_seq, b_flags, b_acked, b_window, b_many, b_data, b_rows, b_state, b_error, b_iss, b_una, b_nxt, b_max, b_last, b_closed, b_written, b_irs, b_unread, b_bytes, b_held, b_rcv, b_finAt, b_marked, b_wnd, b_peak, b_half, b_rto, b_same, b_tries, b_smooth, b_spread, b_byNumber, b_byAck, b_sampled, b_told, b_retry, b_ackAt, b_waitAt, b_timedAt, b_timed)) : RZ e L now st er tr iss una nxt mx la cl irs rcv fi un fst wnd pk hf rto sa smo tm si rt wt rs nr nw ns u0 v0 (f_now, f_sent + 1, a_state, a_error, a_tries, a_iss, a_una, a_nxt, a_max, a_last, a_closing, a_kept, a_rcv, a_first, a_held, a_fin, a_unread, a_came, a_ended, a_wnd, a_peak, a_half, a_same, a_setBy, a_setAt, a_isSet, a_rto, a_smooth, a_spread, a_timed, a_since, a_retry, a_waits, a_rest, a_segSeq, a_segAck, a_segFlags, a_segWindow, a_segLength, a_segBytes, a_row, a_many, a_taken) (g_now, g_sent + 1, b_seq, b_flags, b_acked, b_window, b_many, b_data, b_rows, b_state, b_error, b_iss, b_una, b_nxt, b_max, b_last, b_closed, b_written, b_irs, b_unread, b_bytes, b_held, b_rcv, b_finAt, b_marked, b_wnd, b_peak, b_half, b_rto, b_same, b_tries, b_smooth, b_spread, b_byNumber, b_byAck, b_sampled, b_told, b_retry, b_ackAt, b_waitAt, b_timedAt, b_timed) := by
  obtain ⟨R, F⟩ := R
  obtain ⟨rfl, rfl, xst, xer, xtr, xiss, xuna, xnxt, xmx, xla, xcl, xrcv, xfst, xfi, xun, xen, xwnd, xpk, xhf, xrto, xsm, xsb, xsa, xis, xsmo, xspr, xtm, xsi, xrt, xwt, xrs, yst, yer, ytr, yiss, yuna, ynxt, ymx, yla, ycl, yirs, yrcv, yfi, yun, ywnd, ypk, yhf, yrto, ysa, ysmo, ytm, ysi, yrt, ywt, yrs, I1, I3, I4, I5, K, C, H, W⟩ := RE_el R
  exact ⟨RE_in ⟨rfl, rfl, xst, xer, xtr, xiss, xuna, xnxt, xmx, xla, xcl, xrcv, xfst, xfi, xun, xen, xwnd, xpk, xhf, xrto, xsm, xsb, xsa, xis, xsmo, xspr, xtm, xsi, xrt, xwt, xrs, yst, yer, ytr, yiss, yuna, ynxt, ymx, yla, ycl, yirs, yrcv, yfi, yun, ywnd, ypk, yhf, yrto, ysa, ysmo, ytm, ysi, yrt, ywt, yrs, I1, I3, I4, I5, K, C, H, W⟩, FR_s F rfl rfl (sd_1 _ _)⟩
/-- refuse on a segment with an ACK -/
theorem lk_refA {S T q f a w n : Int} (he : e < 2) (S0 : SU e S T q f a w n u0 v0) (hfa : f / 2 % 2 = 1) (R : RZ e L now st er tr iss una nxt mx la cl irs rcv fi un fst wnd pk hf rto sa smo tm si rt wt rs nr nw ns u0 v0 (f_now, f_sent, a_state, a_error, a_tries, a_iss, a_una, a_nxt, a_max, a_last, a_closing, a_kept, a_rcv, a_first, a_held, a_fin, a_unread, a_came, a_ended, a_wnd, a_peak, a_half, a_same, a_setBy, a_setAt, a_isSet, a_rto, a_smooth, a_spread, a_timed, a_since, a_retry, a_waits, a_rest, a_segSeq, a_segAck, a_segFlags, a_segWindow, a_segLength, a_segBytes, a_row, a_many, a_taken) (g_now, g_sent, b_seq, b_flags, b_acked, b_window, b_many, b_data, b_rows, b_state, b_error, b_iss, b_una, b_nxt, b_max, b_last, b_closed, b_written, b_irs, b_unread, b_bytes, b_held, b_rcv, b_finAt, b_marked, b_wnd, b_peak, b_half, b_rto, b_same, b_tries, b_smooth, b_spread, b_byNumber, b_byAck, b_sampled, b_told, b_retry, b_ackAt, b_waitAt, b_timedAt, b_timed)) :
    LK ap0 aq0 (fun p => wpX_refuse p (f_now, f_sent, a_state, a_error, a_tries, a_iss, a_una, a_nxt, a_max, a_last, a_closing, a_kept, a_rcv, a_first, a_held, a_fin, a_unread, a_came, a_ended, a_wnd, a_peak, a_half, a_same, a_setBy, a_setAt, a_isSet, a_rto, a_smooth, a_spread, a_timed, a_since, a_retry, a_waits, a_rest, a_segSeq, a_segAck, a_segFlags, a_segWindow, a_segLength, a_segBytes, a_row, a_many, a_taken) (zI e) (zI S)) (fun p => wpY_refuse p (g_now, g_sent, b_seq, b_flags, b_acked, b_window, b_many, b_data, b_rows, b_state, b_error, b_iss, b_una, b_nxt, b_max, b_last, b_closed, b_written, b_irs, b_unread, b_bytes, b_held, b_rcv, b_finAt, b_marked, b_wnd, b_peak, b_half, b_rto, b_same, b_tries, b_smooth, b_spread, b_byNumber, b_byAck, b_sampled, b_told, b_retry, b_ackAt, b_waitAt, b_timedAt, b_timed) (zI e) (zI a)) (fun u v => RZ e L now st er tr iss una nxt mx la cl irs rcv fi un fst wnd pk hf rto sa smo tm si rt wt rs nr nw ns u0 v0 u v) := by
  have R0 := R
  obtain ⟨R, F⟩ := R
  obtain ⟨s1, s2, sq, sf, sa', sw, sn, xq, xa, xf, xw, xn, yq, ya, yf, yw, yn, ybs⟩ := SU_el he (SU_fr F S0)
  obtain ⟨xnow, ynow, xst, xer, xtr, xiss, xuna, xnxt, xmx, xla, xcl, xrcv, xfst, xfi, xun, xen, xwnd, xpk, xhf, xrto, xsm, xsb, xsa, xis, xsmo, xspr, xtm, xsi, xrt, xwt, xrs, yst, yer, ytr, yiss, yuna, ynxt, ymx, yla, ycl, yirs, yrcv, yfi, yun, ywnd, ypk, yhf, yrto, ysa, ysmo, ytm, ysi, yrt, ywt, yrs, I1, I3, I4, I5, K, C, H, W⟩ := RE_el R
  obtain ⟨m, sg, hrw, hER, hES⟩ := W
  have hm16 := hES.1
  unfold wpX_refuse wpY_refuse
  by_cases hm : m = 16
  · subst hm
    have hr : ¬ (0 : Int32) ≤ zI (-1) := by decide
    exact LK_x (fun p h => x_slot_f he hER.1 (br_f hr h)) (LK_y (fun p h => y_post_f he hrw h) (LK_r0 (RZ_full R0)))
  · obtain ⟨k, hk, hb1, hb2⟩ := sl_free hES (by omega)
    have hc1 : (0 : Int32) ≤ zI (16 * e + k) := by rw [zl_0, zI_le (by omega)]; omega
    have hc2 : ¬ (zI f &&& 2) = 0 := by rw [zl_2, zl_0, fl_2 sf, zI_eq (by omega)]; omega
    have hc3 : 0 ≤ 16 * (e : Int) + k ∧ 16 * (e : Int) + k < 32 := by omega
    have hmm : m < 16 := by omega
    have hSi : vp_in (zI S) 32 := zI_in (by omega)
    have hSc : (zI S).toNatClampNeg = S.toNat := zI_cl (by omega)
    have K1 := RZ_put0 (sq := a) (fx := 8) (ak := 0) (wn := 0) he R0 hmm hER hES hk hb1 sa' (by omega) (by omega) (by omega) (fun _ => rfl)
    apply LK_x
    · intro p h
      refine x_slot he hER.1 hmm hk hb1 hb2 ?_
      refine br_t hc1 ⟨hSi, ?_⟩
      rw [hSc, xf]
      refine br_f hc2 ⟨hSi, ?_⟩
      rw [xa]
      exact x_stamp (q := a) (f := 8) (a := 0) (w := 0) hc3 (by decide) (by decide) h
    apply LK_y
    · intro p h
      exact y_post he hrw hmm h
    exact LK_r0 K1
/-- refuse on a segment without an ACK -/
theorem lk_refN {S T q f a w n ln : Int} (he : e < 2) (S0 : SU e S T q f a w n u0 v0) (hfa : f / 2 % 2 = 0) (hln : ln = n + f % 2 + f / 4 % 2) (R : RZ e L now st er tr iss una nxt mx la cl irs rcv fi un fst wnd pk hf rto sa smo tm si rt wt rs nr nw ns u0 v0 (f_now, f_sent, a_state, a_error, a_tries, a_iss, a_una, a_nxt, a_max, a_last, a_closing, a_kept, a_rcv, a_first, a_held, a_fin, a_unread, a_came, a_ended, a_wnd, a_peak, a_half, a_same, a_setBy, a_setAt, a_isSet, a_rto, a_smooth, a_spread, a_timed, a_since, a_retry, a_waits, a_rest, a_segSeq, a_segAck, a_segFlags, a_segWindow, a_segLength, a_segBytes, a_row, a_many, a_taken) (g_now, g_sent, b_seq, b_flags, b_acked, b_window, b_many, b_data, b_rows, b_state, b_error, b_iss, b_una, b_nxt, b_max, b_last, b_closed, b_written, b_irs, b_unread, b_bytes, b_held, b_rcv, b_finAt, b_marked, b_wnd, b_peak, b_half, b_rto, b_same, b_tries, b_smooth, b_spread, b_byNumber, b_byAck, b_sampled, b_told, b_retry, b_ackAt, b_waitAt, b_timedAt, b_timed)) :
    LK ap0 aq0 (fun p => wpX_refuse p (f_now, f_sent, a_state, a_error, a_tries, a_iss, a_una, a_nxt, a_max, a_last, a_closing, a_kept, a_rcv, a_first, a_held, a_fin, a_unread, a_came, a_ended, a_wnd, a_peak, a_half, a_same, a_setBy, a_setAt, a_isSet, a_rto, a_smooth, a_spread, a_timed, a_since, a_retry, a_waits, a_rest, a_segSeq, a_segAck, a_segFlags, a_segWindow, a_segLength, a_segBytes, a_row, a_many, a_taken) (zI e) (zI S)) (fun p => wpY_post (fun _ u => p u) (g_now, g_sent, b_seq, b_flags, b_acked, b_window, b_many, b_data, b_rows, b_state, b_error, b_iss, b_una, b_nxt, b_max, b_last, b_closed, b_written, b_irs, b_unread, b_bytes, b_held, b_rcv, b_finAt, b_marked, b_wnd, b_peak, b_half, b_rto, b_same, b_tries, b_smooth, b_spread, b_byNumber, b_byAck, b_sampled, b_told, b_retry, b_ackAt, b_waitAt, b_timedAt, b_timed) (zI e) (zI 0) (zI 10) (zI ((q + ln) % 65536)) (zI 0)) (fun u v => RZ e L now st er tr iss una nxt mx la cl irs rcv fi un fst wnd pk hf rto sa smo tm si rt wt rs nr nw ns u0 v0 u v) := by
  have R0 := R
  obtain ⟨R, F⟩ := R
  obtain ⟨s1, s2, sq, sf, sa', sw, sn, xq, xa, xf, xw, xn, yq, ya, yf, yw, yn, ybs⟩ := SU_el he (SU_fr F S0)
  obtain ⟨xnow, ynow, xst, xer, xtr, xiss, xuna, xnxt, xmx, xla, xcl, xrcv, xfst, xfi, xun, xen, xwnd, xpk, xhf, xrto, xsm, xsb, xsa, xis, xsmo, xspr, xtm, xsi, xrt, xwt, xrs, yst, yer, ytr, yiss, yuna, ynxt, ymx, yla, ycl, yirs, yrcv, yfi, yun, ywnd, ypk, yhf, yrto, ysa, ysmo, ytm, ysi, yrt, ywt, yrs, I1, I3, I4, I5, K, C, H, W⟩ := RE_el R
  obtain ⟨m, sg, hrw, hER, hES⟩ := W
  have hm16 := hES.1
  unfold wpX_refuse
  by_cases hm : m = 16
  · subst hm
    have hr : ¬ (0 : Int32) ≤ zI (-1) := by decide
    exact LK_x (fun p h => x_slot_f he hER.1 (br_f hr h)) (LK_y (fun p h => y_post_f he hrw h) (LK_r0 (RZ_full R0)))
  · obtain ⟨k, hk, hb1, hb2⟩ := sl_free hES (by omega)
    have hc1 : (0 : Int32) ≤ zI (16 * e + k) := by rw [zl_0, zI_le (by omega)]; omega
    have hc2 : (zI f &&& 2) = 0 := by rw [zl_2, zl_0, fl_2 sf, hfa]; rfl
    have hc3 : 0 ≤ 16 * (e : Int) + k ∧ 16 * (e : Int) + k < 32 := by omega
    have hmm : m < 16 := by omega
    have hSi : vp_in (zI S) 32 := zI_in (by omega)
    have hSc : (zI S).toNatClampNeg = S.toNat := zI_cl (by omega)
    have hak : (zI q + zI ln) &&& 65535 = zI ((q + ln) % 65536) := by rw [zl_65535, zI_add, zI_m16]
    have K1 := RZ_put0 (sq := 0) (fx := 10) (ak := (q + ln) % 65536) (wn := 0) he R0 hmm hER hES hk hb1 (by omega) (by omega) (by omega) (by omega) (fun z => by omega)
    apply LK_x
    · intro p h
      refine x_slot he hER.1 hmm hk hb1 hb2 ?_
      refine br_t hc1 ⟨hSi, ?_⟩
      rw [hSc, xf]
      refine br_t hc2 ⟨hSi, ?_⟩
      rw [x_length s1 sf xf xn, xq, ← hln, hak]
      exact x_stamp (q := 0) (f := 10) (a := (q + ln) % 65536) (w := 0) hc3 (by decide) (by decide) h
    apply LK_y
    · intro p h
      exact y_post he hrw hmm h
    exact LK_r0 K1
end
end
section
/-! arrivals: closed, listening, opening -/
section
variable {e : Nat} {L now : Int} {st er tr iss una nxt mx la cl irs rcv fi un fst wnd pk hf rto sa smo tm si rt wt rs nr nw ns : Int} {f_now f_sent : Int32} {a_state a_error a_tries a_iss a_una a_nxt a_max a_last a_closing a_kept a_rcv a_first a_held a_fin a_unread a_came a_ended a_wnd a_peak a_half a_same a_setBy a_setAt a_isSet a_rto a_smooth a_spread a_timed a_since a_retry a_waits a_rest a_segSeq a_segAck a_segFlags a_segWindow a_segLength a_segBytes a_row a_many a_taken : Nat → Int32} {g_now g_sent : Int32} {b_seq b_flags b_acked b_window b_many b_data b_rows b_state b_error b_iss : Nat → Int32} {b_una b_nxt b_max b_last : Nat → Int64} {b_closed b_written b_irs b_unread b_bytes b_held : Nat → Int32} {b_rcv b_finAt : Nat → Int64} {b_marked b_wnd b_peak b_half b_rto b_same b_tries b_smooth b_spread b_byNumber b_byAck b_sampled b_told b_retry b_ackAt b_waitAt b_timedAt : Nat → Int32} {b_timed : Nat → Int64} {u0 : SX} {v0 : SY}
theorem cf_1 {f : Int} (h : 0 ≤ f ∧ f < 16) : (zI f &&& 1 = 0) ↔ f % 2 = 0 := by rw [zl_1, zl_0, zI_m1, zI_eq (by omega)]
theorem cf_2 {f : Int} (h : 0 ≤ f ∧ f < 16) : (zI f &&& 2 = 0) ↔ f / 2 % 2 = 0 := by rw [zl_2, zl_0, fl_2 h, zI_eq (by omega)]; omega
theorem cf_4 {f : Int} (h : 0 ≤ f ∧ f < 16) : (zI f &&& 4 = 0) ↔ f / 4 % 2 = 0 := by rw [zl_4, zl_0, fl_4 h, zI_eq (by omega)]; omega
theorem cf_8 {f : Int} (h : 0 ≤ f ∧ f < 16) : (zI f &&& 8 = 0) ↔ f / 8 % 2 = 0 := by rw [zl_8, zl_0, fl_8 h, zI_eq (by omega)]; omega
theorem x_meet {post : SX → Prop} {S q w : Int} (he : e < 2) (hS : vp_in (zI S) 32) (hSc : (zI S).toNatClampNeg = S.toNat) (xq : a_segSeq S.toNat = zI q) (xw : a_segWindow S.toNat = zI w)
    (K : post (f_now, f_sent, a_state, a_error, a_tries, a_iss, a_una, a_nxt, a_max, a_last, a_closing, a_kept, upd a_rcv e (zI ((q + 1) % 65536)), upd a_first e (zI ((q + 1) % 65536)), a_held, a_fin, a_unread, a_came, a_ended, upd a_wnd e (zI w), a_peak, a_half, a_same, a_setBy, a_setAt, a_isSet, a_rto, a_smooth, a_spread, a_timed, a_since, a_retry, a_waits, a_rest, a_segSeq, a_segAck, a_segFlags, a_segWindow, a_segLength, a_segBytes, a_row, a_many, a_taken)) : wpX_meet post (f_now, f_sent, a_state, a_error, a_tries, a_iss, a_una, a_nxt, a_max, a_last, a_closing, a_kept, a_rcv, a_first, a_held, a_fin, a_unread, a_came, a_ended, a_wnd, a_peak, a_half, a_same, a_setBy, a_setAt, a_isSet, a_rto, a_smooth, a_spread, a_timed, a_since, a_retry, a_waits, a_rest, a_segSeq, a_segAck, a_segFlags, a_segWindow, a_segLength, a_segBytes, a_row, a_many, a_taken) (zI e) (zI S) := by
  unfold wpX_meet
  simp only [e_in he, e_cl he, hS, hSc, xq, xw, pk_us, zl_1, zl_65535, zI_add, zI_m16, true_and, and_true, true_implies, false_implies, forall_eq, not_true_eq_false, not_false_eq_true, implies_true, forall_const]
  exact K
theorem y_hear {post : SY → Prop} {T q w : Int} (he : e < 2) (hT : vp_in (zI T) 32) (hTc : (zI T).toNatClampNeg = T.toNat) (yq : b_seq T.toNat = zI q) (yw : b_window T.toNat = zI w)
    (K : post (g_now, g_sent, b_seq, b_flags, b_acked, b_window, b_many, b_data, b_rows, b_state, b_error, b_iss, b_una, b_nxt, b_max, b_last, b_closed, b_written, upd b_irs e (zI q), b_unread, b_bytes, b_held, vp_updL b_rcv e (zL 1), b_finAt, b_marked, upd b_wnd e (zI w), b_peak, b_half, b_rto, b_same, b_tries, b_smooth, b_spread, b_byNumber, b_byAck, b_sampled, b_told, b_retry, b_ackAt, b_waitAt, b_timedAt, b_timed)) : wpY_hear post (g_now, g_sent, b_seq, b_flags, b_acked, b_window, b_many, b_data, b_rows, b_state, b_error, b_iss, b_una, b_nxt, b_max, b_last, b_closed, b_written, b_irs, b_unread, b_bytes, b_held, b_rcv, b_finAt, b_marked, b_wnd, b_peak, b_half, b_rto, b_same, b_tries, b_smooth, b_spread, b_byNumber, b_byAck, b_sampled, b_told, b_retry, b_ackAt, b_waitAt, b_timedAt, b_timed) (zI e) (zI T) := by
  unfold wpY_hear
  simp only [e_in he, e_cl he, hT, hTc, yq, yw, zk_1, true_and, and_true, true_implies, false_implies, forall_eq, not_true_eq_false, not_false_eq_true, implies_true, forall_const]
  exact K
theorem EH_0 {st' rcv' un' fst' : Int} {hd : Int32} {cm hl : Int → Int32} (h : EH st rcv un fst hd cm (rg 64 e b_marked) hl) (h0 : hd = zI 0) : EH st' rcv' un' fst' hd cm (rg 64 e b_marked) hl := by
  have hb : ∀ i, bt hd i = false := fun i => by rw [h0]; exact b_0 i
  refine ⟨fun i _ => hb i, fun z hz hz' => ?_, fun z _ hz => ?_, fun _ => h0⟩
  · have := h.2.1 ((rcv' + z - rcv) % 64) (by omega) (by omega)
    rw [hb] at this
    rw [hb, rg_mod (show (rcv' + z) % 64 = (rcv + (rcv' + z - rcv) % 64) % 64 by omega)]
    exact this
  · rw [hb] at hz; cases hz
theorem E5_st {st' : Int} (h : E5 now st sa smo si rt wt rs nr nw ns) (h2 : st' < 2 → rt = -1 ∧ rs = -1) (h3 : st' ≤ 3 → wt = -1) : E5 now st' sa smo si rt wt rs nr nw ns := by
  obtain ⟨a1, a2, a3, a4, a5, a6, a7, a8, a9, a10⟩ := h
  exact ⟨a1, a2, a3, a4, a5, a6, a7, h2, h3, a10⟩
theorem lk_closed {S T q f a w n : Int} (he : e < 2) (S0 : SU e S T q f a w n u0 v0) (I2 : E2 L st iss una nxt mx la cl tm) (h0 : st = 0) (R : RZ e L now st er tr iss una nxt mx la cl irs rcv fi un fst wnd pk hf rto sa smo tm si rt wt rs nr nw ns u0 v0 (f_now, f_sent, a_state, a_error, a_tries, a_iss, a_una, a_nxt, a_max, a_last, a_closing, a_kept, a_rcv, a_first, a_held, a_fin, a_unread, a_came, a_ended, a_wnd, a_peak, a_half, a_same, a_setBy, a_setAt, a_isSet, a_rto, a_smooth, a_spread, a_timed, a_since, a_retry, a_waits, a_rest, a_segSeq, a_segAck, a_segFlags, a_segWindow, a_segLength, a_segBytes, a_row, a_many, a_taken) (g_now, g_sent, b_seq, b_flags, b_acked, b_window, b_many, b_data, b_rows, b_state, b_error, b_iss, b_una, b_nxt, b_max, b_last, b_closed, b_written, b_irs, b_unread, b_bytes, b_held, b_rcv, b_finAt, b_marked, b_wnd, b_peak, b_half, b_rto, b_same, b_tries, b_smooth, b_spread, b_byNumber, b_byAck, b_sampled, b_told, b_retry, b_ackAt, b_waitAt, b_timedAt, b_timed)) :
    LK ap0 aq0 (fun p => (zI f &&& 8 = 0 → wpX_refuse p (f_now, f_sent, a_state, a_error, a_tries, a_iss, a_una, a_nxt, a_max, a_last, a_closing, a_kept, a_rcv, a_first, a_held, a_fin, a_unread, a_came, a_ended, a_wnd, a_peak, a_half, a_same, a_setBy, a_setAt, a_isSet, a_rto, a_smooth, a_spread, a_timed, a_since, a_retry, a_waits, a_rest, a_segSeq, a_segAck, a_segFlags, a_segWindow, a_segLength, a_segBytes, a_row, a_many, a_taken) (zI e) (zI S)) ∧ (¬ zI f &&& 8 = 0 → p (f_now, f_sent, a_state, a_error, a_tries, a_iss, a_una, a_nxt, a_max, a_last, a_closing, a_kept, a_rcv, a_first, a_held, a_fin, a_unread, a_came, a_ended, a_wnd, a_peak, a_half, a_same, a_setBy, a_setAt, a_isSet, a_rto, a_smooth, a_spread, a_timed, a_since, a_retry, a_waits, a_rest, a_segSeq, a_segAck, a_segFlags, a_segWindow, a_segLength, a_segBytes, a_row, a_many, a_taken))) (fun p => wpY_toClosed p (g_now, g_sent, b_seq, b_flags, b_acked, b_window, b_many, b_data, b_rows, b_state, b_error, b_iss, b_una, b_nxt, b_max, b_last, b_closed, b_written, b_irs, b_unread, b_bytes, b_held, b_rcv, b_finAt, b_marked, b_wnd, b_peak, b_half, b_rto, b_same, b_tries, b_smooth, b_spread, b_byNumber, b_byAck, b_sampled, b_told, b_retry, b_ackAt, b_waitAt, b_timedAt, b_timed) (zI e) (zI T)) (fun u v => OKs e L now nr nw ns u0 v0 u v) := by
  have R0 := R
  obtain ⟨R, F⟩ := R
  obtain ⟨s1, s2, sq, sf, sa', sw, sn, xq, xa, xf, xw, xn, yq, ya, yf, yw, yn, ybs⟩ := SU_el he (SU_fr F S0)
  have hTi : vp_in (zI T) 32 := zI_in (by omega)
  have hTc : (zI T).toNatClampNeg = T.toNat := zI_cl (by omega)
  unfold wpY_toClosed
  refine LY_a hTi ?_
  rw [hTc, yf]
  by_cases h8 : f / 8 % 2 = 0
  · refine LX_t ((cf_8 sf).mpr h8) (LY_t ((cf_8 sf).mpr h8) (LY_a hTi ?_))
    simp only [y_length s2 sf yf yn]
    rw [yq, zI_add, zl_65535, zI_m16]
    refine LY_n (LY_a hTi ?_)
    by_cases h2 : f / 2 % 2 = 0
    · refine LY_t ((cf_2 sf).mpr h2) ?_
      exact LK_m (fun u v h => ⟨_, _, _, _, _, _, _, _, _, _, _, _, _, _, _, _, _, _, _, _, _, _, _, _, _, h, I2⟩) (lk_refN he S0 h2 rfl R0)
    · refine LY_f (fun z => h2 ((cf_2 sf).mp z)) (LY_a hTi ?_)
      rw [ya]
      exact LK_m (fun u v h => ⟨_, _, _, _, _, _, _, _, _, _, _, _, _, _, _, _, _, _, _, _, _, _, _, _, _, h, I2⟩) (lk_refA he S0 (by omega) R0)
  · exact LX_f (fun z => h8 ((cf_8 sf).mp z)) (LY_f (fun z => h8 ((cf_8 sf).mp z)) (LK_r0 (OK_i R0 I2)))
theorem lk_fail (he : e < 2) (R : RZ e L now st er tr iss una nxt mx la cl irs rcv fi un fst wnd pk hf rto sa smo tm si rt wt rs nr nw ns u0 v0 (f_now, f_sent, a_state, a_error, a_tries, a_iss, a_una, a_nxt, a_max, a_last, a_closing, a_kept, a_rcv, a_first, a_held, a_fin, a_unread, a_came, a_ended, a_wnd, a_peak, a_half, a_same, a_setBy, a_setAt, a_isSet, a_rto, a_smooth, a_spread, a_timed, a_since, a_retry, a_waits, a_rest, a_segSeq, a_segAck, a_segFlags, a_segWindow, a_segLength, a_segBytes, a_row, a_many, a_taken) (g_now, g_sent, b_seq, b_flags, b_acked, b_window, b_many, b_data, b_rows, b_state, b_error, b_iss, b_una, b_nxt, b_max, b_last, b_closed, b_written, b_irs, b_unread, b_bytes, b_held, b_rcv, b_finAt, b_marked, b_wnd, b_peak, b_half, b_rto, b_same, b_tries, b_smooth, b_spread, b_byNumber, b_byAck, b_sampled, b_told, b_retry, b_ackAt, b_waitAt, b_timedAt, b_timed)) :
    LK ap0 aq0 (fun q => wpX_fail q (f_now, f_sent, a_state, a_error, a_tries, a_iss, a_una, a_nxt, a_max, a_last, a_closing, a_kept, a_rcv, a_first, a_held, a_fin, a_unread, a_came, a_ended, a_wnd, a_peak, a_half, a_same, a_setBy, a_setAt, a_isSet, a_rto, a_smooth, a_spread, a_timed, a_since, a_retry, a_waits, a_rest, a_segSeq, a_segAck, a_segFlags, a_segWindow, a_segLength, a_segBytes, a_row, a_many, a_taken) (zI e)) (fun q => wpY_reset q (g_now, g_sent, b_seq, b_flags, b_acked, b_window, b_many, b_data, b_rows, b_state, b_error, b_iss, b_una, b_nxt, b_max, b_last, b_closed, b_written, b_irs, b_unread, b_bytes, b_held, b_rcv, b_finAt, b_marked, b_wnd, b_peak, b_half, b_rto, b_same, b_tries, b_smooth, b_spread, b_byNumber, b_byAck, b_sampled, b_told, b_retry, b_ackAt, b_waitAt, b_timedAt, b_timed) (zI e)) (fun u v => RZ e L now 0 (if st ≤ 7 then 1 else (if st = 0 then er else 0)) 0 iss 1 nxt mx 1 0 irs rcv (-1) un fst wnd pk hf rto sa smo (-1) si (-1) (-1) (-1) nr nw ns u0 v0 u v) := by
  have R0 := R
  obtain ⟨R, F⟩ := R
  obtain ⟨rfl, rfl, xst, xer, xtr, xiss, xuna, xnxt, xmx, xla, xcl, xrcv, xfst, xfi, xun, xen, xwnd, xpk, xhf, xrto, xsm, xsb, xsa, xis, xsmo, xspr, xtm, xsi, xrt, xwt, xrs, yst, yer, ytr, yiss, yuna, ynxt, ymx, yla, ycl, yirs, yrcv, yfi, yun, ywnd, ypk, yhf, yrto, ysa, ysmo, ytm, ysi, yrt, ywt, yrs, I1, I3, I4, I5, K, C, H, W⟩ := RE_el R
  have b1 := I1
  unfold E1 at b1
  have hc : zI st ≤ 7 ↔ st ≤ 7 := by rw [zl_7, zI_le (by omega)]
  unfold wpX_fail wpY_reset wX_fail_16 wX_fail_28 wY_reset_18
  refine LX_a (e_in he) (LY_a (e_in he) ?_)
  rw [e_cl he, xst, yst]
  by_cases h : st ≤ 7
  · rw [if_pos h]
    refine LX_t (hc.mpr h) (LY_t (hc.mpr h) (LX_t rfl ?_))
    exact LK_b (lk_over (why := 1) (code := 1) he (by omega) rfl R0) (fun f_now1 f_sent1 a_state1 a_error1 a_tries1 a_iss1 a_una1 a_nxt1 a_max1 a_last1 a_closing1 a_kept1 a_rcv1 a_first1 a_held1 a_fin1 a_unread1 a_came1 a_ended1 a_wnd1 a_peak1 a_half1 a_same1 a_setBy1 a_setAt1 a_isSet1 a_rto1 a_smooth1 a_spread1 a_timed1 a_since1 a_retry1 a_waits1 a_rest1 a_segSeq1 a_segAck1 a_segFlags1 a_segWindow1 a_segLength1 a_segBytes1 a_row1 a_many1 a_taken1 g_now1 g_sent1 b_seq1 b_flags1 b_acked1 b_window1 b_many1 b_data1 b_rows1 b_state1 b_error1 b_iss1 b_una1 b_nxt1 b_max1 b_last1 b_closed1 b_written1 b_irs1 b_unread1 b_bytes1 b_held1 b_rcv1 b_finAt1 b_marked1 b_wnd1 b_peak1 b_half1 b_rto1 b_same1 b_tries1 b_smooth1 b_spread1 b_byNumber1 b_byAck1 b_sampled1 b_told1 b_retry1 b_ackAt1 b_waitAt1 b_timedAt1 b_timed1 q => LK_r0 q)
  · rw [if_neg h, if_neg (show ¬ st = 0 by omega)]
    have her : er = 0 := by omega
    subst her
    refine LX_f (fun z => h (hc.mp z)) (LY_f (fun z => h (hc.mp z)) (LX_f (by decide) ?_))
    exact LK_b (lk_over (why := 0) (code := 0) he (by omega) rfl R0) (fun f_now1 f_sent1 a_state1 a_error1 a_tries1 a_iss1 a_una1 a_nxt1 a_max1 a_last1 a_closing1 a_kept1 a_rcv1 a_first1 a_held1 a_fin1 a_unread1 a_came1 a_ended1 a_wnd1 a_peak1 a_half1 a_same1 a_setBy1 a_setAt1 a_isSet1 a_rto1 a_smooth1 a_spread1 a_timed1 a_since1 a_retry1 a_waits1 a_rest1 a_segSeq1 a_segAck1 a_segFlags1 a_segWindow1 a_segLength1 a_segBytes1 a_row1 a_many1 a_taken1 g_now1 g_sent1 b_seq1 b_flags1 b_acked1 b_window1 b_many1 b_data1 b_rows1 b_state1 b_error1 b_iss1 b_una1 b_nxt1 b_max1 b_last1 b_closed1 b_written1 b_irs1 b_unread1 b_bytes1 b_held1 b_rcv1 b_finAt1 b_marked1 b_wnd1 b_peak1 b_half1 b_rto1 b_same1 b_tries1 b_smooth1 b_spread1 b_byNumber1 b_byAck1 b_sampled1 b_told1 b_retry1 b_ackAt1 b_waitAt1 b_timedAt1 b_timed1 q => LK_r0 q)
end
end
section
/-! arrivals: listening, opening -/
section
variable {e : Nat} {L now : Int} {st er tr iss una nxt mx la cl irs rcv fi un fst wnd pk hf rto sa smo tm si rt wt rs nr nw ns : Int} {f_now f_sent : Int32} {a_state a_error a_tries a_iss a_una a_nxt a_max a_last a_closing a_kept a_rcv a_first a_held a_fin a_unread a_came a_ended a_wnd a_peak a_half a_same a_setBy a_setAt a_isSet a_rto a_smooth a_spread a_timed a_since a_retry a_waits a_rest a_segSeq a_segAck a_segFlags a_segWindow a_segLength a_segBytes a_row a_many a_taken : Nat → Int32} {g_now g_sent : Int32} {b_seq b_flags b_acked b_window b_many b_data b_rows b_state b_error b_iss : Nat → Int32} {b_una b_nxt b_max b_last : Nat → Int64} {b_closed b_written b_irs b_unread b_bytes b_held : Nat → Int32} {b_rcv b_finAt : Nat → Int64} {b_marked b_wnd b_peak b_half b_rto b_same b_tries b_smooth b_spread b_byNumber b_byAck b_sampled b_told b_retry b_ackAt b_waitAt b_timedAt : Nat → Int32} {b_timed : Nat → Int64} {u0 : SX} {v0 : SY}
theorem lk_listen {S T q f a w n : Int} (he : e < 2) (S0 : SU e S T q f a w n u0 v0) (I2 : E2 L 1 iss una nxt mx la cl tm) (R : RZ e L now 1 er tr iss una nxt mx la cl irs rcv fi un fst wnd pk hf rto sa smo tm si rt wt rs nr nw ns u0 v0 (f_now, f_sent, a_state, a_error, a_tries, a_iss, a_una, a_nxt, a_max, a_last, a_closing, a_kept, a_rcv, a_first, a_held, a_fin, a_unread, a_came, a_ended, a_wnd, a_peak, a_half, a_same, a_setBy, a_setAt, a_isSet, a_rto, a_smooth, a_spread, a_timed, a_since, a_retry, a_waits, a_rest, a_segSeq, a_segAck, a_segFlags, a_segWindow, a_segLength, a_segBytes, a_row, a_many, a_taken) (g_now, g_sent, b_seq, b_flags, b_acked, b_window, b_many, b_data, b_rows, b_state, b_error, b_iss, b_una, b_nxt, b_max, b_last, b_closed, b_written, b_irs, b_unread, b_bytes, b_held, b_rcv, b_finAt, b_marked, b_wnd, b_peak, b_half, b_rto, b_same, b_tries, b_smooth, b_spread, b_byNumber, b_byAck, b_sampled, b_told, b_retry, b_ackAt, b_waitAt, b_timedAt, b_timed)) :
    LK ap0 aq0 (fun p => (zI f &&& 8 = 0 → (zI f &&& 2 = 0 → (zI f &&& 1 = 0 → p (f_now, f_sent, a_state, a_error, a_tries, a_iss, a_una, a_nxt, a_max, a_last, a_closing, a_kept, a_rcv, a_first, a_held, a_fin, a_unread, a_came, a_ended, a_wnd, a_peak, a_half, a_same, a_setBy, a_setAt, a_isSet, a_rto, a_smooth, a_spread, a_timed, a_since, a_retry, a_waits, a_rest, a_segSeq, a_segAck, a_segFlags, a_segWindow, a_segLength, a_segBytes, a_row, a_many, a_taken)) ∧ (¬ zI f &&& 1 = 0 → wpX_meet (fun u => match u with | (f_now, f_sent, a_state, a_error, a_tries, a_iss, a_una, a_nxt, a_max, a_last, a_closing, a_kept, a_rcv, a_first, a_held, a_fin, a_unread, a_came, a_ended, a_wnd, a_peak, a_half, a_same, a_setBy, a_setAt, a_isSet, a_rto, a_smooth, a_spread, a_timed, a_since, a_retry, a_waits, a_rest, a_segSeq, a_segAck, a_segFlags, a_segWindow, a_segLength, a_segBytes, a_row, a_many, a_taken) => (vp_in (zI e) 2 ∧ ∀ a_st, a_st = upd a_state e (vp_nar .byte 3) → wpX_begin (fun u => match u with | (f_now, f_sent, a_state, a_error, a_tries, a_iss, a_una, a_nxt, a_max, a_last, a_closing, a_kept, a_rcv, a_first, a_held, a_fin, a_unread, a_came, a_ended, a_wnd, a_peak, a_half, a_same, a_setBy, a_setAt, a_isSet, a_rto, a_smooth, a_spread, a_timed, a_since, a_retry, a_waits, a_rest, a_segSeq, a_segAck, a_segFlags, a_segWindow, a_segLength, a_segBytes, a_row, a_many, a_taken) => p (f_now, f_sent, a_state, a_error, a_tries, a_iss, a_una, a_nxt, a_max, a_last, a_closing, a_kept, a_rcv, a_first, a_held, a_fin, a_unread, a_came, a_ended, a_wnd, a_peak, a_half, a_same, a_setBy, a_setAt, a_isSet, a_rto, a_smooth, a_spread, a_timed, a_since, a_retry, a_waits, a_rest, a_segSeq, a_segAck, a_segFlags, a_segWindow, a_segLength, a_segBytes, a_row, a_many, a_taken)) (f_now, f_sent, a_st, a_error, a_tries, a_iss, a_una, a_nxt, a_max, a_last, a_closing, a_kept, a_rcv, a_first, a_held, a_fin, a_unread, a_came, a_ended, a_wnd, a_peak, a_half, a_same, a_setBy, a_setAt, a_isSet, a_rto, a_smooth, a_spread, a_timed, a_since, a_retry, a_waits, a_rest, a_segSeq, a_segAck, a_segFlags, a_segWindow, a_segLength, a_segBytes, a_row, a_many, a_taken) (zI e) 3)) (f_now, f_sent, a_state, a_error, a_tries, a_iss, a_una, a_nxt, a_max, a_last, a_closing, a_kept, a_rcv, a_first, a_held, a_fin, a_unread, a_came, a_ended, a_wnd, a_peak, a_half, a_same, a_setBy, a_setAt, a_isSet, a_rto, a_smooth, a_spread, a_timed, a_since, a_retry, a_waits, a_rest, a_segSeq, a_segAck, a_segFlags, a_segWindow, a_segLength, a_segBytes, a_row, a_many, a_taken) (zI e) (zI S))) ∧ (¬ zI f &&& 2 = 0 → wpX_refuse p (f_now, f_sent, a_state, a_error, a_tries, a_iss, a_una, a_nxt, a_max, a_last, a_closing, a_kept, a_rcv, a_first, a_held, a_fin, a_unread, a_came, a_ended, a_wnd, a_peak, a_half, a_same, a_setBy, a_setAt, a_isSet, a_rto, a_smooth, a_spread, a_timed, a_since, a_retry, a_waits, a_rest, a_segSeq, a_segAck, a_segFlags, a_segWindow, a_segLength, a_segBytes, a_row, a_many, a_taken) (zI e) (zI S))) ∧ (¬ zI f &&& 8 = 0 → p (f_now, f_sent, a_state, a_error, a_tries, a_iss, a_una, a_nxt, a_max, a_last, a_closing, a_kept, a_rcv, a_first, a_held, a_fin, a_unread, a_came, a_ended, a_wnd, a_peak, a_half, a_same, a_setBy, a_setAt, a_isSet, a_rto, a_smooth, a_spread, a_timed, a_since, a_retry, a_waits, a_rest, a_segSeq, a_segAck, a_segFlags, a_segWindow, a_segLength, a_segBytes, a_row, a_many, a_taken))) (fun p => wpY_toListening p (g_now, g_sent, b_seq, b_flags, b_acked, b_window, b_many, b_data, b_rows, b_state, b_error, b_iss, b_una, b_nxt, b_max, b_last, b_closed, b_written, b_irs, b_unread, b_bytes, b_held, b_rcv, b_finAt, b_marked, b_wnd, b_peak, b_half, b_rto, b_same, b_tries, b_smooth, b_spread, b_byNumber, b_byAck, b_sampled, b_told, b_retry, b_ackAt, b_waitAt, b_timedAt, b_timed) (zI e) (zI T)) (fun u v => OKs e L now nr nw ns u0 v0 u v) := by
  have hne : 1 - e ≠ e := by omega
  have R0 := R
  obtain ⟨R, F⟩ := R
  obtain ⟨s1, s2, sq, sf, sa', sw, sn, xq, xa, xf, xw, xn, yq, ya, yf, yw, yn, ybs⟩ := SU_el he (SU_fr F S0)
  obtain ⟨rfl, rfl, xst, xer, xtr, xiss, xuna, xnxt, xmx, xla, xcl, xrcv, xfst, xfi, xun, xen, xwnd, xpk, xhf, xrto, xsm, xsb, xsa, xis, xsmo, xspr, xtm, xsi, xrt, xwt, xrs, yst, yer, ytr, yiss, yuna, ynxt, ymx, yla, ycl, yirs, yrcv, yfi, yun, ywnd, ypk, yhf, yrto, ysa, ysmo, ytm, ysi, yrt, ywt, yrs, I1, I3, I4, I5, K, C, H, W⟩ := RE_el R
  have hTi : vp_in (zI T) 32 := zI_in (by omega)
  have hTc : (zI T).toNatClampNeg = T.toNat := zI_cl (by omega)
  have hSi : vp_in (zI S) 32 := zI_in (by omega)
  have hSc : (zI S).toNatClampNeg = S.toNat := zI_cl (by omega)
  have b2 := I2
  unfold E2 at b2
  have b3 := I3
  unfold E3 at b3
  have b1 := I1
  unfold E1 at b1
  have b4 := I4
  unfold E4 at b4
  have b5 := E5_b I5
  unfold wpY_toListening
  refine LY_a hTi ?_
  rw [hTc, yf]
  refine LY_n ?_
  by_cases h8 : f / 8 % 2 = 0
  · refine LX_t ((cf_8 sf).mpr h8) (LY_t ((cf_8 sf).mpr h8) ?_)
    by_cases h2 : f / 2 % 2 = 0
    · refine LX_t ((cf_2 sf).mpr h2) (LY_t ((cf_2 sf).mpr h2) ?_)
      by_cases h1 : f % 2 = 0
      · exact LX_t ((cf_1 sf).mpr h1) (LY_t ((cf_1 sf).mpr h1) (LK_r0 (OK_i R0 I2)))
      · refine LX_f (fun z => h1 ((cf_1 sf).mp z)) (LY_f (fun z => h1 ((cf_1 sf).mp z)) ?_)
        have hfi : fi = -1 := by omega
        subst hfi
        apply LK_x
        · intro p h
          refine x_meet he hSi hSc xq xw ?_
          refine ⟨e_in he, ?_⟩
          refine nm_r (e' := upd a_state e (zI 3)) rfl ?_
          unfold wpX_begin
          refine ⟨e_in he, e_in he, ?_⟩
          rw [e_cl he, xiss]
          refine nm_e ⟨e_in he, e_in he, nm_e ⟨e_in he, e_in he, nm_e ⟨e_in he, ?_⟩⟩⟩
          exact h
        apply LK_y
        · intro p h
          refine y_hear he hTi hTc yq yw ?_
          refine ⟨e_in he, ?_⟩
          rw [e_cl he]
          refine nm_e ⟨e_in he, nm_e ⟨e_in he, nm_e ?_⟩⟩
          exact h
        have z0 : zI iss = zI ((iss + 0) % 65536) := by congr 1; omega
        rw [z0]
        have Q1 : RZ e L now 3 er tr iss 0 0 0 la cl q 1 (-1) un ((q + 1) % 65536) w pk hf rto sa smo tm si rt wt rs nr nw ns u0 v0 (zI now, f_sent, upd a_state e (zI 3), a_error, a_tries, a_iss, upd a_una e (zI ((iss + 0) % 65536)), upd a_nxt e (zI ((iss + 0) % 65536)), upd a_max e (zI ((iss + 0) % 65536)), a_last, a_closing, a_kept, upd a_rcv e (zI ((q + 1) % 65536)), upd a_first e (zI ((q + 1) % 65536)), a_held, a_fin, a_unread, a_came, a_ended, upd a_wnd e (zI w), a_peak, a_half, a_same, a_setBy, a_setAt, a_isSet, a_rto, a_smooth, a_spread, a_timed, a_since, a_retry, a_waits, a_rest, a_segSeq, a_segAck, a_segFlags, a_segWindow, a_segLength, a_segBytes, a_row, a_many, a_taken) (zI now, g_sent, b_seq, b_flags, b_acked, b_window, b_many, b_data, b_rows, upd b_state e 3, b_error, b_iss, vp_updL b_una e 0, b_nxt, vp_updL b_max e 0, b_last, b_closed, b_written, upd b_irs e (zI q), b_unread, b_bytes, b_held, vp_updL b_rcv e (zL 1), b_finAt, b_marked, upd b_wnd e (zI w), b_peak, b_half, b_rto, b_same, b_tries, b_smooth, b_spread, b_byNumber, b_byAck, b_sampled, b_told, b_retry, b_ackAt, b_waitAt, b_timedAt, b_timed) := by
          refine ⟨RE_in ⟨rfl, rfl, pk_us, xer, fun _ => xtr (by omega), xiss, fun _ => pk_us, fun _ => pk_us, fun _ => pk_us, fun _ => xla (by omega), fun _ => xcl (by omega), fun _ => pk_us, pk_us, xfi, xun, fun _ => xen (by omega), pk_us, xpk, xhf, xrto, fun _ => xsm (by omega), xsb, xsa, xis, xsmo, xspr, xtm, xsi, xrt, xwt, xrs, pk_us, yer, ytr, yiss, pk_uLs, ?_, pk_uLs, yla, ycl, pk_us, pk_uLs, yfi, yun, pk_us, ypk, yhf, yrto, ysa, ysmo, ytm, ysi, yrt, ywt, yrs, ?_, ?_, ?_, ?_, ?_, ?_, ?_, W⟩, FR_s F ?_ ?_ rfl⟩
          · rw [ynxt, (b2.2.2.1 rfl).2.1]
          · unfold E1; omega
          · unfold E3; omega
          · unfold E4; omega
          · exact E5_st I5 (fun z => by omega) (fun z => I5.2.2.2.2.2.2.2.2.1 (by omega))
          · intro p h1 h2 h3; omega
          · intro j h1 h2; omega
          · exact EH_0 H (H.2.2.2 (by omega))
          · simp only [vX, pk_un hne]
          · simp only [vY, pk_un hne, pk_uLn hne]
        refine LK_b (lk_emit (p := 0) (fx := 3) (fy := 1) (ln := 1) (n := 0) he (by omega) b2.1 (by omega) (by omega) (Or.inl ⟨by omega, Or.inr (Or.inr ⟨rfl, rfl⟩)⟩) rfl (fun _ => by omega) (by omega) (fun z => absurd rfl z) Q1) ?_
        intro f_now1 f_sent1 a_state1 a_error1 a_tries1 a_iss1 a_una1 a_nxt1 a_max1 a_last1 a_closing1 a_kept1 a_rcv1 a_first1 a_held1 a_fin1 a_unread1 a_came1 a_ended1 a_wnd1 a_peak1 a_half1 a_same1 a_setBy1 a_setAt1 a_isSet1 a_rto1 a_smooth1 a_spread1 a_timed1 a_since1 a_retry1 a_waits1 a_rest1 a_segSeq1 a_segAck1 a_segFlags1 a_segWindow1 a_segLength1 a_segBytes1 a_row1 a_many1 a_taken1 g_now1 g_sent1 b_seq1 b_flags1 b_acked1 b_window1 b_many1 b_data1 b_rows1 b_state1 b_error1 b_iss1 b_una1 b_nxt1 b_max1 b_last1 b_closed1 b_written1 b_irs1 b_unread1 b_bytes1 b_held1 b_rcv1 b_finAt1 b_marked1 b_wnd1 b_peak1 b_half1 b_rto1 b_same1 b_tries1 b_smooth1 b_spread1 b_byNumber1 b_byAck1 b_sampled1 b_told1 b_retry1 b_ackAt1 b_waitAt1 b_timedAt1 b_timed1 R1
        obtain ⟨R1, F1⟩ := R1
        obtain ⟨rfl, rfl, xst1, xer1, xtr1, xiss1, xuna1, xnxt1, xmx1, xla1, xcl1, xrcv1, xfst1, xfi1, xun1, xen1, xwnd1, xpk1, xhf1, xrto1, xsm1, xsb1, xsa1, xis1, xsmo1, xspr1, xtm1, xsi1, xrt1, xwt1, xrs1, yst1, yer1, ytr1, yiss1, yuna1, ynxt1, ymx1, yla1, ycl1, yirs1, yrcv1, yfi1, yun1, ywnd1, ypk1, yhf1, yrto1, ysa1, ysmo1, ytm1, ysi1, yrt1, ywt1, yrs1, I11, I31, I41, I51, K1, C1, H1, W1⟩ := RE_el R1
        have hz1 : (zI iss + 1) &&& 65535 = zI ((iss + 1) % 65536) := by rw [zl_1, zl_65535, zI_add, zI_m16]
        have htm : tm = -1 := (b2.2.2.2.1 (by omega)).2.2
        subst htm
        refine LX_a (e_in he) (LX_a (e_in he) (LY_a (e_in he) ?_))
        rw [xiss1, hz1, zk_1]
        refine LX_n (LY_n (LK_r0 (OK_i ⟨RE_in ⟨rfl, rfl, xst1, xer1, xtr1, xiss1, xuna1, fun _ => pk_us, xmx1, xla1, xcl1, xrcv1, xfst1, xfi1, xun1, xen1, xwnd1, xpk1, xhf1, xrto1, xsm1, xsb1, xsa1, xis1, xsmo1, xspr1, xtm1, xsi1, xrt1, xwt1, xrs1, yst1, yer1, ytr1, yiss1, yuna1, pk_uLs, ymx1, yla1, ycl1, yirs1, yrcv1, yfi1, yun1, ywnd1, ypk1, yhf1, yrto1, ysa1, ysmo1, ytm1, ysi1, yrt1, ywt1, yrs1, I11, I31, I41, I51, K1, C1, H1, W1⟩, FR_s F1 ?_ ?_ rfl⟩ ?_)))
        · simp only [vX, pk_un hne]
        · simp only [vY, pk_un hne, pk_uLn hne]
        · unfold E2; omega
    · refine LX_f (fun z => h2 ((cf_2 sf).mp z)) (LY_f (fun z => h2 ((cf_2 sf).mp z)) (LY_a hTi ?_))
      rw [ya]
      exact LK_m (fun u v h => ⟨_, _, _, _, _, _, _, _, _, _, _, _, _, _, _, _, _, _, _, _, _, _, _, _, _, h, I2⟩) (lk_refA he S0 (by omega) R0)
  · exact LX_f (fun z => h8 ((cf_8 sf).mp z)) (LY_f (fun z => h8 ((cf_8 sf).mp z)) (LK_r0 (OK_i R0 I2)))
end
end
section
/-! arrivals: opening -/
section
variable {e : Nat} {L now : Int} {st er tr iss una nxt mx la cl irs rcv fi un fst wnd pk hf rto sa smo tm si rt wt rs nr nw ns : Int} {f_now f_sent : Int32} {a_state a_error a_tries a_iss a_una a_nxt a_max a_last a_closing a_kept a_rcv a_first a_held a_fin a_unread a_came a_ended a_wnd a_peak a_half a_same a_setBy a_setAt a_isSet a_rto a_smooth a_spread a_timed a_since a_retry a_waits a_rest a_segSeq a_segAck a_segFlags a_segWindow a_segLength a_segBytes a_row a_many a_taken : Nat → Int32} {g_now g_sent : Int32} {b_seq b_flags b_acked b_window b_many b_data b_rows b_state b_error b_iss : Nat → Int32} {b_una b_nxt b_max b_last : Nat → Int64} {b_closed b_written b_irs b_unread b_bytes b_held : Nat → Int32} {b_rcv b_finAt : Nat → Int64} {b_marked b_wnd b_peak b_half b_rto b_same b_tries b_smooth b_spread b_byNumber b_byAck b_sampled b_told b_retry b_ackAt b_waitAt b_timedAt : Nat → Int32} {b_timed : Nat → Int64} {u0 : SX} {v0 : SY}
/-- the state ESTABLISHED, an acknowledgement, and flow -/
theorem lk_op138 (he : e < 2) (I2 : E2 L 4 iss 1 1 1 la 0 (-1)) (I3 : E3 L 4 irs rcv (-1) un fst) (R : RZ e L now 2 er tr iss 1 1 1 la 0 irs rcv (-1) un fst wnd pk hf rto sa smo (-1) si rt wt rs nr nw ns u0 v0 (f_now, f_sent, a_state, a_error, a_tries, a_iss, a_una, a_nxt, a_max, a_last, a_closing, a_kept, a_rcv, a_first, a_held, a_fin, a_unread, a_came, a_ended, a_wnd, a_peak, a_half, a_same, a_setBy, a_setAt, a_isSet, a_rto, a_smooth, a_spread, a_timed, a_since, a_retry, a_waits, a_rest, a_segSeq, a_segAck, a_segFlags, a_segWindow, a_segLength, a_segBytes, a_row, a_many, a_taken) (g_now, g_sent, b_seq, b_flags, b_acked, b_window, b_many, b_data, b_rows, b_state, b_error, b_iss, b_una, b_nxt, b_max, b_last, b_closed, b_written, b_irs, b_unread, b_bytes, b_held, b_rcv, b_finAt, b_marked, b_wnd, b_peak, b_half, b_rto, b_same, b_tries, b_smooth, b_spread, b_byNumber, b_byAck, b_sampled, b_told, b_retry, b_ackAt, b_waitAt, b_timedAt, b_timed)) :
    LK ap0 aq0 (fun p => wX_answered_138 p (zI e) f_now f_sent a_state a_error a_tries a_iss a_una a_nxt a_max a_last a_closing a_kept a_rcv a_first a_held a_fin a_unread a_came a_ended a_wnd a_peak a_half a_same a_setBy a_setAt a_isSet a_rto a_smooth a_spread a_timed a_since a_retry a_waits a_rest a_segSeq a_segAck a_segFlags a_segWindow a_segLength a_segBytes a_row a_many a_taken) (fun p => wY_toOpening_142 p (zI e) g_now g_sent b_seq b_flags b_acked b_window b_many b_data b_rows b_state b_error b_iss b_una b_nxt b_max b_last b_closed b_written b_irs b_unread b_bytes b_held b_rcv b_finAt b_marked b_wnd b_peak b_half b_rto b_same b_tries b_smooth b_spread b_byNumber b_byAck b_sampled b_told b_retry b_ackAt b_waitAt b_timedAt b_timed) (fun u v => OKs e L now nr nw ns u0 v0 u v) := by
  have hne : 1 - e ≠ e := by omega
  have J3 := I3
  obtain ⟨R, F⟩ := R
  obtain ⟨rfl, rfl, xst, xer, xtr, xiss, xuna, xnxt, xmx, xla, xcl, xrcv, xfst, xfi, xun, xen, xwnd, xpk, xhf, xrto, xsm, xsb, xsa, xis, xsmo, xspr, xtm, xsi, xrt, xwt, xrs, yst, yer, ytr, yiss, yuna, ynxt, ymx, yla, ycl, yirs, yrcv, yfi, yun, ywnd, ypk, yhf, yrto, ysa, ysmo, ytm, ysi, yrt, ywt, yrs, I1, I3, I4, I5, K, C, H, W⟩ := RE_el R
  have b1 := I1
  unfold E1 at b1
  have b2 := E2_b I2 (by omega)
  unfold wX_answered_138 wY_toOpening_142 wX_answered_173 wY_toOpening_172
  refine LX_a (e_in he) (LY_a (e_in he) ?_)
  rw [e_cl he]
  refine LX_n (LY_n ?_)
  have Q1 : RZ e L now 4 er tr iss 1 1 1 la 0 irs rcv (-1) un fst wnd pk hf rto sa smo (-1) si rt wt rs nr nw ns u0 v0 (zI now, f_sent, upd a_state e (vp_nar .byte 4), a_error, a_tries, a_iss, a_una, a_nxt, a_max, a_last, a_closing, a_kept, a_rcv, a_first, a_held, a_fin, a_unread, a_came, a_ended, a_wnd, a_peak, a_half, a_same, a_setBy, a_setAt, a_isSet, a_rto, a_smooth, a_spread, a_timed, a_since, a_retry, a_waits, a_rest, a_segSeq, a_segAck, a_segFlags, a_segWindow, a_segLength, a_segBytes, a_row, a_many, a_taken) (zI now, g_sent, b_seq, b_flags, b_acked, b_window, b_many, b_data, b_rows, upd b_state e 4, b_error, b_iss, b_una, b_nxt, b_max, b_last, b_closed, b_written, b_irs, b_unread, b_bytes, b_held, b_rcv, b_finAt, b_marked, b_wnd, b_peak, b_half, b_rto, b_same, b_tries, b_smooth, b_spread, b_byNumber, b_byAck, b_sampled, b_told, b_retry, b_ackAt, b_waitAt, b_timedAt, b_timed) := by
    refine ⟨RE_in ⟨rfl, rfl, pk_us, xer, fun _ => xtr (by omega), xiss, fun _ => xuna (by omega), fun _ => xnxt (by omega), fun _ => xmx (by omega), fun _ => xla (by omega), fun _ => xcl (by omega), fun _ => xrcv (by omega), xfst, xfi, xun, fun _ => xen (by omega), xwnd, xpk, xhf, xrto, fun _ => xsm (by omega), xsb, xsa, xis, xsmo, xspr, xtm, xsi, xrt, xwt, xrs, pk_us, yer, ytr, yiss, yuna, ynxt, ymx, yla, ycl, yirs, yrcv, yfi, yun, ywnd, ypk, yhf, yrto, ysa, ysmo, ytm, ysi, yrt, ywt, yrs, ?_, J3, I4, ?_, K, C, ?_, W⟩, FR_s F ?_ ?_ rfl⟩
    · unfold E1; omega
    · exact E5_st I5 (fun z => by omega) (fun z => by omega)
    · exact EH_0 H (H.2.2.2 (by omega))
    · simp only [vX, pk_un hne]
    · simp only [vY, pk_un hne]
  refine LK_b (lk_ack he (by omega) b2.1 (by omega) (by omega) Q1) ?_
  intro f_now1 f_sent1 a_state1 a_error1 a_tries1 a_iss1 a_una1 a_nxt1 a_max1 a_last1 a_closing1 a_kept1 a_rcv1 a_first1 a_held1 a_fin1 a_unread1 a_came1 a_ended1 a_wnd1 a_peak1 a_half1 a_same1 a_setBy1 a_setAt1 a_isSet1 a_rto1 a_smooth1 a_spread1 a_timed1 a_since1 a_retry1 a_waits1 a_rest1 a_segSeq1 a_segAck1 a_segFlags1 a_segWindow1 a_segLength1 a_segBytes1 a_row1 a_many1 a_taken1 g_now1 g_sent1 b_seq1 b_flags1 b_acked1 b_window1 b_many1 b_data1 b_rows1 b_state1 b_error1 b_iss1 b_una1 b_nxt1 b_max1 b_last1 b_closed1 b_written1 b_irs1 b_unread1 b_bytes1 b_held1 b_rcv1 b_finAt1 b_marked1 b_wnd1 b_peak1 b_half1 b_rto1 b_same1 b_tries1 b_smooth1 b_spread1 b_byNumber1 b_byAck1 b_sampled1 b_told1 b_retry1 b_ackAt1 b_waitAt1 b_timedAt1 b_timed1 R1
  refine LK_b (lk_flow he (by omega) I2 R1) ?_
  intro f_now2 f_sent2 a_state2 a_error2 a_tries2 a_iss2 a_una2 a_nxt2 a_max2 a_last2 a_closing2 a_kept2 a_rcv2 a_first2 a_held2 a_fin2 a_unread2 a_came2 a_ended2 a_wnd2 a_peak2 a_half2 a_same2 a_setBy2 a_setAt2 a_isSet2 a_rto2 a_smooth2 a_spread2 a_timed2 a_since2 a_retry2 a_waits2 a_rest2 a_segSeq2 a_segAck2 a_segFlags2 a_segWindow2 a_segLength2 a_segBytes2 a_row2 a_many2 a_taken2 g_now2 g_sent2 b_seq2 b_flags2 b_acked2 b_window2 b_many2 b_data2 b_rows2 b_state2 b_error2 b_iss2 b_una2 b_nxt2 b_max2 b_last2 b_closed2 b_written2 b_irs2 b_unread2 b_bytes2 b_held2 b_rcv2 b_finAt2 b_marked2 b_wnd2 b_peak2 b_half2 b_rto2 b_same2 b_tries2 b_smooth2 b_spread2 b_byNumber2 b_byAck2 b_sampled2 b_told2 b_retry2 b_ackAt2 b_waitAt2 b_timedAt2 b_timed2 R2
  exact LK_r0 (QF_OK R2)
theorem lk_op64 {S T q f a w n : Int} {x4 x5 : Int32} (he : e < 2) (S0 : SU e S T q f a w n u0 v0) (h4 : x4 = if f / 2 % 2 = 0 then 0 else 1) (h5 : x5 = if f / 8 % 2 = 0 then 0 else 1) (ha : f / 2 % 2 = 0 ∨ a = (iss + 1) % 65536) (I2 : E2 L 2 iss una nxt mx la cl tm) (R : RZ e L now 2 er tr iss una nxt mx la cl irs rcv fi un fst wnd pk hf rto sa smo tm si rt wt rs nr nw ns u0 v0 (f_now, f_sent, a_state, a_error, a_tries, a_iss, a_una, a_nxt, a_max, a_last, a_closing, a_kept, a_rcv, a_first, a_held, a_fin, a_unread, a_came, a_ended, a_wnd, a_peak, a_half, a_same, a_setBy, a_setAt, a_isSet, a_rto, a_smooth, a_spread, a_timed, a_since, a_retry, a_waits, a_rest, a_segSeq, a_segAck, a_segFlags, a_segWindow, a_segLength, a_segBytes, a_row, a_many, a_taken) (g_now, g_sent, b_seq, b_flags, b_acked, b_window, b_many, b_data, b_rows, b_state, b_error, b_iss, b_una, b_nxt, b_max, b_last, b_closed, b_written, b_irs, b_unread, b_bytes, b_held, b_rcv, b_finAt, b_marked, b_wnd, b_peak, b_half, b_rto, b_same, b_tries, b_smooth, b_spread, b_byNumber, b_byAck, b_sampled, b_told, b_retry, b_ackAt, b_waitAt, b_timedAt, b_timed)) :
    LK ap0 aq0 (fun p => wX_answered_64 p (zI e) (zI S) (zI f) x4 x5 f_now f_sent a_state a_error a_tries a_iss a_una a_nxt a_max a_last a_closing a_kept a_rcv a_first a_held a_fin a_unread a_came a_ended a_wnd a_peak a_half a_same a_setBy a_setAt a_isSet a_rto a_smooth a_spread a_timed a_since a_retry a_waits a_rest a_segSeq a_segAck a_segFlags a_segWindow a_segLength a_segBytes a_row a_many a_taken) (fun p => wY_toOpening_71 p (zI e) (zI T) (zI f) x4 x5 g_now g_sent b_seq b_flags b_acked b_window b_many b_data b_rows b_state b_error b_iss b_una b_nxt b_max b_last b_closed b_written b_irs b_unread b_bytes b_held b_rcv b_finAt b_marked b_wnd b_peak b_half b_rto b_same b_tries b_smooth b_spread b_byNumber b_byAck b_sampled b_told b_retry b_ackAt b_waitAt b_timedAt b_timed) (fun u v => OKs e L now nr nw ns u0 v0 u v) := by
  have hne : 1 - e ≠ e := by omega
  have R0 := R
  obtain ⟨R, F⟩ := R
  obtain ⟨s1, s2, sq, sf, sa', sw, sn, xq, xa, xf, xw, xn, yq, ya, yf, yw, yn, ybs⟩ := SU_el he (SU_fr F S0)
  obtain ⟨rfl, rfl, xst, xer, xtr, xiss, xuna, xnxt, xmx, xla, xcl, xrcv, xfst, xfi, xun, xen, xwnd, xpk, xhf, xrto, xsm, xsb, xsa, xis, xsmo, xspr, xtm, xsi, xrt, xwt, xrs, yst, yer, ytr, yiss, yuna, ynxt, ymx, yla, ycl, yirs, yrcv, yfi, yun, ywnd, ypk, yhf, yrto, ysa, ysmo, ytm, ysi, yrt, ywt, yrs, I1, I3, I4, I5, K, C, H, W⟩ := RE_el R
  have hTi : vp_in (zI T) 32 := zI_in (by omega)
  have hTc : (zI T).toNatClampNeg = T.toNat := zI_cl (by omega)
  have hSi : vp_in (zI S) 32 := zI_in (by omega)
  have hSc : (zI S).toNatClampNeg = S.toNat := zI_cl (by omega)
  have b1 := I1
  unfold E1 at b1
  have b2 := E2_b I2 (by omega)
  have b26 := I2.2.2.2.2.2.1 (by omega)
  have b25 := I2.2.2.2.2.1 (by omega)
  have b3 := I3
  unfold E3 at b3
  have b4 := I4
  unfold E4 at b4
  have hfi : fi = -1 := by omega
  subst hfi
  obtain ⟨rfl, rfl, rfl⟩ := b26
  have hcl : cl = 0 := by omega
  subst hcl
  unfold wX_answered_64 wY_toOpening_71
  by_cases h8 : f / 8 % 2 = 0
  · rw [if_pos h8] at h5
    refine LX_t h5 (LY_t h5 ?_)
    by_cases h1 : f % 2 = 0
    · exact LX_t ((cf_1 sf).mpr h1) (LY_t ((cf_1 sf).mpr h1) (LK_r0 (OK_i R0 I2)))
    · refine LX_f (fun z => h1 ((cf_1 sf).mp z)) (LY_f (fun z => h1 ((cf_1 sf).mp z)) ?_)
      refine LK_x (fun p h => x_meet he hSi hSc xq xw h) (LK_y (fun p h => y_hear he hTi hTc yq yw h) ?_)
      have J3 : ∀ st' : Int, 2 ≤ st' ∧ st' ≤ 4 → E3 L st' q 1 (-1) un ((q + 1) % 65536) := by intro st' hst; unfold E3; omega
      have J4 : E4 w pk hf rto := ⟨sw, b4.2⟩
      by_cases hA : f / 2 % 2 = 0
      · rw [if_pos hA] at h4
        refine LX_t h4 (LY_t h4 (LX_a (e_in he) (LY_a (e_in he) ?_)))
        rw [e_cl he]
        refine LX_n (LY_n (LX_a (e_in he) ?_))
        rw [xiss, show zI iss = zI ((iss + 0) % 65536) by congr 1; omega]
        have Q1 : RZ e L now 3 er tr iss 0 1 1 la 0 q 1 (-1) un ((q + 1) % 65536) w pk hf rto sa smo tm si rt wt rs nr nw ns u0 v0 (zI now, f_sent, upd a_state e (vp_nar .byte 3), a_error, a_tries, a_iss, a_una, a_nxt, a_max, a_last, a_closing, a_kept, upd a_rcv e (zI ((q + 1) % 65536)), upd a_first e (zI ((q + 1) % 65536)), a_held, a_fin, a_unread, a_came, a_ended, upd a_wnd e (zI w), a_peak, a_half, a_same, a_setBy, a_setAt, a_isSet, a_rto, a_smooth, a_spread, a_timed, a_since, a_retry, a_waits, a_rest, a_segSeq, a_segAck, a_segFlags, a_segWindow, a_segLength, a_segBytes, a_row, a_many, a_taken) (zI now, g_sent, b_seq, b_flags, b_acked, b_window, b_many, b_data, b_rows, upd b_state e 3, b_error, b_iss, b_una, b_nxt, b_max, b_last, b_closed, b_written, upd b_irs e (zI q), b_unread, b_bytes, b_held, vp_updL b_rcv e (zL 1), b_finAt, b_marked, upd b_wnd e (zI w), b_peak, b_half, b_rto, b_same, b_tries, b_smooth, b_spread, b_byNumber, b_byAck, b_sampled, b_told, b_retry, b_ackAt, b_waitAt, b_timedAt, b_timed) := by
          refine ⟨RE_in ⟨rfl, rfl, pk_us, xer, fun _ => xtr (by omega), xiss, fun _ => xuna (by omega), fun _ => xnxt (by omega), fun _ => xmx (by omega), fun _ => xla (by omega), fun _ => xcl (by omega), fun _ => pk_us, pk_us, xfi, xun, fun _ => xen (by omega), pk_us, xpk, xhf, xrto, fun _ => xsm (by omega), xsb, xsa, xis, xsmo, xspr, xtm, xsi, xrt, xwt, xrs, pk_us, yer, ytr, yiss, yuna, ynxt, ymx, yla, ycl, pk_us, pk_uLs, yfi, yun, pk_us, ypk, yhf, yrto, ysa, ysmo, ytm, ysi, yrt, ywt, yrs, ?_, J3 3 (by omega), J4, ?_, K, ?_, ?_, W⟩, FR_s F ?_ ?_ rfl⟩
          · unfold E1; omega
          · exact E5_st I5 (fun z => by omega) (fun z => I5.2.2.2.2.2.2.2.2.1 (by omega))
          · intro j h1 h2; omega
          · exact EH_0 H (H.2.2.2 (by omega))
          · simp only [vX, pk_un hne]
          · simp only [vY, pk_un hne, pk_uLn hne]
        have J2 : E2 L 3 iss 0 1 1 la 0 tm := by
          obtain ⟨a1, a2, a3, a4, a5, a6, a7, a8, a9⟩ := I2
          exact ⟨a1, a2, fun z => by omega, fun z => by omega, fun _ => a5 (by omega), fun _ => a6 (by omega), fun z => by omega, fun z => by omega, a9⟩
        refine LK_b (lk_emit (p := 0) (fx := 3) (fy := 1) (ln := 1) (n := 0) he (by omega) b2.1 (by omega) (by omega) (Or.inl ⟨by omega, Or.inr (Or.inr ⟨rfl, rfl⟩)⟩) rfl (fun _ => by omega) (by omega) (fun z => absurd rfl z) Q1) ?_
        intro f_now1 f_sent1 a_state1 a_error1 a_tries1 a_iss1 a_una1 a_nxt1 a_max1 a_last1 a_closing1 a_kept1 a_rcv1 a_first1 a_held1 a_fin1 a_unread1 a_came1 a_ended1 a_wnd1 a_peak1 a_half1 a_same1 a_setBy1 a_setAt1 a_isSet1 a_rto1 a_smooth1 a_spread1 a_timed1 a_since1 a_retry1 a_waits1 a_rest1 a_segSeq1 a_segAck1 a_segFlags1 a_segWindow1 a_segLength1 a_segBytes1 a_row1 a_many1 a_taken1 g_now1 g_sent1 b_seq1 b_flags1 b_acked1 b_window1 b_many1 b_data1 b_rows1 b_state1 b_error1 b_iss1 b_una1 b_nxt1 b_max1 b_last1 b_closed1 b_written1 b_irs1 b_unread1 b_bytes1 b_held1 b_rcv1 b_finAt1 b_marked1 b_wnd1 b_peak1 b_half1 b_rto1 b_same1 b_tries1 b_smooth1 b_spread1 b_byNumber1 b_byAck1 b_sampled1 b_told1 b_retry1 b_ackAt1 b_waitAt1 b_timedAt1 b_timed1 R1
        have c1 : ¬ ((1 : Int) ≠ 0 ∧ (1 : Int) < 0 + 1) := by omega
        have c2 : ¬ ((1 : Int) ≠ 0 ∧ (0 : Int) = 1 ∧ tm < 0) := by omega
        rw [if_neg c1, if_neg c2, if_neg c2] at R1
        refine LK_b (lk_flow he (by omega) J2 R1) ?_
        intro f_now2 f_sent2 a_state2 a_error2 a_tries2 a_iss2 a_una2 a_nxt2 a_max2 a_last2 a_closing2 a_kept2 a_rcv2 a_first2 a_held2 a_fin2 a_unread2 a_came2 a_ended2 a_wnd2 a_peak2 a_half2 a_same2 a_setBy2 a_setAt2 a_isSet2 a_rto2 a_smooth2 a_spread2 a_timed2 a_since2 a_retry2 a_waits2 a_rest2 a_segSeq2 a_segAck2 a_segFlags2 a_segWindow2 a_segLength2 a_segBytes2 a_row2 a_many2 a_taken2 g_now2 g_sent2 b_seq2 b_flags2 b_acked2 b_window2 b_many2 b_data2 b_rows2 b_state2 b_error2 b_iss2 b_una2 b_nxt2 b_max2 b_last2 b_closed2 b_written2 b_irs2 b_unread2 b_bytes2 b_held2 b_rcv2 b_finAt2 b_marked2 b_wnd2 b_peak2 b_half2 b_rto2 b_same2 b_tries2 b_smooth2 b_spread2 b_byNumber2 b_byAck2 b_sampled2 b_told2 b_retry2 b_ackAt2 b_waitAt2 b_timedAt2 b_timed2 R2
        exact LK_r0 (QF_OK R2)
      · rw [if_neg hA] at h4
        have ha' : a = (iss + 1) % 65536 := by omega
        have hx4 : ¬ x4 = 0 := by rw [h4]; decide
        have J2 : E2 L 4 iss 1 1 1 la 0 (-1) := by
          obtain ⟨a1, a2, a3, a4, a5, a6, a7, a8, a9⟩ := I2
          have := a5 (by omega)
          exact ⟨a1, by omega, fun z => by omega, fun z => by omega, fun _ => by omega, fun z => by omega, fun z => by omega, fun z => by omega, Or.inl rfl⟩
        refine LX_f hx4 (LY_f hx4 (LX_a hSi (LX_a (e_in he) (LY_a (e_in he) ?_))))
        rw [e_cl he, hSc, xa, ha', zk_1]
        refine LX_n (LX_a (e_in he) (LX_n (LX_a (e_in he) (LX_n (LX_a (e_in he) (LY_n (LY_a (e_in he) (LY_n (LY_a (e_in he) (LY_n (LY_a (e_in he) ?_)))))))))))
        have Q1 : RZ e L now 2 er 0 iss 1 1 1 la 0 q 1 (-1) un ((q + 1) % 65536) w pk hf rto sa smo tm si (-1) wt rs nr nw ns u0 v0 (zI now, f_sent, a_state, a_error, upd a_tries e (vp_nar .byte 0), a_iss, upd a_una e (zI ((iss + 1) % 65536)), a_nxt, a_max, a_last, a_closing, a_kept, upd a_rcv e (zI ((q + 1) % 65536)), upd a_first e (zI ((q + 1) % 65536)), a_held, a_fin, a_unread, a_came, a_ended, upd a_wnd e (zI w), a_peak, a_half, a_same, a_setBy, a_setAt, a_isSet, a_rto, a_smooth, a_spread, a_timed, a_since, upd a_retry e (-1), a_waits, a_rest, a_segSeq, a_segAck, a_segFlags, a_segWindow, a_segLength, a_segBytes, a_row, a_many, a_taken) (zI now, g_sent, b_seq, b_flags, b_acked, b_window, b_many, b_data, b_rows, b_state, b_error, b_iss, vp_updL b_una e (zL 1), b_nxt, b_max, b_last, b_closed, b_written, upd b_irs e (zI q), b_unread, b_bytes, b_held, vp_updL b_rcv e (zL 1), b_finAt, b_marked, upd b_wnd e (zI w), b_peak, b_half, b_rto, b_same, upd b_tries e 0, b_smooth, b_spread, b_byNumber, b_byAck, b_sampled, b_told, upd b_retry e (-1), b_ackAt, b_waitAt, b_timedAt, b_timed) := by
          refine ⟨RE_in ⟨rfl, rfl, xst, xer, fun _ => pk_us, xiss, fun _ => pk_us, xnxt, xmx, xla, xcl, fun _ => pk_us, pk_us, xfi, xun, xen, pk_us, xpk, xhf, xrto, xsm, xsb, xsa, xis, xsmo, xspr, xtm, xsi, pk_us, xwt, xrs, yst, yer, pk_us, yiss, pk_uLs, ynxt, ymx, yla, ycl, pk_us, pk_uLs, yfi, yun, pk_us, ypk, yhf, yrto, ysa, ysmo, ytm, ysi, pk_us, ywt, yrs, ?_, J3 2 (by omega), J4, E5_rt I5 (Or.inl rfl), ?_, ?_, ?_, W⟩, FR_s F ?_ ?_ rfl⟩
          · unfold E1; omega
          · intro p h1 h2 h3; exact K p h1 (by omega) h3
          · intro j h1 h2; omega
          · exact EH_0 H (H.2.2.2 (by omega))
          · simp only [vX, pk_un hne]
          · simp only [vY, pk_un hne, pk_uLn hne]
        have nfr := nf_r iss tm
        rw [xtm, ytm]
        by_cases ht : tm < 0
        · have htm : tm = -1 := by omega
          subst htm
          refine LX_t (by rw [nf_n (by decide)]; decide) (LY_t (by decide) ?_)
          exact lk_op138 he J2 (J3 4 (by omega)) Q1
        · refine LX_f (by rw [zl_0, zI_lt (by omega), nf_s]; exact ht) (LY_f (by rw [zk_0, zL_lt (by omega)]; exact ht) ?_)
          refine LK_b (lk_measure he Q1) ?_
          intro f_now1 f_sent1 a_state1 a_error1 a_tries1 a_iss1 a_una1 a_nxt1 a_max1 a_last1 a_closing1 a_kept1 a_rcv1 a_first1 a_held1 a_fin1 a_unread1 a_came1 a_ended1 a_wnd1 a_peak1 a_half1 a_same1 a_setBy1 a_setAt1 a_isSet1 a_rto1 a_smooth1 a_spread1 a_timed1 a_since1 a_retry1 a_waits1 a_rest1 a_segSeq1 a_segAck1 a_segFlags1 a_segWindow1 a_segLength1 a_segBytes1 a_row1 a_many1 a_taken1 g_now1 g_sent1 b_seq1 b_flags1 b_acked1 b_window1 b_many1 b_data1 b_rows1 b_state1 b_error1 b_iss1 b_una1 b_nxt1 b_max1 b_last1 b_closed1 b_written1 b_irs1 b_unread1 b_bytes1 b_held1 b_rcv1 b_finAt1 b_marked1 b_wnd1 b_peak1 b_half1 b_rto1 b_same1 b_tries1 b_smooth1 b_spread1 b_byNumber1 b_byAck1 b_sampled1 b_told1 b_retry1 b_ackAt1 b_waitAt1 b_timedAt1 b_timed1 R1
          obtain ⟨r', s', R1⟩ := R1
          exact lk_op138 he J2 (J3 4 (by omega)) R1
  · rw [if_neg h8] at h5
    have hx5 : ¬ x5 = 0 := by rw [h5]; decide
    refine LX_f hx5 (LY_f hx5 ?_)
    by_cases hA : f / 2 % 2 = 0
    · rw [if_pos hA] at h4
      exact LX_t h4 (LY_t h4 (LK_r0 (OK_i R0 I2)))
    · rw [if_neg hA] at h4
      have hx4 : ¬ x4 = 0 := by rw [h4]; decide
      refine LX_f hx4 (LY_f hx4 ?_)
      have J2 := E2_0 I2
      exact LK_b (lk_fail he R0) (fun f_now1 f_sent1 a_state1 a_error1 a_tries1 a_iss1 a_una1 a_nxt1 a_max1 a_last1 a_closing1 a_kept1 a_rcv1 a_first1 a_held1 a_fin1 a_unread1 a_came1 a_ended1 a_wnd1 a_peak1 a_half1 a_same1 a_setBy1 a_setAt1 a_isSet1 a_rto1 a_smooth1 a_spread1 a_timed1 a_since1 a_retry1 a_waits1 a_rest1 a_segSeq1 a_segAck1 a_segFlags1 a_segWindow1 a_segLength1 a_segBytes1 a_row1 a_many1 a_taken1 g_now1 g_sent1 b_seq1 b_flags1 b_acked1 b_window1 b_many1 b_data1 b_rows1 b_state1 b_error1 b_iss1 b_una1 b_nxt1 b_max1 b_last1 b_closed1 b_written1 b_irs1 b_unread1 b_bytes1 b_held1 b_rcv1 b_finAt1 b_marked1 b_wnd1 b_peak1 b_half1 b_rto1 b_same1 b_tries1 b_smooth1 b_spread1 b_byNumber1 b_byAck1 b_sampled1 b_told1 b_retry1 b_ackAt1 b_waitAt1 b_timedAt1 b_timed1 h => LK_r0 (OK_i h J2))
theorem lk_opening {S T q f a w n : Int} (he : e < 2) (S0 : SU e S T q f a w n u0 v0) (I2 : E2 L 2 iss una nxt mx la cl tm) (R : RZ e L now 2 er tr iss una nxt mx la cl irs rcv fi un fst wnd pk hf rto sa smo tm si rt wt rs nr nw ns u0 v0 (f_now, f_sent, a_state, a_error, a_tries, a_iss, a_una, a_nxt, a_max, a_last, a_closing, a_kept, a_rcv, a_first, a_held, a_fin, a_unread, a_came, a_ended, a_wnd, a_peak, a_half, a_same, a_setBy, a_setAt, a_isSet, a_rto, a_smooth, a_spread, a_timed, a_since, a_retry, a_waits, a_rest, a_segSeq, a_segAck, a_segFlags, a_segWindow, a_segLength, a_segBytes, a_row, a_many, a_taken) (g_now, g_sent, b_seq, b_flags, b_acked, b_window, b_many, b_data, b_rows, b_state, b_error, b_iss, b_una, b_nxt, b_max, b_last, b_closed, b_written, b_irs, b_unread, b_bytes, b_held, b_rcv, b_finAt, b_marked, b_wnd, b_peak, b_half, b_rto, b_same, b_tries, b_smooth, b_spread, b_byNumber, b_byAck, b_sampled, b_told, b_retry, b_ackAt, b_waitAt, b_timedAt, b_timed)) :
    LK ap0 aq0 (fun p => wpX_answered p (f_now, f_sent, a_state, a_error, a_tries, a_iss, a_una, a_nxt, a_max, a_last, a_closing, a_kept, a_rcv, a_first, a_held, a_fin, a_unread, a_came, a_ended, a_wnd, a_peak, a_half, a_same, a_setBy, a_setAt, a_isSet, a_rto, a_smooth, a_spread, a_timed, a_since, a_retry, a_waits, a_rest, a_segSeq, a_segAck, a_segFlags, a_segWindow, a_segLength, a_segBytes, a_row, a_many, a_taken) (zI e) (zI S) (zI f)) (fun p => wpY_toOpening p (g_now, g_sent, b_seq, b_flags, b_acked, b_window, b_many, b_data, b_rows, b_state, b_error, b_iss, b_una, b_nxt, b_max, b_last, b_closed, b_written, b_irs, b_unread, b_bytes, b_held, b_rcv, b_finAt, b_marked, b_wnd, b_peak, b_half, b_rto, b_same, b_tries, b_smooth, b_spread, b_byNumber, b_byAck, b_sampled, b_told, b_retry, b_ackAt, b_waitAt, b_timedAt, b_timed) (zI e) (zI T)) (fun u v => OKs e L now nr nw ns u0 v0 u v) := by
  have R0 := R
  obtain ⟨R, F⟩ := R
  obtain ⟨s1, s2, sq, sf, sa', sw, sn, xq, xa, xf, xw, xn, yq, ya, yf, yw, yn, ybs⟩ := SU_el he (SU_fr F S0)
  obtain ⟨rfl, rfl, xst, xer, xtr, xiss, xuna, xnxt, xmx, xla, xcl, xrcv, xfst, xfi, xun, xen, xwnd, xpk, xhf, xrto, xsm, xsb, xsa, xis, xsmo, xspr, xtm, xsi, xrt, xwt, xrs, yst, yer, ytr, yiss, yuna, ynxt, ymx, yla, ycl, yirs, yrcv, yfi, yun, ywnd, ypk, yhf, yrto, ysa, ysmo, ytm, ysi, yrt, ywt, yrs, I1, I3, I4, I5, K, C, H, W⟩ := RE_el R
  have hTi : vp_in (zI T) 32 := zI_in (by omega)
  have hTc : (zI T).toNatClampNeg = T.toNat := zI_cl (by omega)
  have hSi : vp_in (zI S) 32 := zI_in (by omega)
  have hSc : (zI S).toNatClampNeg = S.toNat := zI_cl (by omega)
  have b2 := E2_b I2 (by omega)
  have hc : zI a = zI ((iss + 1) % 65536) ↔ a = (iss + 1) % 65536 := zI_eq (by omega)
  have hn : (zI iss + 1) &&& 65535 = zI ((iss + 1) % 65536) := by rw [zl_1, zl_65535, zI_add, zI_m16]
  obtain ⟨x4, hx4⟩ : ∃ x4 : Int32, x4 = if f / 2 % 2 = 0 then 0 else 1 := ⟨_, rfl⟩
  obtain ⟨x5, hx5⟩ : ∃ x5 : Int32, x5 = if f / 8 % 2 = 0 then 0 else 1 := ⟨_, rfl⟩
  have hX : ∀ p, wX_answered_25 p (zI e) (zI S) (zI f) x4 x5 (zI now) f_sent a_state a_error a_tries a_iss a_una a_nxt a_max a_last a_closing a_kept a_rcv a_first a_held a_fin a_unread a_came a_ended a_wnd a_peak a_half a_same a_setBy a_setAt a_isSet a_rto a_smooth a_spread a_timed a_since a_retry a_waits a_rest a_segSeq a_segAck a_segFlags a_segWindow a_segLength a_segBytes a_row a_many a_taken → wpX_answered p (zI now, f_sent, a_state, a_error, a_tries, a_iss, a_una, a_nxt, a_max, a_last, a_closing, a_kept, a_rcv, a_first, a_held, a_fin, a_unread, a_came, a_ended, a_wnd, a_peak, a_half, a_same, a_setBy, a_setAt, a_isSet, a_rto, a_smooth, a_spread, a_timed, a_since, a_retry, a_waits, a_rest, a_segSeq, a_segAck, a_segFlags, a_segWindow, a_segLength, a_segBytes, a_row, a_many, a_taken) (zI e) (zI S) (zI f) := by
    intro p h
    unfold wpX_answered wX_answered_11
    by_cases h2 : f / 2 % 2 = 0
    · rw [if_pos h2] at hx4
      subst hx4
      refine br_t ((cf_2 sf).mpr h2) ?_
      by_cases h8 : f / 8 % 2 = 0
      · rw [if_pos h8] at hx5
        subst hx5
        exact br_t ((cf_8 sf).mpr h8) h
      · rw [if_neg h8] at hx5
        subst hx5
        exact br_f (fun z => h8 ((cf_8 sf).mp z)) h
    · rw [if_neg h2] at hx4
      subst hx4
      refine br_f (fun z => h2 ((cf_2 sf).mp z)) ?_
      by_cases h8 : f / 8 % 2 = 0
      · rw [if_pos h8] at hx5
        subst hx5
        exact br_t ((cf_8 sf).mpr h8) h
      · rw [if_neg h8] at hx5
        subst hx5
        exact br_f (fun z => h8 ((cf_8 sf).mp z)) h
  have hY : ∀ p, wY_toOpening_32 p (zI e) (zI T) (zI f) x4 x5 (zI now) g_sent b_seq b_flags b_acked b_window b_many b_data b_rows b_state b_error b_iss b_una b_nxt b_max b_last b_closed b_written b_irs b_unread b_bytes b_held b_rcv b_finAt b_marked b_wnd b_peak b_half b_rto b_same b_tries b_smooth b_spread b_byNumber b_byAck b_sampled b_told b_retry b_ackAt b_waitAt b_timedAt b_timed → wpY_toOpening p (zI now, g_sent, b_seq, b_flags, b_acked, b_window, b_many, b_data, b_rows, b_state, b_error, b_iss, b_una, b_nxt, b_max, b_last, b_closed, b_written, b_irs, b_unread, b_bytes, b_held, b_rcv, b_finAt, b_marked, b_wnd, b_peak, b_half, b_rto, b_same, b_tries, b_smooth, b_spread, b_byNumber, b_byAck, b_sampled, b_told, b_retry, b_ackAt, b_waitAt, b_timedAt, b_timed) (zI e) (zI T) := by
    intro p h
    unfold wpY_toOpening wY_toOpening_18
    refine ⟨hTi, ?_⟩
    rw [hTc, yf]
    refine nm_e ?_
    by_cases h2 : f / 2 % 2 = 0
    · rw [if_pos h2] at hx4
      subst hx4
      refine br_t ((cf_2 sf).mpr h2) ?_
      by_cases h8 : f / 8 % 2 = 0
      · rw [if_pos h8] at hx5
        subst hx5
        exact br_t ((cf_8 sf).mpr h8) h
      · rw [if_neg h8] at hx5
        subst hx5
        exact br_f (fun z => h8 ((cf_8 sf).mp z)) h
    · rw [if_neg h2] at hx4
      subst hx4
      refine br_f (fun z => h2 ((cf_2 sf).mp z)) ?_
      by_cases h8 : f / 8 % 2 = 0
      · rw [if_pos h8] at hx5
        subst hx5
        exact br_t ((cf_8 sf).mpr h8) h
      · rw [if_neg h8] at hx5
        subst hx5
        exact br_f (fun z => h8 ((cf_8 sf).mp z)) h
  refine LK_x hX (LK_y hY ?_)
  clear hX hY
  unfold wX_answered_25 wY_toOpening_32
  by_cases h2 : f / 2 % 2 = 0
  · have h4 := hx4
    rw [if_pos h2] at h4
    exact LX_t h4 (LY_t h4 (lk_op64 he S0 hx4 hx5 (Or.inl h2) I2 R0))
  · have h4 := hx4
    rw [if_neg h2] at h4
    have h4' : ¬ x4 = 0 := by rw [h4]; decide
    refine LX_f h4' (LY_f h4' (LX_a hSi (LX_a (e_in he) (LY_a hTi ?_))))
    rw [hSc, hTc, e_cl he, xa, ya, xiss, hn, zk_1]
    simp only [y_number he yiss b2.1]
    by_cases ha : a = (iss + 1) % 65536
    · exact LX_t (hc.mpr ha) (LY_t (hc.mpr ha) (lk_op64 he S0 hx4 hx5 (Or.inr ha) I2 R0))
    · refine LX_f (fun z => ha (hc.mp z)) (LY_f (fun z => ha (hc.mp z)) ?_)
      by_cases h8 : f / 8 % 2 = 0
      · rw [if_pos h8] at hx5
        refine LX_t hx5 (LY_t hx5 (LY_a hTi ?_))
        exact LK_b (lk_refA he S0 (by omega) R0) (fun f_now1 f_sent1 a_state1 a_error1 a_tries1 a_iss1 a_una1 a_nxt1 a_max1 a_last1 a_closing1 a_kept1 a_rcv1 a_first1 a_held1 a_fin1 a_unread1 a_came1 a_ended1 a_wnd1 a_peak1 a_half1 a_same1 a_setBy1 a_setAt1 a_isSet1 a_rto1 a_smooth1 a_spread1 a_timed1 a_since1 a_retry1 a_waits1 a_rest1 a_segSeq1 a_segAck1 a_segFlags1 a_segWindow1 a_segLength1 a_segBytes1 a_row1 a_many1 a_taken1 g_now1 g_sent1 b_seq1 b_flags1 b_acked1 b_window1 b_many1 b_data1 b_rows1 b_state1 b_error1 b_iss1 b_una1 b_nxt1 b_max1 b_last1 b_closed1 b_written1 b_irs1 b_unread1 b_bytes1 b_held1 b_rcv1 b_finAt1 b_marked1 b_wnd1 b_peak1 b_half1 b_rto1 b_same1 b_tries1 b_smooth1 b_spread1 b_byNumber1 b_byAck1 b_sampled1 b_told1 b_retry1 b_ackAt1 b_waitAt1 b_timedAt1 b_timed1 h => LK_r0 (OK_i h I2))
      · rw [if_neg h8] at hx5
        have h5' : ¬ x5 = 0 := by rw [hx5]; decide
        exact LX_f h5' (LY_f h5' (LK_r0 (OK_i R0 I2)))
end
end
section
/-! an acknowledgement that goes forward -/
section
variable {e : Nat} {L now : Int} {st er tr iss una nxt mx la cl irs rcv fi un fst wnd pk hf rto sa smo tm si rt wt rs nr nw ns : Int} {f_now f_sent : Int32} {a_state a_error a_tries a_iss a_una a_nxt a_max a_last a_closing a_kept a_rcv a_first a_held a_fin a_unread a_came a_ended a_wnd a_peak a_half a_same a_setBy a_setAt a_isSet a_rto a_smooth a_spread a_timed a_since a_retry a_waits a_rest a_segSeq a_segAck a_segFlags a_segWindow a_segLength a_segBytes a_row a_many a_taken : Nat → Int32} {g_now g_sent : Int32} {b_seq b_flags b_acked b_window b_many b_data b_rows b_state b_error b_iss : Nat → Int32} {b_una b_nxt b_max b_last : Nat → Int64} {b_closed b_written b_irs b_unread b_bytes b_held : Nat → Int32} {b_rcv b_finAt : Nat → Int64} {b_marked b_wnd b_peak b_half b_rto b_same b_tries b_smooth b_spread b_byNumber b_byAck b_sampled b_told b_retry b_ackAt b_waitAt b_timedAt : Nat → Int32} {b_timed : Nat → Int64} {u0 : SX} {v0 : SY}
/-- the end is related, its state has P -/
def OKp (P : Int → Int → Int → Prop) (e : Nat) (L now nr nw ns : Int) (u0 : SX) (v0 : SY) (u : SX) (v : SY) : Prop :=
  ∃ st er tr iss una nxt mx la cl irs rcv fi un fst wnd pk hf rto sa smo tm si rt wt rs   : Int, P st irs rcv ∧ RZ e L now st er tr iss una nxt mx la cl irs rcv fi un fst wnd pk hf rto sa smo tm si rt wt rs nr nw ns u0 v0 u v ∧ E2 L st iss una nxt mx la cl tm
theorem OKp_el {P : Int → Int → Int → Prop} {M : Prop} {u : SX} {v : SY} (h : OKp P e L now nr nw ns u0 v0 u v) (k : ∀ st er tr iss una nxt mx la cl irs rcv fi un fst wnd pk hf rto sa smo tm si rt wt rs : Int, P st irs rcv → RZ e L now st er tr iss una nxt mx la cl irs rcv fi un fst wnd pk hf rto sa smo tm si rt wt rs nr nw ns u0 v0 u v → E2 L st iss una nxt mx la cl tm → M) : M :=
  Exists.elim h fun st h => Exists.elim h fun er h => Exists.elim h fun tr h => Exists.elim h fun iss h => Exists.elim h fun una h => Exists.elim h fun nxt h => Exists.elim h fun mx h => Exists.elim h fun la h => Exists.elim h fun cl h => Exists.elim h fun irs h => Exists.elim h fun rcv h => Exists.elim h fun fi h => Exists.elim h fun un h => Exists.elim h fun fst h => Exists.elim h fun wnd h => Exists.elim h fun pk h => Exists.elim h fun hf h => Exists.elim h fun rto h => Exists.elim h fun sa h => Exists.elim h fun smo h => Exists.elim h fun tm h => Exists.elim h fun si h => Exists.elim h fun rt h => Exists.elim h fun wt h => Exists.elim h fun rs h =>  k st er tr iss una nxt mx la cl irs rcv fi un fst wnd pk hf rto sa smo tm si rt wt rs h.1 h.2.1 h.2.2
theorem OKp_i {P : Int → Int → Int → Prop} (hP : P st irs rcv) (R : RZ e L now st er tr iss una nxt mx la cl irs rcv fi un fst wnd pk hf rto sa smo tm si rt wt rs nr nw ns u0 v0 (f_now, f_sent, a_state, a_error, a_tries, a_iss, a_una, a_nxt, a_max, a_last, a_closing, a_kept, a_rcv, a_first, a_held, a_fin, a_unread, a_came, a_ended, a_wnd, a_peak, a_half, a_same, a_setBy, a_setAt, a_isSet, a_rto, a_smooth, a_spread, a_timed, a_since, a_retry, a_waits, a_rest, a_segSeq, a_segAck, a_segFlags, a_segWindow, a_segLength, a_segBytes, a_row, a_many, a_taken) (g_now, g_sent, b_seq, b_flags, b_acked, b_window, b_many, b_data, b_rows, b_state, b_error, b_iss, b_una, b_nxt, b_max, b_last, b_closed, b_written, b_irs, b_unread, b_bytes, b_held, b_rcv, b_finAt, b_marked, b_wnd, b_peak, b_half, b_rto, b_same, b_tries, b_smooth, b_spread, b_byNumber, b_byAck, b_sampled, b_told, b_retry, b_ackAt, b_waitAt, b_timedAt, b_timed)) (I2 : E2 L st iss una nxt mx la cl tm) : OKp P e L now nr nw ns u0 v0 (f_now, f_sent, a_state, a_error, a_tries, a_iss, a_una, a_nxt, a_max, a_last, a_closing, a_kept, a_rcv, a_first, a_held, a_fin, a_unread, a_came, a_ended, a_wnd, a_peak, a_half, a_same, a_setBy, a_setAt, a_isSet, a_rto, a_smooth, a_spread, a_timed, a_since, a_retry, a_waits, a_rest, a_segSeq, a_segAck, a_segFlags, a_segWindow, a_segLength, a_segBytes, a_row, a_many, a_taken) (g_now, g_sent, b_seq, b_flags, b_acked, b_window, b_many, b_data, b_rows, b_state, b_error, b_iss, b_una, b_nxt, b_max, b_last, b_closed, b_written, b_irs, b_unread, b_bytes, b_held, b_rcv, b_finAt, b_marked, b_wnd, b_peak, b_half, b_rto, b_same, b_tries, b_smooth, b_spread, b_byNumber, b_byAck, b_sampled, b_told, b_retry, b_ackAt, b_waitAt, b_timedAt, b_timed) := ⟨st, er, tr, iss, una, nxt, mx, la, cl, irs, rcv, fi, un, fst, wnd, pk, hf, rto, sa, smo, tm, si, rt, wt, rs, hP, R, I2⟩
theorem OKp_OK {P : Int → Int → Int → Prop} {u : SX} {v : SY} (h : OKp P e L now nr nw ns u0 v0 u v) : OKs e L now nr nw ns u0 v0 u v := OKp_el h (fun st er tr iss una nxt mx la cl irs rcv fi un fst wnd pk hf rto sa smo tm si rt wt rs _ R I2 => ⟨st, er, tr, iss, una, nxt, mx, la, cl, irs, rcv, fi, un, fst, wnd, pk, hf, rto, sa, smo, tm, si, rt, wt, rs, R, I2⟩)
def P04 (i r st irs rcv : Int) : Prop := (st = 0 ∨ 4 ≤ st) ∧ irs = i ∧ rcv = r
def P4 (i r st irs rcv : Int) : Prop := 4 ≤ st ∧ irs = i ∧ rcv = r
theorem lk_fw220 {rv : Int} (he : e < 2) (h4 : 4 ≤ st ∧ st ≠ 6 ∧ st ≠ 10) (hrv : rv = -1 ∨ now < rv ∧ rv ≤ now + 64) (I2 : E2 L st iss una nxt mx la cl tm) (R : RZ e L now st er tr iss una nxt mx la cl irs rcv fi un fst wnd pk hf rto sa smo tm si rt wt rs nr nw ns u0 v0 (f_now, f_sent, a_state, a_error, a_tries, a_iss, a_una, a_nxt, a_max, a_last, a_closing, a_kept, a_rcv, a_first, a_held, a_fin, a_unread, a_came, a_ended, a_wnd, a_peak, a_half, a_same, a_setBy, a_setAt, a_isSet, a_rto, a_smooth, a_spread, a_timed, a_since, a_retry, a_waits, a_rest, a_segSeq, a_segAck, a_segFlags, a_segWindow, a_segLength, a_segBytes, a_row, a_many, a_taken) (g_now, g_sent, b_seq, b_flags, b_acked, b_window, b_many, b_data, b_rows, b_state, b_error, b_iss, b_una, b_nxt, b_max, b_last, b_closed, b_written, b_irs, b_unread, b_bytes, b_held, b_rcv, b_finAt, b_marked, b_wnd, b_peak, b_half, b_rto, b_same, b_tries, b_smooth, b_spread, b_byNumber, b_byAck, b_sampled, b_told, b_retry, b_ackAt, b_waitAt, b_timedAt, b_timed)) :
    LK ap0 aq0 (fun p => wX_forward_220 p (zI e) (zI ((iss + una) % 65536)) (zI rv) (zI e) f_now f_sent a_state a_error a_tries a_iss a_una a_nxt a_max a_last a_closing a_kept a_rcv a_first a_held a_fin a_unread a_came a_ended a_wnd a_peak a_half a_same a_setBy a_setAt a_isSet a_rto a_smooth a_spread a_timed a_since a_retry a_waits a_rest a_segSeq a_segAck a_segFlags a_segWindow a_segLength a_segBytes a_row a_many a_taken) (fun p => wY_advance_231 p (zI e) (zI rv) (zI e) g_now g_sent b_seq b_flags b_acked b_window b_many b_data b_rows b_state b_error b_iss b_una b_nxt b_max b_last b_closed b_written b_irs b_unread b_bytes b_held b_rcv b_finAt b_marked b_wnd b_peak b_half b_rto b_same b_tries b_smooth b_spread b_byNumber b_byAck b_sampled b_told b_retry b_ackAt b_waitAt b_timedAt b_timed) (fun u v => OKp (P04 irs rcv) e L now nr nw ns u0 v0 u v) := by
  have hne : 1 - e ≠ e := by omega
  obtain ⟨R, F⟩ := R
  obtain ⟨rfl, rfl, xst, xer, xtr, xiss, xuna, xnxt, xmx, xla, xcl, xrcv, xfst, xfi, xun, xen, xwnd, xpk, xhf, xrto, xsm, xsb, xsa, xis, xsmo, xspr, xtm, xsi, xrt, xwt, xrs, yst, yer, ytr, yiss, yuna, ynxt, ymx, yla, ycl, yirs, yrcv, yfi, yun, ywnd, ypk, yhf, yrto, ysa, ysmo, ytm, ysi, yrt, ywt, yrs, I1, I3, I4, I5, K, C, H, W⟩ := RE_el R
  have b1 := I1
  unfold E1 at b1
  have b2 := E2_b I2 (by omega)
  have J5 := E5_rt (rt' := rv) I5 (by omega)
  have Q0 : RZ e L now st er tr iss una nxt mx la cl irs rcv fi un fst wnd pk hf rto sa smo tm si rv wt rs nr nw ns u0 v0 (zI now, f_sent, a_state, a_error, a_tries, a_iss, a_una, a_nxt, a_max, a_last, a_closing, a_kept, a_rcv, a_first, a_held, a_fin, a_unread, a_came, a_ended, a_wnd, a_peak, a_half, a_same, a_setBy, a_setAt, a_isSet, a_rto, a_smooth, a_spread, a_timed, a_since, upd a_retry e (zI rv), a_waits, a_rest, a_segSeq, a_segAck, a_segFlags, a_segWindow, a_segLength, a_segBytes, a_row, a_many, a_taken) (zI now, g_sent, b_seq, b_flags, b_acked, b_window, b_many, b_data, b_rows, b_state, b_error, b_iss, b_una, b_nxt, b_max, b_last, b_closed, b_written, b_irs, b_unread, b_bytes, b_held, b_rcv, b_finAt, b_marked, b_wnd, b_peak, b_half, b_rto, b_same, b_tries, b_smooth, b_spread, b_byNumber, b_byAck, b_sampled, b_told, upd b_retry e (zI rv), b_ackAt, b_waitAt, b_timedAt, b_timed) := by
    refine ⟨RE_in ⟨rfl, rfl, xst, xer, xtr, xiss, xuna, xnxt, xmx, xla, xcl, xrcv, xfst, xfi, xun, xen, xwnd, xpk, xhf, xrto, xsm, xsb, xsa, xis, xsmo, xspr, xtm, xsi, pk_us, xwt, xrs, yst, yer, ytr, yiss, yuna, ynxt, ymx, yla, ycl, yirs, yrcv, yfi, yun, ywnd, ypk, yhf, yrto, ysa, ysmo, ytm, ysi, pk_us, ywt, yrs, I1, I3, I4, J5, K, C, H, W⟩, FR_s F ?_ ?_ rfl⟩
    · simp only [vX, pk_un hne]
    · simp only [vY, pk_un hne]
  have D : LK ap0 aq0 (fun p => p (zI now, f_sent, a_state, a_error, a_tries, a_iss, a_una, a_nxt, a_max, a_last, a_closing, a_kept, a_rcv, a_first, a_held, a_fin, a_unread, a_came, a_ended, a_wnd, a_peak, a_half, a_same, a_setBy, a_setAt, a_isSet, a_rto, a_smooth, a_spread, a_timed, a_since, upd a_retry e (zI rv), a_waits, a_rest, a_segSeq, a_segAck, a_segFlags, a_segWindow, a_segLength, a_segBytes, a_row, a_many, a_taken)) (fun p => p (zI now, g_sent, b_seq, b_flags, b_acked, b_window, b_many, b_data, b_rows, b_state, b_error, b_iss, b_una, b_nxt, b_max, b_last, b_closed, b_written, b_irs, b_unread, b_bytes, b_held, b_rcv, b_finAt, b_marked, b_wnd, b_peak, b_half, b_rto, b_same, b_tries, b_smooth, b_spread, b_byNumber, b_byAck, b_sampled, b_told, upd b_retry e (zI rv), b_ackAt, b_waitAt, b_timedAt, b_timed)) (fun u v => OKp (P04 irs rcv) e L now nr nw ns u0 v0 u v) := LK_r0 (OKp_i ⟨Or.inr h4.1, rfl, rfl⟩ Q0 I2)
  unfold wX_forward_220 wY_advance_231
  refine LX_a (e_in he) (LY_a (e_in he) ?_)
  rw [e_cl he]
  refine LX_n (LY_n (LX_a (e_in he) (LY_a (e_in he) ?_)))
  rw [xcl (by omega), ycl]
  have hc0 : zI cl = 0 ↔ cl = 0 := by rw [zl_0, zI_eq (by omega)]
  by_cases c0 : cl = 0
  · exact LX_t (hc0.mpr c0) (LY_t (hc0.mpr c0) D)
  · refine LX_f (fun z => c0 (hc0.mp z)) (LY_f (fun z => c0 (hc0.mp z)) (LX_a (e_in he) (LY_a (e_in he) (LY_a (e_in he) ?_))))
    rw [xla (by omega), yla, yuna]
    simp only [x_offset]
    rw [zo_pos (show -32768 ≤ una - la ∧ una - la < 32768 by omega)]
    have hc1 : zI (una - la) = 1 ↔ una - la = 1 := by rw [zl_1, zI_eq (by omega)]
    have hc2 : zL la < zL una ↔ la < una := zL_lt (by omega)
    by_cases h1 : una - la = 1
    · refine LX_t (hc1.mpr h1) (LY_t (hc2.mpr (by omega)) (LX_a (e_in he) (LY_a (e_in he) ?_)))
      rw [xst, yst]
      have hc5 : zI st = 5 ↔ st = 5 := by rw [zl_5, zI_eq (by omega)]
      have hc8 : zI st = 8 ↔ st = 8 := by rw [zl_8, zI_eq (by omega)]
      have hc9 : zI st = 9 ↔ st = 9 := by rw [zl_9, zI_eq (by omega)]
      have hcl : cl = 1 := by omega
      subst hcl
      by_cases h5 : st = 5
      · subst h5
        refine LX_t (hc5.mpr rfl) (LY_t (hc5.mpr rfl) (LX_a (e_in he) (LX_n (LY_a (e_in he) (LY_n (LK_r0 (OKp_i (st := 6) (rt := rv) ⟨Or.inr (by omega), rfl, rfl⟩ ⟨RE_in ⟨rfl, rfl, pk_us, xer, fun _ => xtr (by omega), xiss, fun _ => xuna (by omega), fun _ => xnxt (by omega), fun _ => xmx (by omega), fun _ => xla (by omega), fun _ => xcl (by omega), fun _ => xrcv (by omega), xfst, xfi, xun, fun _ => xen (by omega), xwnd, xpk, xhf, xrto, fun _ => xsm (by omega), xsb, xsa, xis, xsmo, xspr, xtm, xsi, pk_us, xwt, xrs, pk_us, yer, ytr, yiss, yuna, ynxt, ymx, yla, ycl, yirs, yrcv, yfi, yun, ywnd, ypk, yhf, yrto, ysa, ysmo, ytm, ysi, pk_us, ywt, yrs, ?_, ?_, I4, ?_, K, C, ?_, W⟩, FR_s F ?_ ?_ rfl⟩ ?_)))))))
        · unfold E1; omega
        · unfold E3 at I3 ⊢; omega
        · exact E5_st J5 (fun z => by omega) (fun z => by omega)
        · exact ⟨H.1, H.2.1, H.2.2.1, fun z => by omega⟩
        · simp only [vX, pk_un hne]
        · simp only [vY, pk_un hne]
        · obtain ⟨a1, a2, a3, a4, a5, a6, a7, a8, a9⟩ := I2
          exact ⟨a1, a2, fun z => by omega, fun z => by omega, fun _ => a5 (by omega), fun z => by omega, fun _ => a7 (by omega), fun _ => by omega, a9⟩
      · refine LX_f (fun z => h5 (hc5.mp z)) (LY_f (fun z => h5 (hc5.mp z)) (LX_a (e_in he) (LY_a (e_in he) ?_)))
        by_cases h8 : st = 8
        · subst h8
          refine LX_t (hc8.mpr rfl) (LY_t (hc8.mpr rfl) ?_)
          unfold wpX_linger wpY_linger
          rw [e_cl he]
          refine LX_a (e_in he) (LX_n (LX_a (e_in he) (LX_n (LY_a (e_in he) (LY_n (LY_a (e_in he) (LY_n (LK_r0 (OKp_i (st := 10) (rt := rv) (rs := now + 20) ⟨Or.inr (by omega), rfl, rfl⟩ ⟨RE_in ⟨rfl, rfl, pk_us, xer, fun _ => xtr (by omega), xiss, fun _ => xuna (by omega), fun _ => xnxt (by omega), fun _ => xmx (by omega), fun _ => xla (by omega), fun _ => xcl (by omega), fun _ => xrcv (by omega), xfst, xfi, xun, fun _ => xen (by omega), xwnd, xpk, xhf, xrto, fun _ => xsm (by omega), xsb, xsa, xis, xsmo, xspr, xtm, xsi, pk_us, xwt, pk_us.trans (zI_add now 20), pk_us, yer, ytr, yiss, yuna, ynxt, ymx, yla, ycl, yirs, yrcv, yfi, yun, ywnd, ypk, yhf, yrto, ysa, ysmo, ytm, ysi, pk_us, ywt, pk_us.trans (zI_add now 20), ?_, ?_, I4, ?_, K, C, ?_, W⟩, FR_s F ?_ ?_ rfl⟩ ?_)))))))))
          · unfold E1; omega
          · unfold E3 at I3 ⊢; omega
          · exact E5_st (E5_rs J5 (by omega)) (fun z => by omega) (fun z => by omega)
          · exact ⟨H.1, H.2.1, H.2.2.1, fun z => H.2.2.2 (by omega)⟩
          · simp only [vX, pk_un hne]
          · simp only [vY, pk_un hne]
          · obtain ⟨a1, a2, a3, a4, a5, a6, a7, a8, a9⟩ := I2
            exact ⟨a1, a2, fun z => by omega, fun z => by omega, fun _ => a5 (by omega), fun z => by omega, fun _ => a7 (by omega), fun _ => by omega, a9⟩
        · have h9 : st = 9 := by omega
          subst h9
          refine LX_f (fun z => h8 (hc8.mp z)) (LY_f (fun z => h8 (hc8.mp z)) (LY_a (e_in he) (LY_t (hc9.mpr rfl) (LY_a (e_in he) ?_))))
          rw [yer]
          refine LK_b (lk_over (why := 0) (code := er) he (by omega) (if_pos (by omega)).symm Q0) ?_
          intro f_now1 f_sent1 a_state1 a_error1 a_tries1 a_iss1 a_una1 a_nxt1 a_max1 a_last1 a_closing1 a_kept1 a_rcv1 a_first1 a_held1 a_fin1 a_unread1 a_came1 a_ended1 a_wnd1 a_peak1 a_half1 a_same1 a_setBy1 a_setAt1 a_isSet1 a_rto1 a_smooth1 a_spread1 a_timed1 a_since1 a_retry1 a_waits1 a_rest1 a_segSeq1 a_segAck1 a_segFlags1 a_segWindow1 a_segLength1 a_segBytes1 a_row1 a_many1 a_taken1 g_now1 g_sent1 b_seq1 b_flags1 b_acked1 b_window1 b_many1 b_data1 b_rows1 b_state1 b_error1 b_iss1 b_una1 b_nxt1 b_max1 b_last1 b_closed1 b_written1 b_irs1 b_unread1 b_bytes1 b_held1 b_rcv1 b_finAt1 b_marked1 b_wnd1 b_peak1 b_half1 b_rto1 b_same1 b_tries1 b_smooth1 b_spread1 b_byNumber1 b_byAck1 b_sampled1 b_told1 b_retry1 b_ackAt1 b_waitAt1 b_timedAt1 b_timed1 R1
          exact LK_r0 (OKp_i ⟨Or.inl rfl, rfl, rfl⟩ R1 (E2_0 I2))
    · exact LX_f (fun z => h1 (hc1.mp z)) (LY_f (fun z => by have := hc2.mp z; omega) D)
theorem lk_fw183 (he : e < 2) (h4 : 4 ≤ st ∧ st ≠ 6 ∧ st ≠ 10) (I2 : E2 L st iss una nxt mx la cl tm) (R : RZ e L now st er tr iss una nxt mx la cl irs rcv fi un fst wnd pk hf rto sa smo tm si rt wt rs nr nw ns u0 v0 (f_now, f_sent, a_state, a_error, a_tries, a_iss, a_una, a_nxt, a_max, a_last, a_closing, a_kept, a_rcv, a_first, a_held, a_fin, a_unread, a_came, a_ended, a_wnd, a_peak, a_half, a_same, a_setBy, a_setAt, a_isSet, a_rto, a_smooth, a_spread, a_timed, a_since, a_retry, a_waits, a_rest, a_segSeq, a_segAck, a_segFlags, a_segWindow, a_segLength, a_segBytes, a_row, a_many, a_taken) (g_now, g_sent, b_seq, b_flags, b_acked, b_window, b_many, b_data, b_rows, b_state, b_error, b_iss, b_una, b_nxt, b_max, b_last, b_closed, b_written, b_irs, b_unread, b_bytes, b_held, b_rcv, b_finAt, b_marked, b_wnd, b_peak, b_half, b_rto, b_same, b_tries, b_smooth, b_spread, b_byNumber, b_byAck, b_sampled, b_told, b_retry, b_ackAt, b_waitAt, b_timedAt, b_timed)) :
    LK ap0 aq0 (fun p => wX_forward_183 p (zI e) (zI ((iss + una) % 65536)) f_now f_sent a_state a_error a_tries a_iss a_una a_nxt a_max a_last a_closing a_kept a_rcv a_first a_held a_fin a_unread a_came a_ended a_wnd a_peak a_half a_same a_setBy a_setAt a_isSet a_rto a_smooth a_spread a_timed a_since a_retry a_waits a_rest a_segSeq a_segAck a_segFlags a_segWindow a_segLength a_segBytes a_row a_many a_taken) (fun p => wY_advance_188 p (zI e) g_now g_sent b_seq b_flags b_acked b_window b_many b_data b_rows b_state b_error b_iss b_una b_nxt b_max b_last b_closed b_written b_irs b_unread b_bytes b_held b_rcv b_finAt b_marked b_wnd b_peak b_half b_rto b_same b_tries b_smooth b_spread b_byNumber b_byAck b_sampled b_told b_retry b_ackAt b_waitAt b_timedAt b_timed) (fun u v => OKp (P04 irs rcv) e L now nr nw ns u0 v0 u v) := by
  have hne : 1 - e ≠ e := by omega
  obtain ⟨R, F⟩ := R
  obtain ⟨rfl, rfl, xst, xer, xtr, xiss, xuna, xnxt, xmx, xla, xcl, xrcv, xfst, xfi, xun, xen, xwnd, xpk, xhf, xrto, xsm, xsb, xsa, xis, xsmo, xspr, xtm, xsi, xrt, xwt, xrs, yst, yer, ytr, yiss, yuna, ynxt, ymx, yla, ycl, yirs, yrcv, yfi, yun, ywnd, ypk, yhf, yrto, ysa, ysmo, ytm, ysi, yrt, ywt, yrs, I1, I3, I4, I5, K, C, H, W⟩ := RE_el R
  have b1 := I1
  unfold E1 at b1
  have b2 := E2_b I2 (by omega)
  have b4 := I4
  unfold E4 at b4
  unfold wX_forward_183 wY_advance_188
  refine LX_a (e_in he) (LY_a (e_in he) ?_)
  rw [e_cl he]
  refine LX_n (LY_n (LX_a (e_in he) (LY_a (e_in he) (LY_a (e_in he) ?_))))
  rw [xmx (by omega), ymx, yuna]
  have Q0 : RZ e L now st er tr iss una nxt mx la cl irs rcv fi un fst wnd pk hf rto sa smo tm si rt wt rs nr nw ns u0 v0 (zI now, f_sent, a_state, a_error, a_tries, a_iss, a_una, a_nxt, a_max, a_last, a_closing, a_kept, a_rcv, a_first, a_held, a_fin, a_unread, a_came, a_ended, a_wnd, a_peak, a_half, upd a_same e 0, a_setBy, a_setAt, a_isSet, a_rto, a_smooth, a_spread, a_timed, a_since, a_retry, a_waits, a_rest, a_segSeq, a_segAck, a_segFlags, a_segWindow, a_segLength, a_segBytes, a_row, a_many, a_taken) (zI now, g_sent, b_seq, b_flags, b_acked, b_window, b_many, b_data, b_rows, b_state, b_error, b_iss, b_una, b_nxt, b_max, b_last, b_closed, b_written, b_irs, b_unread, b_bytes, b_held, b_rcv, b_finAt, b_marked, b_wnd, b_peak, b_half, b_rto, upd b_same e 0, b_tries, b_smooth, b_spread, b_byNumber, b_byAck, b_sampled, b_told, b_retry, b_ackAt, b_waitAt, b_timedAt, b_timed) := by
    refine ⟨RE_in ⟨rfl, rfl, xst, xer, xtr, xiss, xuna, xnxt, xmx, xla, xcl, xrcv, xfst, xfi, xun, xen, xwnd, xpk, xhf, xrto, fun _ => pk_us.trans pk_us.symm, xsb, xsa, xis, xsmo, xspr, xtm, xsi, xrt, xwt, xrs, yst, yer, ytr, yiss, yuna, ynxt, ymx, yla, ycl, yirs, yrcv, yfi, yun, ywnd, ypk, yhf, yrto, ysa, ysmo, ytm, ysi, yrt, ywt, yrs, I1, I3, I4, I5, K, C, H, W⟩, FR_s F ?_ ?_ rfl⟩
    · simp only [vX, pk_un hne]
    · simp only [vY, pk_un hne]
  have hc1 : zI ((iss + una) % 65536) = zI ((iss + mx) % 65536) ↔ una = mx := by rw [zI_eq (by omega), zm_eq (by omega)]
  have hc2 : zL una = zL mx ↔ una = mx := zL_eq (by omega)
  by_cases h : una = mx
  · exact LX_t (hc1.mpr h) (LY_t (hc2.mpr h) (lk_fw220 (rv := -1) he h4 (Or.inl rfl) I2 Q0))
  · refine LX_f (fun z => h (hc1.mp z)) (LY_f (fun z => h (hc2.mp z)) (LX_a (e_in he) (LY_a (e_in he) ?_)))
    rw [xrto, yrto, zI_add]
    exact lk_fw220 (rv := now + rto) he h4 (by omega) I2 Q0
theorem lk_fw100 (he : e < 2) (h4 : 4 ≤ st ∧ st ≠ 6 ∧ st ≠ 10) (I2 : E2 L st iss una nxt mx la cl tm) (R : RZ e L now st er tr iss una nxt mx la cl irs rcv fi un fst wnd pk hf rto sa smo tm si rt wt rs nr nw ns u0 v0 (f_now, f_sent, a_state, a_error, a_tries, a_iss, a_una, a_nxt, a_max, a_last, a_closing, a_kept, a_rcv, a_first, a_held, a_fin, a_unread, a_came, a_ended, a_wnd, a_peak, a_half, a_same, a_setBy, a_setAt, a_isSet, a_rto, a_smooth, a_spread, a_timed, a_since, a_retry, a_waits, a_rest, a_segSeq, a_segAck, a_segFlags, a_segWindow, a_segLength, a_segBytes, a_row, a_many, a_taken) (g_now, g_sent, b_seq, b_flags, b_acked, b_window, b_many, b_data, b_rows, b_state, b_error, b_iss, b_una, b_nxt, b_max, b_last, b_closed, b_written, b_irs, b_unread, b_bytes, b_held, b_rcv, b_finAt, b_marked, b_wnd, b_peak, b_half, b_rto, b_same, b_tries, b_smooth, b_spread, b_byNumber, b_byAck, b_sampled, b_told, b_retry, b_ackAt, b_waitAt, b_timedAt, b_timed)) :
    LK ap0 aq0 (fun p => wX_forward_100 p (zI e) (zI ((iss + una) % 65536)) f_now f_sent a_state a_error a_tries a_iss a_una a_nxt a_max a_last a_closing a_kept a_rcv a_first a_held a_fin a_unread a_came a_ended a_wnd a_peak a_half a_same a_setBy a_setAt a_isSet a_rto a_smooth a_spread a_timed a_since a_retry a_waits a_rest a_segSeq a_segAck a_segFlags a_segWindow a_segLength a_segBytes a_row a_many a_taken) (fun p => wY_advance_106 p (zI e) g_now g_sent b_seq b_flags b_acked b_window b_many b_data b_rows b_state b_error b_iss b_una b_nxt b_max b_last b_closed b_written b_irs b_unread b_bytes b_held b_rcv b_finAt b_marked b_wnd b_peak b_half b_rto b_same b_tries b_smooth b_spread b_byNumber b_byAck b_sampled b_told b_retry b_ackAt b_waitAt b_timedAt b_timed) (fun u v => OKp (P04 irs rcv) e L now nr nw ns u0 v0 u v) := by
  have hne : 1 - e ≠ e := by omega
  have R0 := R
  obtain ⟨R, F⟩ := R
  obtain ⟨rfl, rfl, xst, xer, xtr, xiss, xuna, xnxt, xmx, xla, xcl, xrcv, xfst, xfi, xun, xen, xwnd, xpk, xhf, xrto, xsm, xsb, xsa, xis, xsmo, xspr, xtm, xsi, xrt, xwt, xrs, yst, yer, ytr, yiss, yuna, ynxt, ymx, yla, ycl, yirs, yrcv, yfi, yun, ywnd, ypk, yhf, yrto, ysa, ysmo, ytm, ysi, yrt, ywt, yrs, I1, I3, I4, I5, K, C, H, W⟩ := RE_el R
  have b4 := I4
  unfold E4 at b4
  have Q0 : ∀ p' : Int, 8 ≤ p' ∧ p' ≤ 64 → ∀ bp : Nat → Int32, (bp e = zI p' ∧ bp (1 - e) = b_peak (1 - e)) → RZ e L now st er tr iss una nxt mx la cl irs rcv fi un fst wnd p' hf rto sa smo tm si rt wt rs nr nw ns u0 v0 (zI now, f_sent, a_state, a_error, a_tries, a_iss, a_una, a_nxt, a_max, a_last, a_closing, a_kept, a_rcv, a_first, a_held, a_fin, a_unread, a_came, a_ended, a_wnd, upd a_peak e (zI p'), a_half, a_same, a_setBy, a_setAt, a_isSet, a_rto, a_smooth, a_spread, a_timed, a_since, a_retry, a_waits, a_rest, a_segSeq, a_segAck, a_segFlags, a_segWindow, a_segLength, a_segBytes, a_row, a_many, a_taken) (zI now, g_sent, b_seq, b_flags, b_acked, b_window, b_many, b_data, b_rows, b_state, b_error, b_iss, b_una, b_nxt, b_max, b_last, b_closed, b_written, b_irs, b_unread, b_bytes, b_held, b_rcv, b_finAt, b_marked, b_wnd, bp, b_half, b_rto, b_same, b_tries, b_smooth, b_spread, b_byNumber, b_byAck, b_sampled, b_told, b_retry, b_ackAt, b_waitAt, b_timedAt, b_timed) := by
    intro p' hp bp hbp
    refine ⟨RE_in ⟨rfl, rfl, xst, xer, xtr, xiss, xuna, xnxt, xmx, xla, xcl, xrcv, xfst, xfi, xun, xen, xwnd, pk_us, xhf, xrto, xsm, xsb, xsa, xis, xsmo, xspr, xtm, xsi, xrt, xwt, xrs, yst, yer, ytr, yiss, yuna, ynxt, ymx, yla, ycl, yirs, yrcv, yfi, yun, ywnd, hbp.1, yhf, yrto, ysa, ysmo, ytm, ysi, yrt, ywt, yrs, I1, I3, ⟨b4.1, hp, b4.2.2⟩, I5, K, C, H, W⟩, FR_s F ?_ ?_ rfl⟩
    · simp only [vX, pk_un hne]
    · simp only [vY, hbp.2]
  unfold wX_forward_100 wY_advance_106 wY_advance_167 wY_advance_169
  refine LX_a (e_in he) (LY_a (e_in he) ?_)
  rw [e_cl he, xsm (by omega)]
  have hc : b_same e ≤ 2 ↔ b_same e < 3 := by
    rw [Int32.le_iff_toInt_le, Int32.lt_iff_toInt_lt, show (2 : Int32).toInt = 2 from rfl, show (3 : Int32).toInt = 3 from rfl]; omega
  by_cases h : b_same e ≤ 2
  · refine LX_t h (LY_t (hc.mp h) (LX_a (e_in he) (LX_a (e_in he) (LX_a (e_in he) (LY_a (e_in he) (LY_a (e_in he) (LY_a (e_in he) ?_)))))))
    rw [xhf, yhf, xpk, ypk]
    have D : ∀ g' : Int, 1 ≤ g' ∧ g' ≤ 8 → LK ap0 aq0 (fun p => wX_forward_160 p (zI e) (zI ((iss + una) % 65536)) (zI g') (zI pk) (zI now) f_sent a_state a_error a_tries a_iss a_una a_nxt a_max a_last a_closing a_kept a_rcv a_first a_held a_fin a_unread a_came a_ended a_wnd a_peak a_half a_same a_setBy a_setAt a_isSet a_rto a_smooth a_spread a_timed a_since a_retry a_waits a_rest a_segSeq a_segAck a_segFlags a_segWindow a_segLength a_segBytes a_row a_many a_taken) (fun p => vp_in (zI e) 2 ∧ ∀ b_pk : Nat → Int32, b_pk = upd b_peak e (zI pk + zI g') → (vp_in (zI e) 2 ∧ ((b_pk e ≤ 64 → wY_advance_188 p (zI e) (zI now) g_sent b_seq b_flags b_acked b_window b_many b_data b_rows b_state b_error b_iss b_una b_nxt b_max b_last b_closed b_written b_irs b_unread b_bytes b_held b_rcv b_finAt b_marked b_wnd b_pk b_half b_rto b_same b_tries b_smooth b_spread b_byNumber b_byAck b_sampled b_told b_retry b_ackAt b_waitAt b_timedAt b_timed) ∧ (¬ b_pk e ≤ 64 → (vp_in (zI e) 2 ∧ ∀ b_pk2 : Nat → Int32, b_pk2 = upd b_pk e 64 → wY_advance_188 p (zI e) (zI now) g_sent b_seq b_flags b_acked b_window b_many b_data b_rows b_state b_error b_iss b_una b_nxt b_max b_last b_closed b_written b_irs b_unread b_bytes b_held b_rcv b_finAt b_marked b_wnd b_pk2 b_half b_rto b_same b_tries b_smooth b_spread b_byNumber b_byAck b_sampled b_told b_retry b_ackAt b_waitAt b_timedAt b_timed))))) (fun u v => OKp (P04 irs rcv) e L now nr nw ns u0 v0 u v) := by
      intro g' hg
      refine LY_a (e_in he) (LY_n (LY_a (e_in he) ?_))
      unfold wX_forward_160 wX_forward_182
      rw [pk_us, zI_add, e_cl he]
      refine LX_n ?_
      have hc6 : zI (pk + g') ≤ 64 ↔ pk + g' ≤ 64 := by rw [zl_64, zI_le (by omega)]
      by_cases h6 : pk + g' ≤ 64
      · refine LX_t (hc6.mpr h6) (LY_t (hc6.mpr h6) (LX_a (e_in he) (LX_n ?_)))
        exact lk_fw183 he h4 I2 (Q0 _ (by omega) _ ⟨pk_us, pk_un hne⟩)
      · refine LX_f (fun z => h6 (hc6.mp z)) (LY_f (fun z => h6 (hc6.mp z)) (LX_a (e_in he) (LX_n (LY_a (e_in he) (LY_n ?_)))))
        exact lk_fw183 he h4 I2 (Q0 64 (by omega) _ ⟨pk_us, by rw [pk_un hne, pk_un hne]⟩)
    have hch : zI hf ≤ zI pk ↔ hf ≤ pk := zI_le (by omega)
    by_cases hh : hf ≤ pk
    · have hp0 : ¬ zI pk = 0 := by rw [zl_0, zI_eq (by omega)]; omega
      have hd : 1 ≤ 64 / pk ∧ 64 / pk ≤ 8 := ⟨Int.le_ediv_of_mul_le (by omega) (by omega), Int.ediv_le_of_le_mul (by omega) (by omega)⟩
      refine LX_t (hch.mpr hh) (LY_t (hch.mpr hh) (LX_a (e_in he) (LX_a hp0 (LY_a (e_in he) (LY_a hp0 ?_)))))
      rw [zl_64, zI_div (by omega)]
      exact D _ hd
    · exact LX_f (fun z => hh (hch.mp z)) (LY_f (fun z => hh (hch.mp z)) (D 8 (by omega)))
  · refine LX_f h (LY_f (fun z => h (hc.mpr z)) (LX_a (e_in he) (LX_a (e_in he) (LY_a (e_in he) (LY_a (e_in he) ?_)))))
    rw [xhf, yhf]
    refine LX_n (LY_n (LY_a (e_in he) ?_))
    rw [pk_us]
    refine LY_t (by rw [zl_64, zI_le (by omega)]; omega) ?_
    exact lk_fw183 he h4 I2 (Q0 hf (by omega) _ ⟨pk_us, pk_un hne⟩)
theorem lk_fw66 (he : e < 2) (h4 : 4 ≤ st ∧ st ≠ 6 ∧ st ≠ 10) (I2 : E2 L st iss una nxt mx la cl (-1)) (ht : tm = -1 ∨ tm < mx ∧ una - 40 ≤ tm ∧ 0 ≤ tm) (R : RZ e L now st er tr iss una nxt mx la cl irs rcv fi un fst wnd pk hf rto sa smo tm si rt wt rs nr nw ns u0 v0 (f_now, f_sent, a_state, a_error, a_tries, a_iss, a_una, a_nxt, a_max, a_last, a_closing, a_kept, a_rcv, a_first, a_held, a_fin, a_unread, a_came, a_ended, a_wnd, a_peak, a_half, a_same, a_setBy, a_setAt, a_isSet, a_rto, a_smooth, a_spread, a_timed, a_since, a_retry, a_waits, a_rest, a_segSeq, a_segAck, a_segFlags, a_segWindow, a_segLength, a_segBytes, a_row, a_many, a_taken) (g_now, g_sent, b_seq, b_flags, b_acked, b_window, b_many, b_data, b_rows, b_state, b_error, b_iss, b_una, b_nxt, b_max, b_last, b_closed, b_written, b_irs, b_unread, b_bytes, b_held, b_rcv, b_finAt, b_marked, b_wnd, b_peak, b_half, b_rto, b_same, b_tries, b_smooth, b_spread, b_byNumber, b_byAck, b_sampled, b_told, b_retry, b_ackAt, b_waitAt, b_timedAt, b_timed)) :
    LK ap0 aq0 (fun p => wX_forward_66 p (zI e) (zI ((iss + una) % 65536)) f_now f_sent a_state a_error a_tries a_iss a_una a_nxt a_max a_last a_closing a_kept a_rcv a_first a_held a_fin a_unread a_came a_ended a_wnd a_peak a_half a_same a_setBy a_setAt a_isSet a_rto a_smooth a_spread a_timed a_since a_retry a_waits a_rest a_segSeq a_segAck a_segFlags a_segWindow a_segLength a_segBytes a_row a_many a_taken) (fun p => wY_advance_67 p (zI e) g_now g_sent b_seq b_flags b_acked b_window b_many b_data b_rows b_state b_error b_iss b_una b_nxt b_max b_last b_closed b_written b_irs b_unread b_bytes b_held b_rcv b_finAt b_marked b_wnd b_peak b_half b_rto b_same b_tries b_smooth b_spread b_byNumber b_byAck b_sampled b_told b_retry b_ackAt b_waitAt b_timedAt b_timed) (fun u v => OKp (P04 irs rcv) e L now nr nw ns u0 v0 u v) := by
  have hne : 1 - e ≠ e := by omega
  obtain ⟨R, F⟩ := R
  obtain ⟨rfl, rfl, xst, xer, xtr, xiss, xuna, xnxt, xmx, xla, xcl, xrcv, xfst, xfi, xun, xen, xwnd, xpk, xhf, xrto, xsm, xsb, xsa, xis, xsmo, xspr, xtm, xsi, xrt, xwt, xrs, yst, yer, ytr, yiss, yuna, ynxt, ymx, yla, ycl, yirs, yrcv, yfi, yun, ywnd, ypk, yhf, yrto, ysa, ysmo, ytm, ysi, yrt, ywt, yrs, I1, I3, I4, I5, K, C, H, W⟩ := RE_el R
  have b1 := I1
  unfold E1 at b1
  have b2 := E2_b I2 (by omega)
  have nfr := nf_r iss tm
  unfold wX_forward_66 wY_advance_67
  refine LX_a (e_in he) (LY_a (e_in he) ?_)
  rw [e_cl he]
  refine LX_n (LY_n (LX_a (e_in he) (LY_a (e_in he) ?_)))
  rw [xtm, ytm]
  have Q0 : RZ e L now st er 0 iss una nxt mx la cl irs rcv fi un fst wnd pk hf rto sa smo tm si rt wt rs nr nw ns u0 v0 (zI now, f_sent, a_state, a_error, upd a_tries e (vp_nar .byte 0), a_iss, a_una, a_nxt, a_max, a_last, a_closing, a_kept, a_rcv, a_first, a_held, a_fin, a_unread, a_came, a_ended, a_wnd, a_peak, a_half, a_same, a_setBy, a_setAt, a_isSet, a_rto, a_smooth, a_spread, a_timed, a_since, a_retry, a_waits, a_rest, a_segSeq, a_segAck, a_segFlags, a_segWindow, a_segLength, a_segBytes, a_row, a_many, a_taken) (zI now, g_sent, b_seq, b_flags, b_acked, b_window, b_many, b_data, b_rows, b_state, b_error, b_iss, b_una, b_nxt, b_max, b_last, b_closed, b_written, b_irs, b_unread, b_bytes, b_held, b_rcv, b_finAt, b_marked, b_wnd, b_peak, b_half, b_rto, b_same, upd b_tries e 0, b_smooth, b_spread, b_byNumber, b_byAck, b_sampled, b_told, b_retry, b_ackAt, b_waitAt, b_timedAt, b_timed) := by
    refine ⟨RE_in ⟨rfl, rfl, xst, xer, fun _ => pk_us, xiss, xuna, xnxt, xmx, xla, xcl, xrcv, xfst, xfi, xun, xen, xwnd, xpk, xhf, xrto, xsm, xsb, xsa, xis, xsmo, xspr, xtm, xsi, xrt, xwt, xrs, yst, yer, pk_us, yiss, yuna, ynxt, ymx, yla, ycl, yirs, yrcv, yfi, yun, ywnd, ypk, yhf, yrto, ysa, ysmo, ytm, ysi, yrt, ywt, yrs, ?_, I3, I4, I5, K, C, H, W⟩, FR_s F ?_ ?_ rfl⟩
    · unfold E1; omega
    · simp only [vX, pk_un hne]
    · simp only [vY, pk_un hne]
  have hc1 : zI (nf iss tm) < 0 ↔ tm < 0 := by rw [zl_0, zI_lt (by omega), nf_s]
  have hc2 : zL tm < 0 ↔ tm < 0 := by rw [zk_0, zL_lt (by omega)]
  by_cases h : tm < 0
  · have htm : tm = -1 := by omega
    subst htm
    exact LX_t (hc1.mpr h) (LY_t (hc2.mpr h) (lk_fw100 he h4 I2 Q0))
  · refine LX_f (fun z => h (hc1.mp z)) (LY_f (fun z => h (hc2.mp z)) (LX_a (e_in he) (LY_a (e_in he) (LY_a (e_in he) ?_))))
    rw [nf_p (show 0 ≤ tm by omega), yuna]
    simp only [x_offset]
    rw [zo_pos (show -32768 ≤ tm - una ∧ tm - una < 32768 by omega)]
    have hc3 : 0 ≤ zI (tm - una) ↔ una ≤ tm := by rw [zl_0, zI_le (by omega)]; omega
    have hc4 : zL una ≤ zL tm ↔ una ≤ tm := zL_le (by omega)
    by_cases h1 : una ≤ tm
    · have J2 : E2 L st iss una nxt mx la cl tm := by
        obtain ⟨a1, a2, a3, a4, a5, a6, a7, a8, a9⟩ := I2
        exact ⟨a1, a2, a3, fun z => by omega, a5, a6, a7, a8, Or.inr (by omega)⟩
      exact LX_t (hc3.mpr h1) (LY_t (hc4.mpr h1) (lk_fw100 he h4 J2 Q0))
    · refine LX_f (fun z => h1 (hc3.mp z)) (LY_f (fun z => h1 (hc4.mp z)) ?_)
      refine LK_b (lk_measure he Q0) ?_
      intro f_now1 f_sent1 a_state1 a_error1 a_tries1 a_iss1 a_una1 a_nxt1 a_max1 a_last1 a_closing1 a_kept1 a_rcv1 a_first1 a_held1 a_fin1 a_unread1 a_came1 a_ended1 a_wnd1 a_peak1 a_half1 a_same1 a_setBy1 a_setAt1 a_isSet1 a_rto1 a_smooth1 a_spread1 a_timed1 a_since1 a_retry1 a_waits1 a_rest1 a_segSeq1 a_segAck1 a_segFlags1 a_segWindow1 a_segLength1 a_segBytes1 a_row1 a_many1 a_taken1 g_now1 g_sent1 b_seq1 b_flags1 b_acked1 b_window1 b_many1 b_data1 b_rows1 b_state1 b_error1 b_iss1 b_una1 b_nxt1 b_max1 b_last1 b_closed1 b_written1 b_irs1 b_unread1 b_bytes1 b_held1 b_rcv1 b_finAt1 b_marked1 b_wnd1 b_peak1 b_half1 b_rto1 b_same1 b_tries1 b_smooth1 b_spread1 b_byNumber1 b_byAck1 b_sampled1 b_told1 b_retry1 b_ackAt1 b_waitAt1 b_timedAt1 b_timed1 R1
      obtain ⟨r', s', R1⟩ := R1
      exact lk_fw100 he h4 I2 R1
/-- positions, as they are while SYN_RECEIVED becomes ESTABLISHED -/
def E2w (L st iss una nxt mx la cl tm : Int) : Prop := (0 ≤ iss ∧ iss ≤ 65535) ∧ (0 ≤ una ∧ 1 ≤ la ∧ la ≤ L ∧ L ≤ 1099511627776) ∧ (una ≤ nxt ∧ nxt ≤ mx ∧ mx ≤ la + cl ∧ la ≤ una + 33) ∧ (st = 6 ∨ st = 10 → una = mx) ∧ (tm = -1 ∨ una ≤ tm ∧ tm < mx)
theorem E2_w (h : E2 L st iss una nxt mx la cl tm) (h4 : 2 ≤ st) : E2w L st iss una nxt mx la cl tm := by
  obtain ⟨a1, a2, a3, a4, a5, a6, a7, a8, a9⟩ := h
  have := a5 h4
  exact ⟨a1, a2, by omega, a8, a9⟩
theorem E2_w3 (h : E2 L 3 iss una nxt mx la cl tm) : E2w L 4 iss una nxt mx la cl tm := by
  obtain ⟨a1, a2, a3, a4, a5, a6, a7, a8, a9⟩ := h
  have := a5 (by omega)
  exact ⟨a1, a2, by omega, fun z => by omega, a9⟩
/-- forward and advance: d more positions are acknowledged -/
theorem lk_forward {d : Int} (he : e < 2) (h4 : 4 ≤ st) (hd : 0 < d ∧ d ≤ mx - una) (I2 : E2w L st iss una nxt mx la cl tm) (R : RZ e L now st er tr iss una nxt mx la cl irs rcv fi un fst wnd pk hf rto sa smo tm si rt wt rs nr nw ns u0 v0 (f_now, f_sent, a_state, a_error, a_tries, a_iss, a_una, a_nxt, a_max, a_last, a_closing, a_kept, a_rcv, a_first, a_held, a_fin, a_unread, a_came, a_ended, a_wnd, a_peak, a_half, a_same, a_setBy, a_setAt, a_isSet, a_rto, a_smooth, a_spread, a_timed, a_since, a_retry, a_waits, a_rest, a_segSeq, a_segAck, a_segFlags, a_segWindow, a_segLength, a_segBytes, a_row, a_many, a_taken) (g_now, g_sent, b_seq, b_flags, b_acked, b_window, b_many, b_data, b_rows, b_state, b_error, b_iss, b_una, b_nxt, b_max, b_last, b_closed, b_written, b_irs, b_unread, b_bytes, b_held, b_rcv, b_finAt, b_marked, b_wnd, b_peak, b_half, b_rto, b_same, b_tries, b_smooth, b_spread, b_byNumber, b_byAck, b_sampled, b_told, b_retry, b_ackAt, b_waitAt, b_timedAt, b_timed)) :
    LK ap0 aq0 (fun p => wpX_forward p (f_now, f_sent, a_state, a_error, a_tries, a_iss, a_una, a_nxt, a_max, a_last, a_closing, a_kept, a_rcv, a_first, a_held, a_fin, a_unread, a_came, a_ended, a_wnd, a_peak, a_half, a_same, a_setBy, a_setAt, a_isSet, a_rto, a_smooth, a_spread, a_timed, a_since, a_retry, a_waits, a_rest, a_segSeq, a_segAck, a_segFlags, a_segWindow, a_segLength, a_segBytes, a_row, a_many, a_taken) (zI e) (zI ((iss + (una + d)) % 65536))) (fun p => wpY_advance p (g_now, g_sent, b_seq, b_flags, b_acked, b_window, b_many, b_data, b_rows, b_state, b_error, b_iss, b_una, b_nxt, b_max, b_last, b_closed, b_written, b_irs, b_unread, b_bytes, b_held, b_rcv, b_finAt, b_marked, b_wnd, b_peak, b_half, b_rto, b_same, b_tries, b_smooth, b_spread, b_byNumber, b_byAck, b_sampled, b_told, b_retry, b_ackAt, b_waitAt, b_timedAt, b_timed) (zI e) (zI d)) (fun u v => OKp (P04 irs rcv) e L now nr nw ns u0 v0 u v) := by
  have hne : 1 - e ≠ e := by omega
  obtain ⟨R, F⟩ := R
  obtain ⟨rfl, rfl, xst, xer, xtr, xiss, xuna, xnxt, xmx, xla, xcl, xrcv, xfst, xfi, xun, xen, xwnd, xpk, xhf, xrto, xsm, xsb, xsa, xis, xsmo, xspr, xtm, xsi, xrt, xwt, xrs, yst, yer, ytr, yiss, yuna, ynxt, ymx, yla, ycl, yirs, yrcv, yfi, yun, ywnd, ypk, yhf, yrto, ysa, ysmo, ytm, ysi, yrt, ywt, yrs, I1, I3, I4, I5, K, C, H, W⟩ := RE_el R
  have b1 := I1
  unfold E1 at b1
  have b2 := I2
  unfold E2w at b2
  have b4 := I4
  unfold E4 at b4
  have hst : 4 ≤ st ∧ st ≠ 6 ∧ st ≠ 10 := by omega
  obtain ⟨w', hw⟩ : ∃ w' : Int, w' = if wnd ≤ d then 0 else wnd - d := ⟨_, rfl⟩
  have hw' : 0 ≤ w' ∧ w' ≤ 24 := by rw [hw]; split <;> omega
  obtain ⟨n', hn⟩ : ∃ n' : Int, n' = if nxt < una + d then una + d else nxt := ⟨_, rfl⟩
  have hn' : una + d ≤ n' ∧ n' ≤ mx := by rw [hn]; split <;> omega
  have J2 : E2 L st iss (una + d) n' mx la cl (-1) := by
    exact ⟨b2.1, by omega, fun z => by omega, fun z => by omega, fun _ => by omega, fun z => by omega, fun z => by omega, fun z => by omega, Or.inl rfl⟩
  have Q0 : ∀ (an : Nat → Int32) (bn : Nat → Int64), an e = zI ((iss + n') % 65536) → an (1 - e) = a_nxt (1 - e) → bn e = zL n' → bn (1 - e) = b_nxt (1 - e) → RZ e L now st er tr iss (una + d) n' mx la cl irs rcv fi un fst w' pk hf rto sa smo tm si rt wt rs nr nw ns u0 v0 (zI now, f_sent, a_state, a_error, a_tries, a_iss, upd a_una e (zI ((iss + (una + d)) % 65536)), an, a_max, a_last, a_closing, a_kept, a_rcv, a_first, a_held, a_fin, a_unread, a_came, a_ended, upd a_wnd e (zI w'), a_peak, a_half, a_same, a_setBy, a_setAt, a_isSet, a_rto, a_smooth, a_spread, a_timed, a_since, a_retry, a_waits, a_rest, a_segSeq, a_segAck, a_segFlags, a_segWindow, a_segLength, a_segBytes, a_row, a_many, a_taken) (zI now, g_sent, b_seq, b_flags, b_acked, b_window, b_many, b_data, b_rows, b_state, b_error, b_iss, vp_updL b_una e (zL (una + d)), bn, b_max, b_last, b_closed, b_written, b_irs, b_unread, b_bytes, b_held, b_rcv, b_finAt, b_marked, upd b_wnd e (zI w'), b_peak, b_half, b_rto, b_same, b_tries, b_smooth, b_spread, b_byNumber, b_byAck, b_sampled, b_told, b_retry, b_ackAt, b_waitAt, b_timedAt, b_timed) := by
    intro an bn h1 h2 h3 h5
    refine ⟨RE_in ⟨rfl, rfl, xst, xer, xtr, xiss, fun _ => pk_us, fun _ => h1, xmx, xla, xcl, xrcv, xfst, xfi, xun, xen, pk_us, xpk, xhf, xrto, xsm, xsb, xsa, xis, xsmo, xspr, xtm, xsi, xrt, xwt, xrs, yst, yer, ytr, yiss, pk_uLs, h3, ymx, yla, ycl, yirs, yrcv, yfi, yun, pk_us, ypk, yhf, yrto, ysa, ysmo, ytm, ysi, yrt, ywt, yrs, I1, I3, ⟨hw', b4.2⟩, I5, ?_, C, H, W⟩, FR_s F ?_ ?_ rfl⟩
    · intro p h1 h2 h3; exact K p h1 (by omega) h3
    · simp only [vX, pk_un hne, h2]
    · simp only [vY, pk_un hne, pk_uLn hne, h5]
  have hwx : zI wnd ≤ zI d ↔ wnd ≤ d := zI_le (by omega)
  have hwy : zI d ≤ zI wnd ↔ d ≤ wnd := zI_le (by omega)
  have hX : ∀ p, wX_forward_38 p (zI e) (zI ((iss + (una + d)) % 65536)) (zI w') (zI e) (zI now) f_sent a_state a_error a_tries a_iss a_una a_nxt a_max a_last a_closing a_kept a_rcv a_first a_held a_fin a_unread a_came a_ended a_wnd a_peak a_half a_same a_setBy a_setAt a_isSet a_rto a_smooth a_spread a_timed a_since a_retry a_waits a_rest a_segSeq a_segAck a_segFlags a_segWindow a_segLength a_segBytes a_row a_many a_taken → wpX_forward p (zI now, f_sent, a_state, a_error, a_tries, a_iss, a_una, a_nxt, a_max, a_last, a_closing, a_kept, a_rcv, a_first, a_held, a_fin, a_unread, a_came, a_ended, a_wnd, a_peak, a_half, a_same, a_setBy, a_setAt, a_isSet, a_rto, a_smooth, a_spread, a_timed, a_since, a_retry, a_waits, a_rest, a_segSeq, a_segAck, a_segFlags, a_segWindow, a_segLength, a_segBytes, a_row, a_many, a_taken) (zI e) (zI ((iss + (una + d)) % 65536)) := by
    intro p h
    unfold wpX_forward
    refine ⟨e_in he, ?_⟩
    rw [e_cl he, xuna (by omega), x_offset, zo_pos (by omega), show una + d - una = d by omega]
    refine ⟨e_in he, ?_⟩
    rw [xwnd]
    by_cases h1 : wnd ≤ d
    · rw [if_pos h1] at hw
      subst hw
      exact br_t (hwx.mpr h1) h
    · rw [if_neg h1] at hw
      subst hw
      refine br_f (fun z => h1 (hwx.mp z)) ⟨e_in he, ?_⟩
      rw [zI_sub]; exact h
  have hY : ∀ p, wY_advance_38 p (zI e) (zI w') (zI e) (zI now) g_sent b_seq b_flags b_acked b_window b_many b_data b_rows b_state b_error b_iss (vp_updL b_una e (zL (una + d))) b_nxt b_max b_last b_closed b_written b_irs b_unread b_bytes b_held b_rcv b_finAt b_marked b_wnd b_peak b_half b_rto b_same b_tries b_smooth b_spread b_byNumber b_byAck b_sampled b_told b_retry b_ackAt b_waitAt b_timedAt b_timed → wpY_advance p (zI now, g_sent, b_seq, b_flags, b_acked, b_window, b_many, b_data, b_rows, b_state, b_error, b_iss, b_una, b_nxt, b_max, b_last, b_closed, b_written, b_irs, b_unread, b_bytes, b_held, b_rcv, b_finAt, b_marked, b_wnd, b_peak, b_half, b_rto, b_same, b_tries, b_smooth, b_spread, b_byNumber, b_byAck, b_sampled, b_told, b_retry, b_ackAt, b_waitAt, b_timedAt, b_timed) (zI e) (zI d) := by
    intro p h
    unfold wpY_advance
    refine ⟨e_in he, e_in he, ?_⟩
    rw [e_cl he, yuna, zI_l (by omega), zL_add]
    refine nm_e ⟨e_in he, ?_⟩
    rw [ywnd]
    by_cases h1 : d ≤ wnd
    · have hw2 : w' = wnd - d := by rw [hw]; split <;> omega
      subst hw2
      refine br_t (hwy.mpr h1) ⟨e_in he, ?_⟩
      rw [zI_sub]; exact h
    · have hw2 : w' = 0 := by rw [hw]; split <;> omega
      subst hw2
      exact br_f (fun z => h1 (hwy.mp z)) h
  refine LK_x hX (LK_y hY ?_)
  clear hX hY
  unfold wX_forward_38 wY_advance_38
  refine LX_a (e_in he) (LY_a (e_in he) ?_)
  rw [e_cl he]
  refine LX_n (LY_n (LX_a (e_in he) (LY_a (e_in he) (LY_a (e_in he) ?_))))
  refine LX_n (LX_a (e_in he) ?_)
  rw [xnxt (by omega), ynxt, pk_uLs]
  simp only [x_offset]
  rw [zo_pos (show -32768 ≤ nxt - (una + d) ∧ nxt - (una + d) < 32768 by omega)]
  have hc1 : 0 ≤ zI (nxt - (una + d)) ↔ una + d ≤ nxt := by rw [zl_0, zI_le (by omega)]; omega
  have hc2 : zL (una + d) ≤ zL nxt ↔ una + d ≤ nxt := zL_le (by omega)
  by_cases h1 : una + d ≤ nxt
  · have hn2 : n' = nxt := by rw [hn]; split <;> omega
    refine LX_t (hc1.mpr h1) (LY_t (hc2.mpr h1) ?_)
    exact lk_fw66 he hst J2 (by omega) (Q0 a_nxt b_nxt (by rw [xnxt (by omega), hn2]) rfl (by rw [ynxt, hn2]) rfl)
  · have hn2 : n' = una + d := by rw [hn]; split <;> omega
    refine LX_f (fun z => h1 (hc1.mp z)) (LY_f (fun z => h1 (hc2.mp z)) (LX_a (e_in he) (LX_n (LY_a (e_in he) (LY_a (e_in he) (LY_n ?_))))))
    exact lk_fw66 he hst J2 (by omega) (Q0 _ _ (by rw [pk_us, hn2]) (pk_un hne) (by rw [pk_uLs, hn2]) (pk_uLn hne))
end
end
section
/-! likewise, widen, judge -/
section
variable {e : Nat} {L now : Int} {st er tr iss una nxt mx la cl irs rcv fi un fst wnd pk hf rto sa smo tm si rt wt rs nr nw ns : Int} {f_now f_sent : Int32} {a_state a_error a_tries a_iss a_una a_nxt a_max a_last a_closing a_kept a_rcv a_first a_held a_fin a_unread a_came a_ended a_wnd a_peak a_half a_same a_setBy a_setAt a_isSet a_rto a_smooth a_spread a_timed a_since a_retry a_waits a_rest a_segSeq a_segAck a_segFlags a_segWindow a_segLength a_segBytes a_row a_many a_taken : Nat → Int32} {g_now g_sent : Int32} {b_seq b_flags b_acked b_window b_many b_data b_rows b_state b_error b_iss : Nat → Int32} {b_una b_nxt b_max b_last : Nat → Int64} {b_closed b_written b_irs b_unread b_bytes b_held : Nat → Int32} {b_rcv b_finAt : Nat → Int64} {b_marked b_wnd b_peak b_half b_rto b_same b_tries b_smooth b_spread b_byNumber b_byAck b_sampled b_told b_retry b_ackAt b_waitAt b_timedAt : Nat → Int32} {b_timed : Nat → Int64} {u0 : SX} {v0 : SY}
theorem lk_like (he : e < 2) (h4 : 4 ≤ st) (hm : una < mx) (I2 : E2 L st iss una nxt mx la cl tm) (R : RZ e L now st er tr iss una nxt mx la cl irs rcv fi un fst wnd pk hf rto sa smo tm si rt wt rs nr nw ns u0 v0 (f_now, f_sent, a_state, a_error, a_tries, a_iss, a_una, a_nxt, a_max, a_last, a_closing, a_kept, a_rcv, a_first, a_held, a_fin, a_unread, a_came, a_ended, a_wnd, a_peak, a_half, a_same, a_setBy, a_setAt, a_isSet, a_rto, a_smooth, a_spread, a_timed, a_since, a_retry, a_waits, a_rest, a_segSeq, a_segAck, a_segFlags, a_segWindow, a_segLength, a_segBytes, a_row, a_many, a_taken) (g_now, g_sent, b_seq, b_flags, b_acked, b_window, b_many, b_data, b_rows, b_state, b_error, b_iss, b_una, b_nxt, b_max, b_last, b_closed, b_written, b_irs, b_unread, b_bytes, b_held, b_rcv, b_finAt, b_marked, b_wnd, b_peak, b_half, b_rto, b_same, b_tries, b_smooth, b_spread, b_byNumber, b_byAck, b_sampled, b_told, b_retry, b_ackAt, b_waitAt, b_timedAt, b_timed)) :
    LK ap0 aq0 (fun p => wpX_likewise p (f_now, f_sent, a_state, a_error, a_tries, a_iss, a_una, a_nxt, a_max, a_last, a_closing, a_kept, a_rcv, a_first, a_held, a_fin, a_unread, a_came, a_ended, a_wnd, a_peak, a_half, a_same, a_setBy, a_setAt, a_isSet, a_rto, a_smooth, a_spread, a_timed, a_since, a_retry, a_waits, a_rest, a_segSeq, a_segAck, a_segFlags, a_segWindow, a_segLength, a_segBytes, a_row, a_many, a_taken) (zI e)) (fun p => wpY_again p (g_now, g_sent, b_seq, b_flags, b_acked, b_window, b_many, b_data, b_rows, b_state, b_error, b_iss, b_una, b_nxt, b_max, b_last, b_closed, b_written, b_irs, b_unread, b_bytes, b_held, b_rcv, b_finAt, b_marked, b_wnd, b_peak, b_half, b_rto, b_same, b_tries, b_smooth, b_spread, b_byNumber, b_byAck, b_sampled, b_told, b_retry, b_ackAt, b_waitAt, b_timedAt, b_timed) (zI e)) (fun u v => OKp (P4 irs rcv) e L now nr nw ns u0 v0 u v) := by
  have hne : 1 - e ≠ e := by omega
  obtain ⟨R, F⟩ := R
  obtain ⟨rfl, rfl, xst, xer, xtr, xiss, xuna, xnxt, xmx, xla, xcl, xrcv, xfst, xfi, xun, xen, xwnd, xpk, xhf, xrto, xsm, xsb, xsa, xis, xsmo, xspr, xtm, xsi, xrt, xwt, xrs, yst, yer, ytr, yiss, yuna, ynxt, ymx, yla, ycl, yirs, yrcv, yfi, yun, ywnd, ypk, yhf, yrto, ysa, ysmo, ytm, ysi, yrt, ywt, yrs, I1, I3, I4, I5, K, C, H, W⟩ := RE_el R
  have b1 := I1
  unfold E1 at b1
  have b2 := E2_b I2 (by omega)
  have b4 := I4
  unfold E4 at b4
  unfold wpX_likewise wpY_again
  refine LX_a (e_in he) (LX_a (e_in he) (LY_a (e_in he) (LY_a (e_in he) ?_)))
  rw [e_cl he, xsm (by omega)]
  refine LX_n (LX_a (e_in he) (LY_n (LY_a (e_in he) ?_)))
  rw [pk_us, pk_us]
  generalize b_same e + 1 = sm
  have Q0 : RZ e L now st er tr iss una nxt mx la cl irs rcv fi un fst wnd pk hf rto sa smo tm si rt wt rs nr nw ns u0 v0 (zI now, f_sent, a_state, a_error, a_tries, a_iss, a_una, a_nxt, a_max, a_last, a_closing, a_kept, a_rcv, a_first, a_held, a_fin, a_unread, a_came, a_ended, a_wnd, a_peak, a_half, upd a_same e sm, a_setBy, a_setAt, a_isSet, a_rto, a_smooth, a_spread, a_timed, a_since, a_retry, a_waits, a_rest, a_segSeq, a_segAck, a_segFlags, a_segWindow, a_segLength, a_segBytes, a_row, a_many, a_taken) (zI now, g_sent, b_seq, b_flags, b_acked, b_window, b_many, b_data, b_rows, b_state, b_error, b_iss, b_una, b_nxt, b_max, b_last, b_closed, b_written, b_irs, b_unread, b_bytes, b_held, b_rcv, b_finAt, b_marked, b_wnd, b_peak, b_half, b_rto, upd b_same e sm, b_tries, b_smooth, b_spread, b_byNumber, b_byAck, b_sampled, b_told, b_retry, b_ackAt, b_waitAt, b_timedAt, b_timed) := by
    refine ⟨RE_in ⟨rfl, rfl, xst, xer, xtr, xiss, xuna, xnxt, xmx, xla, xcl, xrcv, xfst, xfi, xun, xen, xwnd, xpk, xhf, xrto, fun _ => pk_us.trans pk_us.symm, xsb, xsa, xis, xsmo, xspr, xtm, xsi, xrt, xwt, xrs, yst, yer, ytr, yiss, yuna, ynxt, ymx, yla, ycl, yirs, yrcv, yfi, yun, ywnd, ypk, yhf, yrto, ysa, ysmo, ytm, ysi, yrt, ywt, yrs, I1, I3, I4, I5, K, C, H, W⟩, FR_s F ?_ ?_ rfl⟩
    · simp only [vX, pk_un hne]
    · simp only [vY, pk_un hne]
  by_cases h3 : sm = 3
  · refine LX_t h3 (LY_t h3 ?_)
    obtain ⟨f2, hf2⟩ : ∃ f2 : Int, f2 = if 8 ≤ (mx - una) / 2 then (mx - una) / 2 else 8 := ⟨_, rfl⟩
    have hf2' : 8 ≤ f2 ∧ f2 ≤ 24 := by rw [hf2]; split <;> omega
    have hmm : una ≤ mx ∧ mx ≤ una + 100 := by omega
    have xm2 := xmx (by omega)
    have xu2 := xuna (by omega)
    apply LK_x
    · intro p h
      refine x_narrow he xm2 xu2 hmm hf2 ?_
      dsimp only
      refine ⟨e_in he, nm_e ?_⟩
      exact h
    apply LK_y
    · intro p h
      refine y_halved he ymx yuna hmm hf2 ?_
      refine ⟨e_in he, nm_e ⟨e_in he, nm_e ?_⟩⟩
      exact h
    have Q1 : RZ e L now st er tr iss una nxt mx la cl irs rcv fi un fst wnd pk f2 rto sa smo (-1) si rt wt rs nr nw ns u0 v0 (zI now, f_sent, a_state, a_error, a_tries, a_iss, a_una, a_nxt, a_max, a_last, a_closing, a_kept, a_rcv, a_first, a_held, a_fin, a_unread, a_came, a_ended, a_wnd, a_peak, upd a_half e (zI f2), upd a_same e sm, a_setBy, a_setAt, a_isSet, a_rto, a_smooth, a_spread, upd a_timed e (-1), a_since, a_retry, a_waits, a_rest, a_segSeq, a_segAck, a_segFlags, a_segWindow, a_segLength, a_segBytes, a_row, a_many, a_taken) (zI now, g_sent, b_seq, b_flags, b_acked, b_window, b_many, b_data, b_rows, b_state, b_error, b_iss, b_una, b_nxt, b_max, b_last, b_closed, b_written, b_irs, b_unread, b_bytes, b_held, b_rcv, b_finAt, b_marked, b_wnd, b_peak, upd b_half e (zI f2), b_rto, upd b_same e sm, b_tries, b_smooth, b_spread, b_byNumber, b_byAck, b_sampled, b_told, b_retry, b_ackAt, b_waitAt, b_timedAt, vp_updL b_timed e (-1)) := by
      refine ⟨RE_in ⟨rfl, rfl, xst, xer, xtr, xiss, xuna, xnxt, xmx, xla, xcl, xrcv, xfst, xfi, xun, xen, xwnd, xpk, pk_us, xrto, fun _ => pk_us.trans pk_us.symm, xsb, xsa, xis, xsmo, xspr, pk_us, xsi, xrt, xwt, xrs, yst, yer, ytr, yiss, yuna, ynxt, ymx, yla, ycl, yirs, yrcv, yfi, yun, ywnd, ypk, pk_us, yrto, ysa, ysmo, pk_uLs, ysi, yrt, ywt, yrs, I1, I3, ⟨b4.1, b4.2.1, by omega, b4.2.2.2⟩, I5, K, C, H, W⟩, FR_s F ?_ ?_ rfl⟩
      · simp only [vX, pk_un hne]
      · simp only [vY, pk_un hne, pk_uLn hne]
    refine LK_b (lk_first he h4 (E2_tm I2) hm Q1) ?_
    intro f_now1 f_sent1 a_state1 a_error1 a_tries1 a_iss1 a_una1 a_nxt1 a_max1 a_last1 a_closing1 a_kept1 a_rcv1 a_first1 a_held1 a_fin1 a_unread1 a_came1 a_ended1 a_wnd1 a_peak1 a_half1 a_same1 a_setBy1 a_setAt1 a_isSet1 a_rto1 a_smooth1 a_spread1 a_timed1 a_since1 a_retry1 a_waits1 a_rest1 a_segSeq1 a_segAck1 a_segFlags1 a_segWindow1 a_segLength1 a_segBytes1 a_row1 a_many1 a_taken1 g_now1 g_sent1 b_seq1 b_flags1 b_acked1 b_window1 b_many1 b_data1 b_rows1 b_state1 b_error1 b_iss1 b_una1 b_nxt1 b_max1 b_last1 b_closed1 b_written1 b_irs1 b_unread1 b_bytes1 b_held1 b_rcv1 b_finAt1 b_marked1 b_wnd1 b_peak1 b_half1 b_rto1 b_same1 b_tries1 b_smooth1 b_spread1 b_byNumber1 b_byAck1 b_sampled1 b_told1 b_retry1 b_ackAt1 b_waitAt1 b_timedAt1 b_timed1 R1
    obtain ⟨R1, F1⟩ := R1
    obtain ⟨rfl, rfl, xst1, xer1, xtr1, xiss1, xuna1, xnxt1, xmx1, xla1, xcl1, xrcv1, xfst1, xfi1, xun1, xen1, xwnd1, xpk1, xhf1, xrto1, xsm1, xsb1, xsa1, xis1, xsmo1, xspr1, xtm1, xsi1, xrt1, xwt1, xrs1, yst1, yer1, ytr1, yiss1, yuna1, ynxt1, ymx1, yla1, ycl1, yirs1, yrcv1, yfi1, yun1, ywnd1, ypk1, yhf1, yrto1, ysa1, ysmo1, ytm1, ysi1, yrt1, ywt1, yrs1, I11, I31, I41, I51, K1, C1, H1, W1⟩ := RE_el R1
    refine LX_a (e_in he) (LX_a (e_in he) (LY_a (e_in he) (LY_a (e_in he) ?_)))
    dsimp only
    rw [xhf1, yhf1]
    refine LX_n (LY_n (LK_r0 (OKp_i (pk := f2 + 24) ⟨h4, rfl, rfl⟩ ⟨RE_in ⟨rfl, rfl, xst1, xer1, xtr1, xiss1, xuna1, xnxt1, xmx1, xla1, xcl1, xrcv1, xfst1, xfi1, xun1, xen1, xwnd1, pk_us.trans (zI_add f2 24), xhf1, xrto1, xsm1, xsb1, xsa1, xis1, xsmo1, xspr1, xtm1, xsi1, xrt1, xwt1, xrs1, yst1, yer1, ytr1, yiss1, yuna1, ynxt1, ymx1, yla1, ycl1, yirs1, yrcv1, yfi1, yun1, ywnd1, pk_us.trans (zI_add f2 24), yhf1, yrto1, ysa1, ysmo1, ytm1, ysi1, yrt1, ywt1, yrs1, I11, I31, ?_, I51, K1, C1, H1, W1⟩, FR_s F1 ?_ ?_ rfl⟩ (E2_tm I2))))
    · exact ⟨b4.1, by omega, by omega, b4.2.2.2⟩
    · simp only [vX, pk_un hne]
    · simp only [vY, pk_un hne]
  · refine LX_f h3 (LY_f h3 (LX_a (e_in he) (LY_a (e_in he) ?_)))
    by_cases h : sm ≤ 3
    · exact LX_t h (LY_t h (LK_r0 (OKp_i ⟨h4, rfl, rfl⟩ Q0 I2)))
    · refine LX_f h (LY_f h (LX_a (e_in he) (LY_a (e_in he) ?_)))
      rw [xpk, ypk]
      have hcx : zI pk + 8 ≤ 64 ↔ pk + 8 ≤ 64 := by rw [zl_8, zl_64, zI_add, zI_le (by omega)]
      have hcy : zI pk ≤ 56 ↔ pk + 8 ≤ 64 := by rw [show (56 : Int32) = zI 56 from rfl, zI_le (by omega)]; omega
      have Q2 : ∀ p' : Int, 8 ≤ p' ∧ p' ≤ 64 → RZ e L now st er tr iss una nxt mx la cl irs rcv fi un fst wnd p' hf rto sa smo tm si rt wt rs nr nw ns u0 v0 (zI now, f_sent, a_state, a_error, a_tries, a_iss, a_una, a_nxt, a_max, a_last, a_closing, a_kept, a_rcv, a_first, a_held, a_fin, a_unread, a_came, a_ended, a_wnd, upd a_peak e (zI p'), a_half, upd a_same e sm, a_setBy, a_setAt, a_isSet, a_rto, a_smooth, a_spread, a_timed, a_since, a_retry, a_waits, a_rest, a_segSeq, a_segAck, a_segFlags, a_segWindow, a_segLength, a_segBytes, a_row, a_many, a_taken) (zI now, g_sent, b_seq, b_flags, b_acked, b_window, b_many, b_data, b_rows, b_state, b_error, b_iss, b_una, b_nxt, b_max, b_last, b_closed, b_written, b_irs, b_unread, b_bytes, b_held, b_rcv, b_finAt, b_marked, b_wnd, upd b_peak e (zI p'), b_half, b_rto, upd b_same e sm, b_tries, b_smooth, b_spread, b_byNumber, b_byAck, b_sampled, b_told, b_retry, b_ackAt, b_waitAt, b_timedAt, b_timed) := by
        intro p' hp
        refine ⟨RE_in ⟨rfl, rfl, xst, xer, xtr, xiss, xuna, xnxt, xmx, xla, xcl, xrcv, xfst, xfi, xun, xen, xwnd, pk_us, xhf, xrto, fun _ => pk_us.trans pk_us.symm, xsb, xsa, xis, xsmo, xspr, xtm, xsi, xrt, xwt, xrs, yst, yer, ytr, yiss, yuna, ynxt, ymx, yla, ycl, yirs, yrcv, yfi, yun, ywnd, pk_us, yhf, yrto, ysa, ysmo, ytm, ysi, yrt, ywt, yrs, I1, I3, ⟨b4.1, hp, b4.2.2⟩, I5, K, C, H, W⟩, FR_s F ?_ ?_ rfl⟩
        · simp only [vX, pk_un hne]
        · simp only [vY, pk_un hne]
      by_cases h6 : pk + 8 ≤ 64
      · refine LX_t (hcx.mpr h6) (LY_t (hcy.mpr h6) (LX_a (e_in he) (LX_a (e_in he) (LY_a (e_in he) (LY_a (e_in he) ?_)))))
        rw [show zI pk + 8 = zI (pk + 8) from zI_add pk 8]
        exact LX_n (LY_n (LK_r0 (OKp_i ⟨h4, rfl, rfl⟩ (Q2 (pk + 8) (by omega)) I2)))
      · refine LX_f (fun z => h6 (hcx.mp z)) (LY_f (fun z => h6 (hcy.mp z)) (LX_a (e_in he) (LX_n (LY_a (e_in he) (LY_n ?_)))))
        exact LK_r0 (OKp_i ⟨h4, rfl, rfl⟩ (Q2 64 (by omega)) I2)
/-- what judge answers -/
def QJ (e : Nat) (i r L now nr nw ns : Int) (u0 : SX) (v0 : SY) (x : Int32 × SX) (y : Int32 × SY) : Prop := (x.1 = 0 ∧ y.1 = 0 ∧ OKs e L now nr nw ns u0 v0 x.2 y.2) ∨ (x.1 = 1 ∧ y.1 = 1 ∧ OKp (P4 i r) e L now nr nw ns u0 v0 x.2 y.2)
theorem lk_145 {S T q f a w n d : Int} (he : e < 2) (h4 : 4 ≤ st) (S0 : SU e S T q f a w n u0 v0) (hd : -40000 ≤ d ∧ d ≤ 40000) (I2 : E2 L st iss una nxt mx la cl tm) (R : RZ e L now st er tr iss una nxt mx la cl irs rcv fi un fst wnd pk hf rto sa smo tm si rt wt rs nr nw ns u0 v0 (f_now, f_sent, a_state, a_error, a_tries, a_iss, a_una, a_nxt, a_max, a_last, a_closing, a_kept, a_rcv, a_first, a_held, a_fin, a_unread, a_came, a_ended, a_wnd, a_peak, a_half, a_same, a_setBy, a_setAt, a_isSet, a_rto, a_smooth, a_spread, a_timed, a_since, a_retry, a_waits, a_rest, a_segSeq, a_segAck, a_segFlags, a_segWindow, a_segLength, a_segBytes, a_row, a_many, a_taken) (g_now, g_sent, b_seq, b_flags, b_acked, b_window, b_many, b_data, b_rows, b_state, b_error, b_iss, b_una, b_nxt, b_max, b_last, b_closed, b_written, b_irs, b_unread, b_bytes, b_held, b_rcv, b_finAt, b_marked, b_wnd, b_peak, b_half, b_rto, b_same, b_tries, b_smooth, b_spread, b_byNumber, b_byAck, b_sampled, b_told, b_retry, b_ackAt, b_waitAt, b_timedAt, b_timed)) :
    LK ap1 aq1 (fun p => wX_judge_145 p (zI e) (zI S) (zI d) f_now f_sent a_state a_error a_tries a_iss a_una a_nxt a_max a_last a_closing a_kept a_rcv a_first a_held a_fin a_unread a_came a_ended a_wnd a_peak a_half a_same a_setBy a_setAt a_isSet a_rto a_smooth a_spread a_timed a_since a_retry a_waits a_rest a_segSeq a_segAck a_segFlags a_segWindow a_segLength a_segBytes a_row a_many a_taken) (fun p => wY_answered_157 p (zI e) (zI T) (zI d) g_now g_sent b_seq b_flags b_acked b_window b_many b_data b_rows b_state b_error b_iss b_una b_nxt b_max b_last b_closed b_written b_irs b_unread b_bytes b_held b_rcv b_finAt b_marked b_wnd b_peak b_half b_rto b_same b_tries b_smooth b_spread b_byNumber b_byAck b_sampled b_told b_retry b_ackAt b_waitAt b_timedAt b_timed) (QJ e irs rcv L now nr nw ns u0 v0) := by
  have hne : 1 - e ≠ e := by omega
  have R0 := R
  obtain ⟨R, F⟩ := R
  obtain ⟨s1, s2, sq, sf, sa', sw, sn, xq, xa, xf, xw, xn, yq, ya, yf, yw, yn, ybs⟩ := SU_el he (SU_fr F S0)
  obtain ⟨rfl, rfl, xst, xer, xtr, xiss, xuna, xnxt, xmx, xla, xcl, xrcv, xfst, xfi, xun, xen, xwnd, xpk, xhf, xrto, xsm, xsb, xsa, xis, xsmo, xspr, xtm, xsi, xrt, xwt, xrs, yst, yer, ytr, yiss, yuna, ynxt, ymx, yla, ycl, yirs, yrcv, yfi, yun, ywnd, ypk, yhf, yrto, ysa, ysmo, ytm, ysi, yrt, ywt, yrs, I1, I3, I4, I5, K, C, H, W⟩ := RE_el R
  have hTi : vp_in (zI T) 32 := zI_in (by omega)
  have hTc : (zI T).toNatClampNeg = T.toNat := zI_cl (by omega)
  have hSi : vp_in (zI S) 32 := zI_in (by omega)
  have hSc : (zI S).toNatClampNeg = S.toNat := zI_cl (by omega)
  have b4 := I4
  unfold E4 at b4
  have hcx : zI d < 0 ↔ d < 0 := by rw [zl_0, zI_lt (by omega)]
  have hcy : 0 ≤ zI d ↔ 0 ≤ d := by rw [zl_0, zI_le (by omega)]
  have T0 : LK ap1 aq1 (fun p => p 1 (zI now, f_sent, a_state, a_error, a_tries, a_iss, a_una, a_nxt, a_max, a_last, a_closing, a_kept, a_rcv, a_first, a_held, a_fin, a_unread, a_came, a_ended, a_wnd, a_peak, a_half, a_same, a_setBy, a_setAt, a_isSet, a_rto, a_smooth, a_spread, a_timed, a_since, a_retry, a_waits, a_rest, a_segSeq, a_segAck, a_segFlags, a_segWindow, a_segLength, a_segBytes, a_row, a_many, a_taken)) (fun p => p 1 (zI now, g_sent, b_seq, b_flags, b_acked, b_window, b_many, b_data, b_rows, b_state, b_error, b_iss, b_una, b_nxt, b_max, b_last, b_closed, b_written, b_irs, b_unread, b_bytes, b_held, b_rcv, b_finAt, b_marked, b_wnd, b_peak, b_half, b_rto, b_same, b_tries, b_smooth, b_spread, b_byNumber, b_byAck, b_sampled, b_told, b_retry, b_ackAt, b_waitAt, b_timedAt, b_timed)) (QJ e irs rcv L now nr nw ns u0 v0) := LK_r1 (Or.inr ⟨rfl, rfl, OKp_i ⟨h4, rfl, rfl⟩ R0 I2⟩)
  unfold wX_judge_145 wY_answered_157
  by_cases h : d < 0
  · exact LX_t (hcx.mpr h) (LY_f (fun z => by have := hcy.mp z; omega) T0)
  · refine LX_f (fun z => h (hcx.mp z)) (LY_t (hcy.mpr (by omega)) (LY_a hTi (LY_a (e_in he) ?_)))
    unfold wpX_widen
    refine LX_a hSi (LX_a (e_in he) ?_)
    rw [hSc, hTc, e_cl he, xq, yq, xsb]
    rw [y_offset]
    unfold wpX_offset
    refine LX_a (e_in he) (LY_a (e_in he) ?_)
    rw [xis]
    generalize (zI q - b_byNumber e).toInt16.toInt32 = far
    have U : LK ap1 aq1 (fun p => wX_widen_51 (fun u => p 1 u) (zI e) (zI S) (zI now) f_sent a_state a_error a_tries a_iss a_una a_nxt a_max a_last a_closing a_kept a_rcv a_first a_held a_fin a_unread a_came a_ended a_wnd a_peak a_half a_same a_setBy a_setAt a_isSet a_rto a_smooth a_spread a_timed a_since a_retry a_waits a_rest a_segSeq a_segAck a_segFlags a_segWindow a_segLength a_segBytes a_row a_many a_taken) (fun p => wY_answered_218 p (zI e) (zI T) (zI now) g_sent b_seq b_flags b_acked b_window b_many b_data b_rows b_state b_error b_iss b_una b_nxt b_max b_last b_closed b_written b_irs b_unread b_bytes b_held b_rcv b_finAt b_marked b_wnd b_peak b_half b_rto b_same b_tries b_smooth b_spread b_byNumber b_byAck b_sampled b_told b_retry b_ackAt b_waitAt b_timedAt b_timed) (QJ e irs rcv L now nr nw ns u0 v0) := by
      unfold wX_widen_51 wX_widen_56 wY_answered_218
      refine LX_f (by decide) (LX_a (e_in he) ?_)
      rw [hSc, hTc, e_cl he, xq, yq, xa, ya, xw, yw]
      refine LX_n (LX_a hSi (LX_a (e_in he) (LX_n (LX_a hSi (LX_a (e_in he) (LX_n (LX_a hSi (LX_a (e_in he) (LX_n ?_)))))))))
      refine LY_a (e_in he) (LY_n (LY_a hTi (LY_a (e_in he) (LY_n (LY_a hTi (LY_a (e_in he) (LY_n (LY_a hTi (LY_a (e_in he) (LY_n ?_))))))))))
      refine LK_r1 (Or.inr ⟨rfl, rfl, OKp_i (wnd := w) ⟨h4, rfl, rfl⟩ ⟨RE_in ⟨rfl, rfl, xst, xer, xtr, xiss, xuna, xnxt, xmx, xla, xcl, xrcv, xfst, xfi, xun, xen, pk_us, xpk, xhf, xrto, xsm, pk_us.trans pk_us.symm, pk_us.trans pk_us.symm, pk_us.trans pk_us.symm, xsmo, xspr, xtm, xsi, xrt, xwt, xrs, yst, yer, ytr, yiss, yuna, ynxt, ymx, yla, ycl, yirs, yrcv, yfi, yun, pk_us, ypk, yhf, yrto, ysa, ysmo, ytm, ysi, yrt, ywt, yrs, I1, I3, ⟨sw, b4.2⟩, I5, K, C, H, W⟩, FR_s F ?_ ?_ rfl⟩ I2⟩)
      · simp only [vX, pk_un hne]
      · simp only [vY, pk_un hne]
    by_cases h1 : b_told e = 0
    · exact LX_t h1 (LY_t h1 U)
    · refine LX_f h1 (LY_f h1 ?_)
      by_cases h2 : 0 < far
      · exact LX_t h2 (LY_t h2 U)
      · refine LX_f h2 (LY_f h2 ?_)
        by_cases h3 : far = 0
        · refine LX_t h3 (LY_t h3 (LX_a hSi (LX_a (e_in he) (LY_a hTi (LY_a (e_in he) ?_)))))
          rw [xa, ya, xsa]
          generalize (zI a - b_byAck e).toInt16.toInt32 = fa
          by_cases h5 : fa < 0
          · refine LX_t h5 (LY_t h5 ?_)
            unfold wX_widen_55 wX_widen_56
            exact LX_t rfl T0
          · exact LX_f h5 (LY_f h5 U)
        · refine LX_f h3 (LY_f h3 ?_)
          unfold wX_widen_55 wX_widen_56
          exact LX_t rfl T0
theorem lk_46 {S T q f a w n d ln : Int} (he : e < 2) (h4 : 4 ≤ st) (S0 : SU e S T q f a w n u0 v0) (hln : ln = n + f % 2 + f / 4 % 2) (hd : d = zo (a - (iss + una) % 65536)) (W2 : E2w L st iss una nxt mx la cl tm) (I2 : d ≤ 0 ∨ mx - una < d → E2 L st iss una nxt mx la cl tm) (R : RZ e L now st er tr iss una nxt mx la cl irs rcv fi un fst wnd pk hf rto sa smo tm si rt wt rs nr nw ns u0 v0 (f_now, f_sent, a_state, a_error, a_tries, a_iss, a_una, a_nxt, a_max, a_last, a_closing, a_kept, a_rcv, a_first, a_held, a_fin, a_unread, a_came, a_ended, a_wnd, a_peak, a_half, a_same, a_setBy, a_setAt, a_isSet, a_rto, a_smooth, a_spread, a_timed, a_since, a_retry, a_waits, a_rest, a_segSeq, a_segAck, a_segFlags, a_segWindow, a_segLength, a_segBytes, a_row, a_many, a_taken) (g_now, g_sent, b_seq, b_flags, b_acked, b_window, b_many, b_data, b_rows, b_state, b_error, b_iss, b_una, b_nxt, b_max, b_last, b_closed, b_written, b_irs, b_unread, b_bytes, b_held, b_rcv, b_finAt, b_marked, b_wnd, b_peak, b_half, b_rto, b_same, b_tries, b_smooth, b_spread, b_byNumber, b_byAck, b_sampled, b_told, b_retry, b_ackAt, b_waitAt, b_timedAt, b_timed)) :
    LK ap1 aq1 (fun p => wX_judge_46 p (zI e) (zI S) (zI d) f_now f_sent a_state a_error a_tries a_iss a_una a_nxt a_max a_last a_closing a_kept a_rcv a_first a_held a_fin a_unread a_came a_ended a_wnd a_peak a_half a_same a_setBy a_setAt a_isSet a_rto a_smooth a_spread a_timed a_since a_retry a_waits a_rest a_segSeq a_segAck a_segFlags a_segWindow a_segLength a_segBytes a_row a_many a_taken) (fun p => wY_answered_62 p (zI e) (zI T) (zI ln) (zI d) g_now g_sent b_seq b_flags b_acked b_window b_many b_data b_rows b_state b_error b_iss b_una b_nxt b_max b_last b_closed b_written b_irs b_unread b_bytes b_held b_rcv b_finAt b_marked b_wnd b_peak b_half b_rto b_same b_tries b_smooth b_spread b_byNumber b_byAck b_sampled b_told b_retry b_ackAt b_waitAt b_timedAt b_timed) (QJ e irs rcv L now nr nw ns u0 v0) := by
  have R0 := R
  obtain ⟨R, F⟩ := R
  obtain ⟨s1, s2, sq, sf, sa', sw, sn, xq, xa, xf, xw, xn, yq, ya, yf, yw, yn, ybs⟩ := SU_el he (SU_fr F S0)
  obtain ⟨rfl, rfl, xst, xer, xtr, xiss, xuna, xnxt, xmx, xla, xcl, xrcv, xfst, xfi, xun, xen, xwnd, xpk, xhf, xrto, xsm, xsb, xsa, xis, xsmo, xspr, xtm, xsi, xrt, xwt, xrs, yst, yer, ytr, yiss, yuna, ynxt, ymx, yla, ycl, yirs, yrcv, yfi, yun, ywnd, ypk, yhf, yrto, ysa, ysmo, ytm, ysi, yrt, ywt, yrs, I1, I3, I4, I5, K, C, H, W⟩ := RE_el R
  have hTi : vp_in (zI T) 32 := zI_in (by omega)
  have hTc : (zI T).toNatClampNeg = T.toNat := zI_cl (by omega)
  have hSi : vp_in (zI S) 32 := zI_in (by omega)
  have hSc : (zI S).toNatClampNeg = S.toNat := zI_cl (by omega)
  have b1 := I1
  unfold E1 at b1
  have b2 := W2
  unfold E2w at b2
  have b4 := I4
  unfold E4 at b4
  have hdr : -32768 ≤ d ∧ d < 32768 := by rw [hd]; exact zo_r _
  have haq : a = (iss + (una + d)) % 65536 := by rw [hd]; unfold zo; omega
  unfold wX_judge_46 wY_answered_62
  refine LX_a (e_in he) (LX_a (e_in he) (LY_a (e_in he) (LY_a (e_in he) ?_)))
  rw [e_cl he, hSc, hTc, xmx (by omega), xuna (by omega), ymx, yuna, zL_sub, zI_l (by omega), xw, yw, xwnd, ywnd, xa]
  simp only [x_offset, x_length s1 sf xf xn]
  rw [zo_pos (show -32768 ≤ mx - una ∧ mx - una < 32768 by omega), ← hln]
  have hc1 : zI d ≤ zI (mx - una) ↔ d ≤ mx - una := zI_le (by omega)
  have hc2 : zL d ≤ zL (mx - una) ↔ d ≤ mx - una := zL_le (by omega)
  by_cases h : d ≤ mx - una
  · refine LX_t (hc1.mpr h) (LY_t (hc2.mpr h) ?_)
    have hc3 : zI d ≤ 0 ↔ d ≤ 0 := by rw [zl_0, zI_le (by omega)]
    by_cases h0 : d ≤ 0
    · have I2 := I2 (Or.inl h0)
      have D := lk_145 (a := a) he h4 S0 (d := d) (by omega) I2 R0
      refine LX_t (hc3.mpr h0) (LY_t (hc3.mpr h0) ?_)
      have hc4 : zI d = 0 ↔ d = 0 := by rw [zl_0, zI_eq (by omega)]
      by_cases hd0 : d = 0
      · refine LX_t (hc4.mpr hd0) (LY_t (hc4.mpr hd0) ?_)
        have hc5 : zI ln = 0 ↔ ln = 0 := by rw [zl_0, zI_eq (by omega)]
        by_cases hl0 : ln = 0
        · refine LX_t (hc5.mpr hl0) (LY_t (hc5.mpr hl0) (LX_a hSi (LX_a (e_in he) (LY_a hTi (LY_a (e_in he) ?_)))))
          have hc6 : zI w = zI wnd ↔ w = wnd := zI_eq (by omega)
          by_cases hw : w = wnd
          · refine LX_t (hc6.mpr hw) (LY_t (hc6.mpr hw) (LX_a (e_in he) (LX_a (e_in he) (LY_a (e_in he) (LY_a (e_in he) ?_)))))
            have hc7 : zI ((iss + una) % 65536) = zI ((iss + mx) % 65536) ↔ una = mx := by rw [zI_eq (by omega), zm_eq (by omega)]
            have hc8 : zL una = zL mx ↔ una = mx := zL_eq (by omega)
            by_cases hu : una = mx
            · exact LX_t (hc7.mpr hu) (LY_t (hc8.mpr hu) D)
            · refine LX_f (fun z => hu (hc7.mp z)) (LY_f (fun z => hu (hc8.mp z)) ?_)
              refine LK_b (lk_like he h4 (by omega) I2 R0) ?_
              intro f_now1 f_sent1 a_state1 a_error1 a_tries1 a_iss1 a_una1 a_nxt1 a_max1 a_last1 a_closing1 a_kept1 a_rcv1 a_first1 a_held1 a_fin1 a_unread1 a_came1 a_ended1 a_wnd1 a_peak1 a_half1 a_same1 a_setBy1 a_setAt1 a_isSet1 a_rto1 a_smooth1 a_spread1 a_timed1 a_since1 a_retry1 a_waits1 a_rest1 a_segSeq1 a_segAck1 a_segFlags1 a_segWindow1 a_segLength1 a_segBytes1 a_row1 a_many1 a_taken1 g_now1 g_sent1 b_seq1 b_flags1 b_acked1 b_window1 b_many1 b_data1 b_rows1 b_state1 b_error1 b_iss1 b_una1 b_nxt1 b_max1 b_last1 b_closed1 b_written1 b_irs1 b_unread1 b_bytes1 b_held1 b_rcv1 b_finAt1 b_marked1 b_wnd1 b_peak1 b_half1 b_rto1 b_same1 b_tries1 b_smooth1 b_spread1 b_byNumber1 b_byAck1 b_sampled1 b_told1 b_retry1 b_ackAt1 b_waitAt1 b_timedAt1 b_timed1 Z1
              refine OKp_el Z1 ?_
              intro st1 er1 tr1 iss1 una1 nxt1 mx1 la1 cl1 irs1 rcv1 fi1 un1 fst1 wnd1 pk1 hf1 rto1 sa1 smo1 tm1 si1 rt1 wt1 rs1 h41 R1 J1
              obtain ⟨h41, hi1, hr1⟩ := h41
              rw [← hi1, ← hr1]
              exact lk_145 he h41 S0 (by omega) J1 R1
          · exact LX_f (fun z => hw (hc6.mp z)) (LY_f (fun z => hw (hc6.mp z)) D)
        · exact LX_f (fun z => hl0 (hc5.mp z)) (LY_f (fun z => hl0 (hc5.mp z)) D)
      · exact LX_f (fun z => hd0 (hc4.mp z)) (LY_f (fun z => hd0 (hc4.mp z)) D)
    · refine LX_f (fun z => h0 (hc3.mp z)) (LY_f (fun z => h0 (hc3.mp z)) (LX_a hSi ?_))
      rw [haq]
      refine LK_b (lk_forward he h4 (by omega) W2 R0) ?_
      intro f_now1 f_sent1 a_state1 a_error1 a_tries1 a_iss1 a_una1 a_nxt1 a_max1 a_last1 a_closing1 a_kept1 a_rcv1 a_first1 a_held1 a_fin1 a_unread1 a_came1 a_ended1 a_wnd1 a_peak1 a_half1 a_same1 a_setBy1 a_setAt1 a_isSet1 a_rto1 a_smooth1 a_spread1 a_timed1 a_since1 a_retry1 a_waits1 a_rest1 a_segSeq1 a_segAck1 a_segFlags1 a_segWindow1 a_segLength1 a_segBytes1 a_row1 a_many1 a_taken1 g_now1 g_sent1 b_seq1 b_flags1 b_acked1 b_window1 b_many1 b_data1 b_rows1 b_state1 b_error1 b_iss1 b_una1 b_nxt1 b_max1 b_last1 b_closed1 b_written1 b_irs1 b_unread1 b_bytes1 b_held1 b_rcv1 b_finAt1 b_marked1 b_wnd1 b_peak1 b_half1 b_rto1 b_same1 b_tries1 b_smooth1 b_spread1 b_byNumber1 b_byAck1 b_sampled1 b_told1 b_retry1 b_ackAt1 b_waitAt1 b_timedAt1 b_timed1 Z1
      refine OKp_el Z1 ?_
      intro st1 er1 tr1 iss1 una1 nxt1 mx1 la1 cl1 irs1 rcv1 fi1 un1 fst1 wnd1 pk1 hf1 rto1 sa1 smo1 tm1 si1 rt1 wt1 rs1 hP R1 J1
      obtain ⟨hP, hi1, hr1⟩ := hP
      rw [← hi1, ← hr1]
      have R10 := R1
      obtain ⟨R1, F1⟩ := R1
      obtain ⟨xnow1, ynow1, xst1, xer1, xtr1, xiss1, xuna1, xnxt1, xmx1, xla1, xcl1, xrcv1, xfst1, xfi1, xun1, xen1, xwnd1, xpk1, xhf1, xrto1, xsm1, xsb1, xsa1, xis1, xsmo1, xspr1, xtm1, xsi1, xrt1, xwt1, xrs1, yst1, yer1, ytr1, yiss1, yuna1, ynxt1, ymx1, yla1, ycl1, yirs1, yrcv1, yfi1, yun1, ywnd1, ypk1, yhf1, yrto1, ysa1, ysmo1, ytm1, ysi1, yrt1, ywt1, yrs1, I11, I31, I41, I51, K1, C1, H1, W1⟩ := RE_el R1
      refine LX_a (e_in he) (LY_a (e_in he) ?_)
      dsimp only
      rw [xst1, yst1]
      have b11 := I11.1
      have hc9 : zI st1 = 0 ↔ st1 = 0 := by rw [zl_0, zI_eq (by omega)]
      by_cases hs : st1 = 0
      · exact LX_t (hc9.mpr hs) (LY_t (hc9.mpr hs) (LK_r1 (Or.inl ⟨rfl, rfl, OK_i R10 J1⟩)))
      · have h41 : 4 ≤ st1 := by omega
        exact LX_f (fun z => hs (hc9.mp z)) (LY_f (fun z => hs (hc9.mp z)) (lk_145 he h41 S0 (by omega) J1 R10))
  · have I2 := I2 (Or.inr (by omega))
    refine LX_f (fun z => h (hc1.mp z)) (LY_f (fun z => h (hc2.mp z)) ?_)
    refine LK_b (lk_ack he (by omega) b2.1 (by omega) (by omega) R0) ?_
    intro f_now1 f_sent1 a_state1 a_error1 a_tries1 a_iss1 a_una1 a_nxt1 a_max1 a_last1 a_closing1 a_kept1 a_rcv1 a_first1 a_held1 a_fin1 a_unread1 a_came1 a_ended1 a_wnd1 a_peak1 a_half1 a_same1 a_setBy1 a_setAt1 a_isSet1 a_rto1 a_smooth1 a_spread1 a_timed1 a_since1 a_retry1 a_waits1 a_rest1 a_segSeq1 a_segAck1 a_segFlags1 a_segWindow1 a_segLength1 a_segBytes1 a_row1 a_many1 a_taken1 g_now1 g_sent1 b_seq1 b_flags1 b_acked1 b_window1 b_many1 b_data1 b_rows1 b_state1 b_error1 b_iss1 b_una1 b_nxt1 b_max1 b_last1 b_closed1 b_written1 b_irs1 b_unread1 b_bytes1 b_held1 b_rcv1 b_finAt1 b_marked1 b_wnd1 b_peak1 b_half1 b_rto1 b_same1 b_tries1 b_smooth1 b_spread1 b_byNumber1 b_byAck1 b_sampled1 b_told1 b_retry1 b_ackAt1 b_waitAt1 b_timedAt1 b_timed1 R1
    exact LK_r1 (Or.inl ⟨rfl, rfl, OK_i R1 I2⟩)
theorem lk_judge {S T q f a w n ln : Int} (he : e < 2) (h3 : 3 ≤ st) (S0 : SU e S T q f a w n u0 v0) (hfa : f / 2 % 2 = 1) (hln : ln = n + f % 2 + f / 4 % 2) (I2 : E2 L st iss una nxt mx la cl tm) (R : RZ e L now st er tr iss una nxt mx la cl irs rcv fi un fst wnd pk hf rto sa smo tm si rt wt rs nr nw ns u0 v0 (f_now, f_sent, a_state, a_error, a_tries, a_iss, a_una, a_nxt, a_max, a_last, a_closing, a_kept, a_rcv, a_first, a_held, a_fin, a_unread, a_came, a_ended, a_wnd, a_peak, a_half, a_same, a_setBy, a_setAt, a_isSet, a_rto, a_smooth, a_spread, a_timed, a_since, a_retry, a_waits, a_rest, a_segSeq, a_segAck, a_segFlags, a_segWindow, a_segLength, a_segBytes, a_row, a_many, a_taken) (g_now, g_sent, b_seq, b_flags, b_acked, b_window, b_many, b_data, b_rows, b_state, b_error, b_iss, b_una, b_nxt, b_max, b_last, b_closed, b_written, b_irs, b_unread, b_bytes, b_held, b_rcv, b_finAt, b_marked, b_wnd, b_peak, b_half, b_rto, b_same, b_tries, b_smooth, b_spread, b_byNumber, b_byAck, b_sampled, b_told, b_retry, b_ackAt, b_waitAt, b_timedAt, b_timed)) :
    LK ap1 aq1 (fun p => wpX_judge p (f_now, f_sent, a_state, a_error, a_tries, a_iss, a_una, a_nxt, a_max, a_last, a_closing, a_kept, a_rcv, a_first, a_held, a_fin, a_unread, a_came, a_ended, a_wnd, a_peak, a_half, a_same, a_setBy, a_setAt, a_isSet, a_rto, a_smooth, a_spread, a_timed, a_since, a_retry, a_waits, a_rest, a_segSeq, a_segAck, a_segFlags, a_segWindow, a_segLength, a_segBytes, a_row, a_many, a_taken) (zI e) (zI S)) (fun p => wpY_answered p (g_now, g_sent, b_seq, b_flags, b_acked, b_window, b_many, b_data, b_rows, b_state, b_error, b_iss, b_una, b_nxt, b_max, b_last, b_closed, b_written, b_irs, b_unread, b_bytes, b_held, b_rcv, b_finAt, b_marked, b_wnd, b_peak, b_half, b_rto, b_same, b_tries, b_smooth, b_spread, b_byNumber, b_byAck, b_sampled, b_told, b_retry, b_ackAt, b_waitAt, b_timedAt, b_timed) (zI e) (zI T) (zI ln)) (QJ e irs rcv L now nr nw ns u0 v0) := by
  have hne : 1 - e ≠ e := by omega
  have R0 := R
  obtain ⟨R, F⟩ := R
  obtain ⟨s1, s2, sq, sf, sa', sw, sn, xq, xa, xf, xw, xn, yq, ya, yf, yw, yn, ybs⟩ := SU_el he (SU_fr F S0)
  obtain ⟨rfl, rfl, xst, xer, xtr, xiss, xuna, xnxt, xmx, xla, xcl, xrcv, xfst, xfi, xun, xen, xwnd, xpk, xhf, xrto, xsm, xsb, xsa, xis, xsmo, xspr, xtm, xsi, xrt, xwt, xrs, yst, yer, ytr, yiss, yuna, ynxt, ymx, yla, ycl, yirs, yrcv, yfi, yun, ywnd, ypk, yhf, yrto, ysa, ysmo, ytm, ysi, yrt, ywt, yrs, I1, I3, I4, I5, K, C, H, W⟩ := RE_el R
  have hTi : vp_in (zI T) 32 := zI_in (by omega)
  have hTc : (zI T).toNatClampNeg = T.toNat := zI_cl (by omega)
  have hSi : vp_in (zI S) 32 := zI_in (by omega)
  have hSc : (zI S).toNatClampNeg = S.toNat := zI_cl (by omega)
  have b1 := I1
  unfold E1 at b1
  have b2 := E2_b I2 (by omega)
  obtain ⟨d, hd⟩ : ∃ d : Int, d = zo (a - (iss + una) % 65536) := ⟨_, rfl⟩
  have hdr : -32768 ≤ d ∧ d < 32768 := by rw [hd]; exact zo_r _
  unfold wpX_judge wpY_answered
  refine LX_a hSi (LX_a (e_in he) (LY_a (e_in he) ?_))
  rw [e_cl he, hSc, yuna, xuna (by omega), xa]
  simp only [x_offset, y_number he yiss b2.1, y_offset']
  refine LY_a hTi ?_
  rw [hTc, ya]
  simp only [y_offset']
  rw [← hd]
  refine LX_a (e_in he) (LY_a (e_in he) ?_)
  rw [xst, yst]
  have hc3 : zI st = 3 ↔ st = 3 := by rw [zl_3, zI_eq (by omega)]
  have hc1 : zI d = 1 ↔ d = 1 := by rw [zl_1, zI_eq (by omega)]
  by_cases h : st = 3
  · subst h
    refine LX_t (hc3.mpr rfl) (LY_t (hc3.mpr rfl) ?_)
    by_cases h1 : d = 1
    · refine LX_t (hc1.mpr h1) (LY_t (hc1.mpr h1) (LX_a (e_in he) (LX_n (LY_a (e_in he) (LY_n ?_)))))
      have b26 := I2.2.2.2.2.2.1 (by omega)
      refine lk_46 (st := 4) he (by omega) S0 hln hd (E2_w3 I2) (fun z => by omega) ⟨RE_in ⟨rfl, rfl, pk_us, xer, fun _ => xtr (by omega), xiss, fun _ => xuna (by omega), fun _ => xnxt (by omega), fun _ => xmx (by omega), fun _ => xla (by omega), fun _ => xcl (by omega), fun _ => xrcv (by omega), xfst, xfi, xun, fun _ => xen (by omega), xwnd, xpk, xhf, xrto, fun _ => xsm (by omega), xsb, xsa, xis, xsmo, xspr, xtm, xsi, xrt, xwt, xrs, pk_us, yer, ytr, yiss, yuna, ynxt, ymx, yla, ycl, yirs, yrcv, yfi, yun, ywnd, ypk, yhf, yrto, ysa, ysmo, ytm, ysi, yrt, ywt, yrs, ?_, ?_, I4, ?_, K, C, ?_, W⟩, FR_s F ?_ ?_ rfl⟩
      · unfold E1; omega
      · unfold E3 at I3 ⊢; omega
      · exact E5_st I5 (fun z => by omega) (fun z => by omega)
      · exact EH_0 H (H.2.2.2 (by omega))
      · simp only [vX, pk_un hne]
      · simp only [vY, pk_un hne]
    · refine LX_f (fun z => h1 (hc1.mp z)) (LY_f (fun z => h1 (hc1.mp z)) (LY_a hTi ?_))
      refine LK_b (lk_refA he S0 hfa R0) ?_
      intro f_now1 f_sent1 a_state1 a_error1 a_tries1 a_iss1 a_una1 a_nxt1 a_max1 a_last1 a_closing1 a_kept1 a_rcv1 a_first1 a_held1 a_fin1 a_unread1 a_came1 a_ended1 a_wnd1 a_peak1 a_half1 a_same1 a_setBy1 a_setAt1 a_isSet1 a_rto1 a_smooth1 a_spread1 a_timed1 a_since1 a_retry1 a_waits1 a_rest1 a_segSeq1 a_segAck1 a_segFlags1 a_segWindow1 a_segLength1 a_segBytes1 a_row1 a_many1 a_taken1 g_now1 g_sent1 b_seq1 b_flags1 b_acked1 b_window1 b_many1 b_data1 b_rows1 b_state1 b_error1 b_iss1 b_una1 b_nxt1 b_max1 b_last1 b_closed1 b_written1 b_irs1 b_unread1 b_bytes1 b_held1 b_rcv1 b_finAt1 b_marked1 b_wnd1 b_peak1 b_half1 b_rto1 b_same1 b_tries1 b_smooth1 b_spread1 b_byNumber1 b_byAck1 b_sampled1 b_told1 b_retry1 b_ackAt1 b_waitAt1 b_timedAt1 b_timed1 R1
      exact LK_r1 (Or.inl ⟨rfl, rfl, OK_i R1 I2⟩)
  · refine LX_f (fun z => h (hc3.mp z)) (LY_f (fun z => h (hc3.mp z)) ?_)
    exact lk_46 he (by omega) S0 hln hd (E2_w I2 (by omega)) (fun _ => I2) R0
end
end
section
/-! hold -/
section
variable {e : Nat} {L now : Int} {st er tr iss una nxt mx la cl irs rcv fi un fst wnd pk hf rto sa smo tm si rt wt rs nr nw ns : Int} {f_now f_sent : Int32} {a_state a_error a_tries a_iss a_una a_nxt a_max a_last a_closing a_kept a_rcv a_first a_held a_fin a_unread a_came a_ended a_wnd a_peak a_half a_same a_setBy a_setAt a_isSet a_rto a_smooth a_spread a_timed a_since a_retry a_waits a_rest a_segSeq a_segAck a_segFlags a_segWindow a_segLength a_segBytes a_row a_many a_taken : Nat → Int32} {g_now g_sent : Int32} {b_seq b_flags b_acked b_window b_many b_data b_rows b_state b_error b_iss : Nat → Int32} {b_una b_nxt b_max b_last : Nat → Int64} {b_closed b_written b_irs b_unread b_bytes b_held : Nat → Int32} {b_rcv b_finAt : Nat → Int64} {b_marked b_wnd b_peak b_half b_rto b_same b_tries b_smooth b_spread b_byNumber b_byAck b_sampled b_told b_retry b_ackAt b_waitAt b_timedAt : Nat → Int32} {b_timed : Nat → Int64} {u0 : SX} {v0 : SY}
theorem EH_set {hd v dv : Int32} {at_ : Nat} {rn : Int} (h : EH st rcv un fst hd (rg 32 e a_came) (rg 64 e b_marked) (rg 64 e b_held)) (ha : (at_ : Int) < 24 - un) (hu : 0 ≤ un ∧ un ≤ 24) (hst : 4 ≤ st ∧ st ≤ 6) (hr : rn % 32 = (fst + un) % 32) (hv : dv = v &&& 255) :
    EH st rcv un fst (hd ||| (zI 1 <<< (zI at_ &&& zI 31))) (rg 32 e (upd a_came ((32 * (e : Int) + (rn + at_) % 32).toNat) v)) (rg 64 e (upd b_marked ((64 * (e : Int) + (rcv + at_) % 64).toNat) (zI 1))) (rg 64 e (upd b_held ((64 * (e : Int) + (rcv + at_) % 64).toNat) dv)) := by
  have hb : ∀ i, bt (hd ||| (zI 1 <<< (zI at_ &&& zI 31))) i = (bt hd i || decide (i = at_)) := fun i => bb_set hd at_ (by omega) i
  refine ⟨fun i hi => ?_, fun z hz hz' => ?_, fun z hz hbz => ?_, fun z => by omega⟩
  · rw [hb, h.1 i hi]
    simp only [Bool.false_or, decide_eq_false_iff_not]; omega
  · rw [rg_in (by decide) (by omega), hb]
    by_cases c : z = at_
    · subst c
      rw [if_pos rfl, if_pos]
      simp
    · rw [if_neg (by omega), h.2.1 z hz hz']
      have : decide (z.toNat = at_) = false := by simp only [decide_eq_false_iff_not]; omega
      rw [this, Bool.or_false]
  · rw [hb] at hbz
    by_cases c : z = at_
    · subst c
      rw [rg_in (by decide) (by omega), if_pos rfl, rg_in (by decide) (by omega), if_pos (by omega)]
      exact hv
    · have hd' : decide (z.toNat = at_) = false := by simp only [decide_eq_false_iff_not]; omega
      rw [hd', Bool.or_false] at hbz
      have hz2 : z < 24 - un := by
        apply Classical.byContradiction
        intro hn
        have := h.1 z.toNat (by omega)
        rw [this] at hbz; cases hbz
      rw [rg_in (by decide) (by omega), if_neg (by omega), rg_in (by decide) (by omega), if_neg (by omega)]
      exact h.2.2.1 z hz hbz
theorem EC_set {v : Int32} {at_ : Nat} {rn : Int} {by_ : Int → Int32} (h : EC un fst (rg 32 e a_came) by_) (ha : (at_ : Int) < 24 - un) (hr : rn % 32 = (fst + un) % 32) : EC un fst (rg 32 e (upd a_came ((32 * (e : Int) + (rn + at_) % 32).toNat) v)) by_ := by
  intro j h0 h1
  rw [rg_in (by decide) (by omega), if_neg (by omega)]
  exact h j h0 h1
theorem EH_same {hd : Int32} {at_ : Nat} {cm hl : Int → Int32} (h : EH st rcv un fst hd cm (rg 64 e b_marked) hl) (ha : at_ < 64) (hb : bt hd at_ = true) : EH st rcv un fst hd cm (rg 64 e (upd b_marked ((64 * (e : Int) + (rcv + at_) % 64).toNat) (zI 1))) hl := by
  refine ⟨h.1, fun z hz hz' => ?_, h.2.2.1, h.2.2.2⟩
  rw [rg_in (by decide) (by omega)]
  by_cases c : z = at_
  · subst c
    rw [if_pos rfl, if_pos]
    simpa using hb
  · rw [if_neg (by omega)]
    exact h.2.1 z hz hz'
theorem lk_hold_l {S T q f a w n o mo : Int} {nn : Nat} (he : e < 2) (hL : L ≤ 1099511627776) (hst : 4 ≤ st ∧ st ≤ 6) (S0 : SU e S T q f a w n u0 v0) (hnn : n = nn) (ho : -32768 ≤ o ∧ o < 32768) (hmo : fi = -1 ∧ mo = 24 - un ∨ fi ≠ -1 ∧ mo = fi - rcv) : ∀ (d i : Nat) (a_held a_came b_held b_marked : Nat → Int32) (fx fy : Nat), i + d = nn → d < fx → d < fy → RZ e L now st er tr iss una nxt mx la cl irs rcv fi un fst wnd pk hf rto sa smo tm si rt wt rs nr nw ns u0 v0 (f_now, f_sent, a_state, a_error, a_tries, a_iss, a_una, a_nxt, a_max, a_last, a_closing, a_kept, a_rcv, a_first, a_held, a_fin, a_unread, a_came, a_ended, a_wnd, a_peak, a_half, a_same, a_setBy, a_setAt, a_isSet, a_rto, a_smooth, a_spread, a_timed, a_since, a_retry, a_waits, a_rest, a_segSeq, a_segAck, a_segFlags, a_segWindow, a_segLength, a_segBytes, a_row, a_many, a_taken) (g_now, g_sent, b_seq, b_flags, b_acked, b_window, b_many, b_data, b_rows, b_state, b_error, b_iss, b_una, b_nxt, b_max, b_last, b_closed, b_written, b_irs, b_unread, b_bytes, b_held, b_rcv, b_finAt, b_marked, b_wnd, b_peak, b_half, b_rto, b_same, b_tries, b_smooth, b_spread, b_byNumber, b_byAck, b_sampled, b_told, b_retry, b_ackAt, b_waitAt, b_timedAt, b_timed) →
    LK ap0 aq0 (fun p => wX_hold_65 p (zI e) (zI S) (zI o) (zI (24 - un)) (zI mo) (zI n) f_now f_sent fx (zI i) a_state a_error a_tries a_iss a_una a_nxt a_max a_last a_closing a_kept a_rcv a_first a_held a_fin a_unread a_came a_ended a_wnd a_peak a_half a_same a_setBy a_setAt a_isSet a_rto a_smooth a_spread a_timed a_since a_retry a_waits a_rest a_segSeq a_segAck a_segFlags a_segWindow a_segLength a_segBytes a_row a_many a_taken) (fun p => wY_hold_10 p (zI e) (zI T) (zI o) (zI (24 - un)) g_now g_sent fy (zI i) b_seq b_flags b_acked b_window b_many b_data b_rows b_state b_error b_iss b_una b_nxt b_max b_last b_closed b_written b_irs b_unread b_bytes b_held b_rcv b_finAt b_marked b_wnd b_peak b_half b_rto b_same b_tries b_smooth b_spread b_byNumber b_byAck b_sampled b_told b_retry b_ackAt b_waitAt b_timedAt b_timed) (fun u v => ∃ fi' : Int, RZ e L now st er tr iss una nxt mx la cl irs rcv fi' un fst wnd pk hf rto sa smo tm si rt wt rs nr nw ns u0 v0 u v) := by
  have hne : 1 - e ≠ e := by omega
  intro d
  induction d with
  | zero =>
    intro i a_held a_came b_held b_marked fx fy hi hx hy R
    obtain ⟨fx, rfl⟩ : ∃ n', fx = n' + 1 := ⟨fx - 1, by omega⟩
    obtain ⟨fy, rfl⟩ : ∃ n', fy = n' + 1 := ⟨fy - 1, by omega⟩
    have R0 := R
    obtain ⟨R, F⟩ := R
    obtain ⟨s1, s2, sq, sf, sa', sw, sn, xq, xa, xf, xw, xn, yq, ya, yf, yw, yn, ybs⟩ := SU_el he (SU_fr F S0)
    obtain ⟨rfl, rfl, xst, xer, xtr, xiss, xuna, xnxt, xmx, xla, xcl, xrcv, xfst, xfi, xun, xen, xwnd, xpk, xhf, xrto, xsm, xsb, xsa, xis, xsmo, xspr, xtm, xsi, xrt, xwt, xrs, yst, yer, ytr, yiss, yuna, ynxt, ymx, yla, ycl, yirs, yrcv, yfi, yun, ywnd, ypk, yhf, yrto, ysa, ysmo, ytm, ysi, yrt, ywt, yrs, I1, I3, I4, I5, K, C, H, W⟩ := RE_el R
    have hTi : vp_in (zI T) 32 := zI_in (by omega)
    have hTc : (zI T).toNatClampNeg = T.toNat := zI_cl (by omega)
    have hSi : vp_in (zI S) 32 := zI_in (by omega)
    have hSc : (zI S).toNatClampNeg = S.toNat := zI_cl (by omega)
    have b3 := I3
    unfold E3 at b3
    have hc : zI n ≤ zI i := by rw [zI_le (by omega)]; omega
    have T0 : LK ap0 aq0 (fun p => p (zI now, f_sent, a_state, a_error, a_tries, a_iss, a_una, a_nxt, a_max, a_last, a_closing, a_kept, a_rcv, a_first, a_held, a_fin, a_unread, a_came, a_ended, a_wnd, a_peak, a_half, a_same, a_setBy, a_setAt, a_isSet, a_rto, a_smooth, a_spread, a_timed, a_since, a_retry, a_waits, a_rest, a_segSeq, a_segAck, a_segFlags, a_segWindow, a_segLength, a_segBytes, a_row, a_many, a_taken)) (fun p => p (zI now, g_sent, b_seq, b_flags, b_acked, b_window, b_many, b_data, b_rows, b_state, b_error, b_iss, b_una, b_nxt, b_max, b_last, b_closed, b_written, b_irs, b_unread, b_bytes, b_held, b_rcv, b_finAt, b_marked, b_wnd, b_peak, b_half, b_rto, b_same, b_tries, b_smooth, b_spread, b_byNumber, b_byAck, b_sampled, b_told, b_retry, b_ackAt, b_waitAt, b_timedAt, b_timed)) (fun u v => ∃ fi' : Int, RZ e L now st er tr iss una nxt mx la cl irs rcv fi' un fst wnd pk hf rto sa smo tm si rt wt rs nr nw ns u0 v0 u v) := LK_r0 ⟨fi, R0⟩
    refine LX_t hc (LX_n (LX_a hSi ?_))
    refine LY_a hTi ?_
    rw [hSc, hTc, xf, yn, yf]
    refine LY_t hc (LY_a hTi (LY_n (LY_a hTi ?_)))
    rw [zI_add]
    by_cases h4 : f / 4 % 2 = 0
    · exact LX_t ((cf_4 sf).mpr h4) (LY_t ((cf_4 sf).mpr h4) T0)
    · refine LX_f (fun z => h4 ((cf_4 sf).mp z)) (LY_f (fun z => h4 ((cf_4 sf).mp z)) (LX_a (e_in he) ?_))
      have nfr := nf_r irs fi
      have hcf : 0 ≤ zI (nf irs fi) ↔ 0 ≤ fi := by rw [zl_0, zI_le (by omega), nf_s']
      have hcg : 0 ≤ zL fi ↔ 0 ≤ fi := by rw [zk_0, zL_le (by omega)]
      have hc1 : zI (o + n) < 0 ↔ o + n < 0 := by rw [zl_0, zI_lt (by omega)]
      have hc2 : zI (24 - un) ≤ zI (o + n) ↔ 24 - un ≤ o + n := zI_le (by omega)
      rw [e_cl he, xfi]
      by_cases g2 : o + n < 0
      · refine LY_t (hc1.mpr g2) ?_
        by_cases g1 : 0 ≤ fi
        · exact LX_t (hcf.mpr g1) T0
        · exact LX_f (fun z => g1 (hcf.mp z)) (LX_t (hc1.mpr g2) T0)
      · refine LY_f (fun z => g2 (hc1.mp z)) ?_
        by_cases g3 : 24 - un ≤ o + n
        · refine LY_t (hc2.mpr g3) ?_
          by_cases g1 : 0 ≤ fi
          · exact LX_t (hcf.mpr g1) T0
          · exact LX_f (fun z => g1 (hcf.mp z)) (LX_f (fun z => g2 (hc1.mp z)) (LX_t (hc2.mpr g3) T0))
        · refine LY_f (fun z => g3 (hc2.mp z)) (LY_a (e_in he) ?_)
          rw [yfi]
          by_cases g1 : 0 ≤ fi
          · exact LX_t (hcf.mpr g1) (LY_t (hcg.mpr g1) T0)
          · refine LX_f (fun z => g1 (hcf.mp z)) (LX_f (fun z => g2 (hc1.mp z)) (LX_f (fun z => g3 (hc2.mp z)) (LX_a (e_in he) (LX_a (e_in he) ?_))))
            refine LY_f (fun z => g1 (hcg.mp z)) (LY_a (e_in he) (LY_a (e_in he) ?_))
            rw [xrcv (by omega), yrcv, zI_add, zl_65535, zI_m16, zm_add, zI_l (by omega), zL_add]
            refine LX_n (LY_n (LK_r0 ⟨rcv + (o + n), RE_in ⟨rfl, rfl, xst, xer, xtr, xiss, xuna, xnxt, xmx, xla, xcl, xrcv, xfst, ?_, xun, xen, xwnd, xpk, xhf, xrto, xsm, xsb, xsa, xis, xsmo, xspr, xtm, xsi, xrt, xwt, xrs, yst, yer, ytr, yiss, yuna, ynxt, ymx, yla, ycl, yirs, yrcv, pk_uLs, yun, ywnd, ypk, yhf, yrto, ysa, ysmo, ytm, ysi, yrt, ywt, yrs, I1, ?_, I4, I5, K, C, H, W⟩, FR_s F ?_ ?_ rfl⟩))
            · rw [pk_us, nf_p (by omega)]
            · unfold E3; omega
            · simp only [vX, pk_un hne]
            · simp only [vY, pk_uLn hne]
  | succ d ih =>
    intro i a_held a_came b_held b_marked fx fy hi hx hy R
    obtain ⟨fx, rfl⟩ : ∃ n', fx = n' + 1 := ⟨fx - 1, by omega⟩
    obtain ⟨fy, rfl⟩ : ∃ n', fy = n' + 1 := ⟨fy - 1, by omega⟩
    have D := ih (i + 1) a_held a_came b_held b_marked fx fy (by omega) (by omega) (by omega) R
    have R0 := R
    obtain ⟨R, F⟩ := R
    obtain ⟨s1, s2, sq, sf, sa', sw, sn, xq, xa, xf, xw, xn, yq, ya, yf, yw, yn, ybs⟩ := SU_el he (SU_fr F S0)
    obtain ⟨rfl, rfl, xst, xer, xtr, xiss, xuna, xnxt, xmx, xla, xcl, xrcv, xfst, xfi, xun, xen, xwnd, xpk, xhf, xrto, xsm, xsb, xsa, xis, xsmo, xspr, xtm, xsi, xrt, xwt, xrs, yst, yer, ytr, yiss, yuna, ynxt, ymx, yla, ycl, yirs, yrcv, yfi, yun, ywnd, ypk, yhf, yrto, ysa, ysmo, ytm, ysi, yrt, ywt, yrs, I1, I3, I4, I5, K, C, H, W⟩ := RE_el R
    have hTi : vp_in (zI T) 32 := zI_in (by omega)
    have hTc : (zI T).toNatClampNeg = T.toNat := zI_cl (by omega)
    have b3 := I3
    unfold E3 at b3
    have hc : ¬ zI n ≤ zI i := by rw [zI_le (by omega)]; omega
    have hi1 : zI i + 1 = zI ((i + 1 : Nat) : Int) := zI_add i 1
    refine LX_f hc ?_
    refine LY_a hTi ?_
    rw [hTc, yn]
    refine LY_f hc (LY_a (e_in he) ?_)
    rw [e_cl he, yrcv, hi1, zI_add, zI_l (z := o) (by omega), zI_l (z := (i : Int)) (by omega), zL_add, zL_add]
    refine LX_n (LY_n ?_)
    have hc1 : zI (o + i) < 0 ↔ o + i < 0 := by rw [zl_0, zI_lt (by omega)]
    have hc2 : zI (24 - un) ≤ zI (o + i) ↔ 24 - un ≤ o + i := zI_le (by omega)
    by_cases g1 : o + i < 0
    · exact LX_t (hc1.mpr g1) (LX_n (LY_t (hc1.mpr g1) (LY_n D)))
    · refine LX_f (fun z => g1 (hc1.mp z)) (LY_f (fun z => g1 (hc1.mp z)) ?_)
      by_cases g2 : 24 - un ≤ o + i
      · exact LX_t (hc2.mpr g2) (LX_n (LY_t (hc2.mpr g2) (LY_n D)))
      · refine LX_f (fun z => g2 (hc2.mp z)) (LY_f (fun z => g2 (hc2.mp z)) (LY_a (e_in he) ?_))
        have hc3 : zI mo ≤ zI (o + i) ↔ mo ≤ o + i := zI_le (by omega)
        have hc4 : zL fi < 0 ↔ fi < 0 := by rw [zk_0, zL_lt (by omega)]
        have hc5 : zL (rcv + o + i) < zL fi ↔ rcv + o + i < fi := zL_lt (by omega)
        rw [yfi]
        by_cases g3 : mo ≤ o + i
        · refine LX_t (hc3.mpr g3) (LX_n ?_)
          refine LY_f (fun z => by have := hc4.mp z; omega) (LY_a (e_in he) (LY_f (fun z => by have := hc5.mp z; omega) (LY_n D)))
        · refine LX_f (fun z => g3 (hc3.mp z)) (LX_a (e_in he) ?_)
          have g5 : ¬ fi < 0 → rcv + o + i < fi := by omega
          apply LK_y
          · intro p h
            by_cases g4 : fi < 0
            · exact br_t (hc4.mpr g4) h
            · exact br_f (fun z => g4 (hc4.mp z)) ⟨e_in he, br_t (hc5.mpr (g5 g4)) h⟩
          obtain ⟨j, hj⟩ := Int.eq_ofNat_of_zero_le (show 0 ≤ o + i by omega)
          have hj2 : rcv + o + i = rcv + j := by omega
          rw [hj, hj2]
          unfold wY_hold_78 wpY_at
          rw [zk_63, zL_m6, zI_i, zl_64, zI_mul, zI_add]
          have hri : vp_in (zI (64 * (e : Int) + (rcv + j) % 64)) 128 := zI_in (by omega)
          have hrc : (zI (64 * (e : Int) + (rcv + j) % 64)).toNatClampNeg = (64 * (e : Int) + (rcv + j) % 64).toNat := zI_cl (by omega)
          have hdi : vp_in (zI (8 * T + i)) 256 := zI_in (by omega)
          have hdc : (zI (8 * T + i)).toNatClampNeg = (8 * T + i).toNat := zI_cl (by omega)
          have hsi : vp_in (zI (8 * S + i)) 256 := zI_in (by omega)
          have hsc : (zI (8 * S + i)).toNatClampNeg = (8 * S + i).toNat := zI_cl (by omega)
          have hri2 : vp_in (zI (32 * (e : Int) + ((irs + rcv) % 65536 + j) % 32)) 64 := zI_in (by omega)
          have hrc2 : (zI (32 * (e : Int) + ((irs + rcv) % 65536 + j) % 32)).toNatClampNeg = (32 * (e : Int) + ((irs + rcv) % 65536 + j) % 32).toNat := zI_cl (by omega)
          refine LY_a hri ?_
          rw [hrc, show (8 : Int32) * zI T + zI i = zI (8 * T + i) by rw [zl_8, zI_mul, zI_add], hi1]
          have hmk : b_marked ((64 * (e : Int) + (rcv + j) % 64).toNat) = if bt (a_held e) j = true then zI 1 else zI 0 := H.2.1 j (by omega) (by omega)
          have hbit := bb_sh (a_held e) j (by omega)
          rw [hmk]
          cases hb : bt (a_held e) j with
          | true =>
            rw [if_pos rfl]
            refine LX_f (fun z => by rw [hbit.mp z] at hb; cases hb) (LX_n ?_)
            refine LY_f (by decide) (LY_a hri (LY_n (LY_n ?_)))
            refine ih (i + 1) a_held a_came b_held _ fx fy (by omega) (by omega) (by omega) ⟨RE_in ⟨rfl, rfl, xst, xer, xtr, xiss, xuna, xnxt, xmx, xla, xcl, xrcv, xfst, xfi, xun, xen, xwnd, xpk, xhf, xrto, xsm, xsb, xsa, xis, xsmo, xspr, xtm, xsi, xrt, xwt, xrs, yst, yer, ytr, yiss, yuna, ynxt, ymx, yla, ycl, yirs, yrcv, yfi, yun, ywnd, ypk, yhf, yrto, ysa, ysmo, ytm, ysi, yrt, ywt, yrs, I1, I3, I4, I5, K, C, EH_same H (by omega) hb, W⟩, FR_s F rfl ?_ rfl⟩
            simp only [vY, rg_out (n := 64) (by decide) (show 0 ≤ (rcv + (j : Int)) % 64 ∧ (rcv + (j : Int)) % 64 < 64 by omega) he (show 1 - e < 2 by omega) hne]
          | false =>
            rw [if_neg (by decide)]
            refine LX_t (hbit.mpr hb) (LX_a (e_in he) (LX_a (e_in he) (LX_n (LX_a (e_in he) ?_))))
            rw [xrcv (by omega), show (8 : Int32) * zI S + zI i = zI (8 * S + i) by rw [zl_8, zI_mul, zI_add], zI_add, show (31 : Int32) = zI 31 from rfl, zI_m5, show (32 : Int32) = zI 32 from rfl, zI_mul, zI_add]
            refine LX_a hsi (LX_a hri2 ?_)
            rw [hsc, hrc2]
            refine LX_n (LX_n ?_)
            refine LY_t rfl (LY_a hdi (LY_a hri ?_))
            rw [hdc]
            refine LY_n (LY_a hri (LY_n (LY_n ?_)))
            have hrr : ((irs + rcv) % 65536) % 32 = (fst + un) % 32 := by have := b3.2.2.2.2.2.2.1 (by omega); omega
            have hby := ybs i (by omega) (by omega)
            refine ih (i + 1) _ _ _ _ fx fy (by omega) (by omega) (by omega) ⟨RE_in ⟨rfl, rfl, xst, xer, xtr, xiss, xuna, xnxt, xmx, xla, xcl, xrcv, xfst, xfi, xun, xen, xwnd, xpk, xhf, xrto, xsm, xsb, xsa, xis, xsmo, xspr, xtm, xsi, xrt, xwt, xrs, yst, yer, ytr, yiss, yuna, ynxt, ymx, yla, ycl, yirs, yrcv, yfi, yun, ywnd, ypk, yhf, yrto, ysa, ysmo, ytm, ysi, yrt, ywt, yrs, I1, I3, I4, I5, K, EC_set C (by omega) hrr, ?_, W⟩, FR_s F ?_ ?_ rfl⟩
            · rw [pk_us]
              exact EH_set H (by omega) b3.2.2.1 hst hrr (by rw [by_nar]; exact hby)
            · simp only [vX, pk_un hne, rg_out (n := 32) (by decide) (show 0 ≤ ((irs + rcv) % 65536 + (j : Int)) % 32 ∧ ((irs + rcv) % 65536 + (j : Int)) % 32 < 32 by omega) he (show 1 - e < 2 by omega) hne]
            · simp only [vY, rg_out (n := 64) (by decide) (show 0 ≤ (rcv + (j : Int)) % 64 ∧ (rcv + (j : Int)) % 64 < 64 by omega) he (show 1 - e < 2 by omega) hne]
end
end
section
/-! hold (whole), advance and goOn -/
section
variable {e : Nat} {L now : Int} {st er tr iss una nxt mx la cl irs rcv fi un fst wnd pk hf rto sa smo tm si rt wt rs nr nw ns : Int} {f_now f_sent : Int32} {a_state a_error a_tries a_iss a_una a_nxt a_max a_last a_closing a_kept a_rcv a_first a_held a_fin a_unread a_came a_ended a_wnd a_peak a_half a_same a_setBy a_setAt a_isSet a_rto a_smooth a_spread a_timed a_since a_retry a_waits a_rest a_segSeq a_segAck a_segFlags a_segWindow a_segLength a_segBytes a_row a_many a_taken : Nat → Int32} {g_now g_sent : Int32} {b_seq b_flags b_acked b_window b_many b_data b_rows b_state b_error b_iss : Nat → Int32} {b_una b_nxt b_max b_last : Nat → Int64} {b_closed b_written b_irs b_unread b_bytes b_held : Nat → Int32} {b_rcv b_finAt : Nat → Int64} {b_marked b_wnd b_peak b_half b_rto b_same b_tries b_smooth b_spread b_byNumber b_byAck b_sampled b_told b_retry b_ackAt b_waitAt b_timedAt : Nat → Int32} {b_timed : Nat → Int64} {u0 : SX} {v0 : SY}
theorem lk_hold {S T q f a w n o : Int} (he : e < 2) (hL : L ≤ 1099511627776) (hst : 4 ≤ st ∧ st ≤ 6) (S0 : SU e S T q f a w n u0 v0) (ho : o = zo (q - (irs + rcv) % 65536)) (R : RZ e L now st er tr iss una nxt mx la cl irs rcv fi un fst wnd pk hf rto sa smo tm si rt wt rs nr nw ns u0 v0 (f_now, f_sent, a_state, a_error, a_tries, a_iss, a_una, a_nxt, a_max, a_last, a_closing, a_kept, a_rcv, a_first, a_held, a_fin, a_unread, a_came, a_ended, a_wnd, a_peak, a_half, a_same, a_setBy, a_setAt, a_isSet, a_rto, a_smooth, a_spread, a_timed, a_since, a_retry, a_waits, a_rest, a_segSeq, a_segAck, a_segFlags, a_segWindow, a_segLength, a_segBytes, a_row, a_many, a_taken) (g_now, g_sent, b_seq, b_flags, b_acked, b_window, b_many, b_data, b_rows, b_state, b_error, b_iss, b_una, b_nxt, b_max, b_last, b_closed, b_written, b_irs, b_unread, b_bytes, b_held, b_rcv, b_finAt, b_marked, b_wnd, b_peak, b_half, b_rto, b_same, b_tries, b_smooth, b_spread, b_byNumber, b_byAck, b_sampled, b_told, b_retry, b_ackAt, b_waitAt, b_timedAt, b_timed)) :
    LK ap0 aq0 (fun p => wpX_hold p (f_now, f_sent, a_state, a_error, a_tries, a_iss, a_una, a_nxt, a_max, a_last, a_closing, a_kept, a_rcv, a_first, a_held, a_fin, a_unread, a_came, a_ended, a_wnd, a_peak, a_half, a_same, a_setBy, a_setAt, a_isSet, a_rto, a_smooth, a_spread, a_timed, a_since, a_retry, a_waits, a_rest, a_segSeq, a_segAck, a_segFlags, a_segWindow, a_segLength, a_segBytes, a_row, a_many, a_taken) (zI e) (zI S)) (fun p => wpY_hold p (g_now, g_sent, b_seq, b_flags, b_acked, b_window, b_many, b_data, b_rows, b_state, b_error, b_iss, b_una, b_nxt, b_max, b_last, b_closed, b_written, b_irs, b_unread, b_bytes, b_held, b_rcv, b_finAt, b_marked, b_wnd, b_peak, b_half, b_rto, b_same, b_tries, b_smooth, b_spread, b_byNumber, b_byAck, b_sampled, b_told, b_retry, b_ackAt, b_waitAt, b_timedAt, b_timed) (zI e) (zI T) (zI o)) (fun u v => ∃ fi' : Int, RZ e L now st er tr iss una nxt mx la cl irs rcv fi' un fst wnd pk hf rto sa smo tm si rt wt rs nr nw ns u0 v0 u v) := by
  have R0 := R
  obtain ⟨R, F⟩ := R
  obtain ⟨s1, s2, sq, sf, sa', sw, sn, xq, xa, xf, xw, xn, yq, ya, yf, yw, yn, ybs⟩ := SU_el he (SU_fr F S0)
  obtain ⟨rfl, rfl, xst, xer, xtr, xiss, xuna, xnxt, xmx, xla, xcl, xrcv, xfst, xfi, xun, xen, xwnd, xpk, xhf, xrto, xsm, xsb, xsa, xis, xsmo, xspr, xtm, xsi, xrt, xwt, xrs, yst, yer, ytr, yiss, yuna, ynxt, ymx, yla, ycl, yirs, yrcv, yfi, yun, ywnd, ypk, yhf, yrto, ysa, ysmo, ytm, ysi, yrt, ywt, yrs, I1, I3, I4, I5, K, C, H, W⟩ := RE_el R
  have hSi : vp_in (zI S) 32 := zI_in (by omega)
  have hSc : (zI S).toNatClampNeg = S.toNat := zI_cl (by omega)
  have b3 := I3
  unfold E3 at b3
  have hor := zo_r (q - (irs + rcv) % 65536)
  rw [← ho] at hor
  obtain ⟨nn, hnn⟩ := Int.eq_ofNat_of_zero_le sn.1
  have nfr := nf_r irs fi
  have hcf : 0 ≤ zI (nf irs fi) ↔ 0 ≤ fi := by rw [zl_0, zI_le (by omega), nf_s']
  obtain ⟨mo, hmo⟩ : ∃ mo : Int, fi = -1 ∧ mo = 24 - un ∨ fi ≠ -1 ∧ mo = fi - rcv := by
    by_cases h : fi = -1
    · exact ⟨24 - un, Or.inl ⟨h, rfl⟩⟩
    · exact ⟨fi - rcv, Or.inr ⟨h, rfl⟩⟩
  have hX : ∀ p, wX_hold_65 p (zI e) (zI S) (zI o) (zI (24 - un)) (zI mo) (zI n) (zI now) f_sent (nn + 1) (zI ((0 : Nat) : Int)) a_state a_error a_tries a_iss a_una a_nxt a_max a_last a_closing a_kept a_rcv a_first a_held a_fin a_unread a_came a_ended a_wnd a_peak a_half a_same a_setBy a_setAt a_isSet a_rto a_smooth a_spread a_timed a_since a_retry a_waits a_rest a_segSeq a_segAck a_segFlags a_segWindow a_segLength a_segBytes a_row a_many a_taken → wpX_hold p (zI now, f_sent, a_state, a_error, a_tries, a_iss, a_una, a_nxt, a_max, a_last, a_closing, a_kept, a_rcv, a_first, a_held, a_fin, a_unread, a_came, a_ended, a_wnd, a_peak, a_half, a_same, a_setBy, a_setAt, a_isSet, a_rto, a_smooth, a_spread, a_timed, a_since, a_retry, a_waits, a_rest, a_segSeq, a_segAck, a_segFlags, a_segWindow, a_segLength, a_segBytes, a_row, a_many, a_taken) (zI e) (zI S) := by
    intro p h
    unfold wpX_hold
    refine ⟨hSi, e_in he, ?_⟩
    rw [e_cl he, hSc, xq, xrcv (by omega), x_offset, x_window he xun, ← ho]
    refine ⟨e_in he, ?_⟩
    rw [xfi]
    unfold wX_hold_52
    by_cases g : 0 ≤ fi
    · refine br_t (hcf.mpr g) ⟨e_in he, e_in he, ?_⟩
      rw [nf_p g, x_offset, zo_pos (by omega)]
      refine ⟨hSi, ?_⟩
      rw [hSc, xn, show fi - rcv = mo by omega]
      exact nm_e ⟨_, h⟩
    · refine br_f (fun z => g (hcf.mp z)) ⟨hSi, ?_⟩
      have hmo2 : mo = 24 - un := by omega
      rw [hmo2] at h
      rw [hSc, xn]
      exact nm_e ⟨_, h⟩
  refine LK_x hX ?_
  unfold wpY_hold
  simp only [y_own he yun]
  refine LY_e (nn + 1) ?_
  exact lk_hold_l he hL hst S0 hnn hor hmo nn 0 a_held a_came b_held b_marked (nn + 1) (nn + 1) (by omega) (by omega) (by omega) R0
theorem EH_shift {hd : Int32} {cm hl : Int → Int32} (h : EH st rcv un fst hd cm (rg 64 e b_marked) hl) (hst : 4 ≤ st ∧ st ≤ 6) (hu : 0 ≤ un ∧ un ≤ 24) :
    EH st (rcv + 1) (un + 1) fst (hd >>> (zI 1 &&& zI 31)) cm (rg 64 e (upd b_marked ((64 * (e : Int) + rcv % 64).toNat) (zI 0))) hl := by
  have hb : ∀ i, bt (hd >>> (zI 1 &&& zI 31)) i = bt hd (i + 1) := by
    intro i
    by_cases h32 : i < 32
    · rw [show zI 1 &&& zI 31 = nI 1 &&& 31 from rfl, b_sshr 1 (by decide) hd h32]
      by_cases h31 : 1 + i < 32
      · rw [if_pos h31, Nat.add_comm]
      · rw [if_neg h31, h.1 31 (by omega), b_big (by omega)]
    · rw [b_big (by omega), b_big (by omega)]
  refine ⟨fun i hi => ?_, fun z hz hz' => ?_, fun z hz hbz => ?_, fun z => by omega⟩
  · rw [hb]; exact h.1 (i + 1) (by omega)
  · rw [rg_in (by decide) (by omega), hb]
    by_cases c : z = 63
    · subst c
      rw [if_pos (by omega), if_neg]
      rw [b_big (by decide)]; decide
    · rw [if_neg (by omega), show rcv + 1 + z = rcv + (z + 1) by omega, h.2.1 (z + 1) (by omega) (by omega), show (z + 1).toNat = z.toNat + 1 by omega]
  · rw [hb] at hbz
    rw [show rcv + 1 + z = rcv + (z + 1) by omega, show fst + (un + 1) + z = fst + un + (z + 1) by omega]
    exact h.2.2.1 (z + 1) (by omega) (by rw [show (z + 1).toNat = z.toNat + 1 by omega]; exact hbz)
theorem EC_push {cm : Int → Int32} {v : Int32} (h : EC un fst cm (rg 24 e b_bytes)) (hu : 0 ≤ un ∧ un < 24) (hv : v = cm (fst + un) &&& 255) : EC (un + 1) fst cm (rg 24 e (upd b_bytes ((24 * (e : Int) + un).toNat) v)) := by
  intro j h0 h1
  rw [rg_in (by decide) (by omega)]
  by_cases c : j = un
  · subst c; rw [if_pos (by omega)]; exact hv
  · rw [if_neg (by omega)]; exact h j h0 (by omega)
theorem y_135 (he : e < 2) : ∀ (d j : Nat) (mk : Nat → Int32), j + d = 64 → rg 64 (1 - e) mk = rg 64 (1 - e) b_marked → (∀ z : Int, 0 ≤ z → z < j → rg 64 e mk z = zI 0) →
    ∃ mk', rg 64 (1 - e) mk' = rg 64 (1 - e) b_marked ∧ (∀ z : Int, rg 64 e mk' z = zI 0) ∧
      ∀ {g_now g_sent : Int32} {b_seq b_flags b_acked b_window b_many b_data b_rows b_state b_error b_iss : Nat → Int32} {b_una b_nxt b_max b_last : Nat → Int64} {b_closed b_written b_irs b_unread b_bytes b_held : Nat → Int32} {b_rcv b_finAt : Nat → Int64} {b_wnd b_peak b_half b_rto b_same b_tries b_smooth b_spread b_byNumber b_byAck b_sampled b_told b_retry b_ackAt b_waitAt b_timedAt : Nat → Int32} {b_timed : Nat → Int64} (post : SY → Prop), wY_goOn_135 post (zI e) g_now g_sent 1 (zI (64 * e + 64)) b_seq b_flags b_acked b_window b_many b_data b_rows b_state b_error b_iss b_una b_nxt b_max b_last b_closed b_written b_irs b_unread b_bytes b_held b_rcv b_finAt mk' b_wnd b_peak b_half b_rto b_same b_tries b_smooth b_spread b_byNumber b_byAck b_sampled b_told b_retry b_ackAt b_waitAt b_timedAt b_timed → wY_goOn_135 post (zI e) g_now g_sent (d + 1) (zI (64 * e + j)) b_seq b_flags b_acked b_window b_many b_data b_rows b_state b_error b_iss b_una b_nxt b_max b_last b_closed b_written b_irs b_unread b_bytes b_held b_rcv b_finAt mk b_wnd b_peak b_half b_rto b_same b_tries b_smooth b_spread b_byNumber b_byAck b_sampled b_told b_retry b_ackAt b_waitAt b_timedAt b_timed := by
  intro d
  induction d with
  | zero =>
    intro j mk hj h1 h2
    refine ⟨mk, h1, fun z => ?_, ?_⟩
    · rw [rg_mod (show z % 64 = (z % 64) % 64 by omega)]
      exact h2 _ (by omega) (by omega)
    · intro g_now g_sent b_seq b_flags b_acked b_window b_many b_data b_rows b_state b_error b_iss b_una b_nxt b_max b_last b_closed b_written b_irs b_unread b_bytes b_held b_rcv b_finAt b_wnd b_peak b_half b_rto b_same b_tries b_smooth b_spread b_byNumber b_byAck b_sampled b_told b_retry b_ackAt b_waitAt b_timedAt b_timed post K
      have hj : j = 64 := by omega
      subst hj
      exact K
  | succ d ih =>
    intro j mk hj h1 h2
    obtain ⟨mk', c1, c2, c3⟩ := ih (j + 1) (upd mk ((64 * (e : Int) + j).toNat) (zI 0)) (by omega) (by rw [rg_out (by decide) (by omega) he (by omega) (by omega)]; exact h1) (fun z h0 hz => by
      rw [rg_in (by decide) (by omega)]
      by_cases q : z = j
      · subst q; rw [if_pos (by omega)]
      · rw [if_neg (by omega)]; exact h2 z h0 (by omega))
    refine ⟨mk', c1, c2, ?_⟩
    intro g_now g_sent b_seq b_flags b_acked b_window b_many b_data b_rows b_state b_error b_iss b_una b_nxt b_max b_last b_closed b_written b_irs b_unread b_bytes b_held b_rcv b_finAt b_wnd b_peak b_half b_rto b_same b_tries b_smooth b_spread b_byNumber b_byAck b_sampled b_told b_retry b_ackAt b_waitAt b_timedAt b_timed post K
    have hc := c3 post K
    have h3 : ¬ (64 : Int32) * zI e + 64 ≤ zI (64 * e + j) := by rw [zl_64, zI_mul, zI_add, zI_le (by omega)]; omega
    have h4 : vp_in (zI (64 * (e : Int) + j)) 128 := zI_in (by omega)
    have h5 : (zI (64 * (e : Int) + j)).toNatClampNeg = (64 * (e : Int) + j).toNat := zI_cl (by omega)
    rw [wY_goOn_135]
    refine br_f h3 ⟨h4, ?_⟩
    rw [h5, show vp_nar FieldType.boolean 0 = zI 0 from zI_nb0]
    refine nm_e (nm_r (e' := zI (64 * e + ((j + 1 : Nat) : Int))) ?_ hc)
    rw [zl_1, zI_add]; congr 1
end
end
section
/-! advance and goOn: the loops -/
section
variable {e : Nat} {L now : Int} {st er tr iss una nxt mx la cl irs rcv fi un fst wnd pk hf rto sa smo tm si rt wt rs nr nw ns : Int} {f_now f_sent : Int32} {a_state a_error a_tries a_iss a_una a_nxt a_max a_last a_closing a_kept a_rcv a_first a_held a_fin a_unread a_came a_ended a_wnd a_peak a_half a_same a_setBy a_setAt a_isSet a_rto a_smooth a_spread a_timed a_since a_retry a_waits a_rest a_segSeq a_segAck a_segFlags a_segWindow a_segLength a_segBytes a_row a_many a_taken : Nat → Int32} {g_now g_sent : Int32} {b_seq b_flags b_acked b_window b_many b_data b_rows b_state b_error b_iss : Nat → Int32} {b_una b_nxt b_max b_last : Nat → Int64} {b_closed b_written b_irs b_unread b_bytes b_held : Nat → Int32} {b_rcv b_finAt : Nat → Int64} {b_marked b_wnd b_peak b_half b_rto b_same b_tries b_smooth b_spread b_byNumber b_byAck b_sampled b_told b_retry b_ackAt b_waitAt b_timedAt : Nat → Int32} {b_timed : Nat → Int64} {u0 : SX} {v0 : SY}
/-- what advance leaves; rw_: the position that was due before -/
def QA (e : Nat) (rw_ L now er tr iss una nxt mx la cl irs fst wnd pk hf rto sa smo tm si rt wt nr nw ns : Int) (u0 : SX) (v0 : SY) (u : SX) (v : SY) : Prop :=
  ∃ st rcv fi un rs : Int, (4 ≤ st ∧ rw_ ≤ rcv ∧ rcv ≤ rw_ + 30) ∧ RZ e L now st er tr iss una nxt mx la cl irs rcv fi un fst wnd pk hf rto sa smo tm si rt wt rs nr nw ns u0 v0 u v ∧ E2 L st iss una nxt mx la cl tm
theorem E2_st7 {st' : Int} (h : E2 L st iss una nxt mx la cl tm) (h1 : st = 4 ∧ st' = 7 ∨ st = 5 ∧ st' = 8 ∨ st = 6 ∧ st' = 10) : E2 L st' iss una nxt mx la cl tm := by
  obtain ⟨a1, a2, a3, a4, a5, a6, a7, a8, a9⟩ := h
  exact ⟨a1, a2, fun z => by omega, fun z => by omega, fun _ => a5 (by omega), fun z => by omega, fun _ => a7 (by omega), fun z => a8 (by omega), a9⟩
theorem EH_fin {st' rcv' : Int} {cm hl mk : Int → Int32} (hm : ∀ z, mk z = zI 0) : EH st' rcv' un fst (zI 0) cm mk hl := by
  have hb : ∀ i, bt (zI 0) i = false := fun i => b_0 i
  refine ⟨fun i _ => hb i, fun z _ _ => ?_, fun z _ hz => ?_, fun _ => rfl⟩
  · rw [hb, hm]; rfl
  · rw [hb] at hz; cases hz
theorem lk_fin {rw_ : Int} (he : e < 2) (hst : 4 ≤ st ∧ st ≤ 6) (hB : rcv + 1 ≤ L) (hw : rw_ ≤ rcv ∧ rcv ≤ rw_ + 29) (hrf : rcv = fi ∨ rcv ≠ fi) (I2 : E2 L st iss una nxt mx la cl tm) (R : RZ e L now st er tr iss una nxt mx la cl irs rcv fi un fst wnd pk hf rto sa smo tm si rt wt rs nr nw ns u0 v0 (f_now, f_sent, a_state, a_error, a_tries, a_iss, a_una, a_nxt, a_max, a_last, a_closing, a_kept, a_rcv, a_first, a_held, a_fin, a_unread, a_came, a_ended, a_wnd, a_peak, a_half, a_same, a_setBy, a_setAt, a_isSet, a_rto, a_smooth, a_spread, a_timed, a_since, a_retry, a_waits, a_rest, a_segSeq, a_segAck, a_segFlags, a_segWindow, a_segLength, a_segBytes, a_row, a_many, a_taken) (g_now, g_sent, b_seq, b_flags, b_acked, b_window, b_many, b_data, b_rows, b_state, b_error, b_iss, b_una, b_nxt, b_max, b_last, b_closed, b_written, b_irs, b_unread, b_bytes, b_held, b_rcv, b_finAt, b_marked, b_wnd, b_peak, b_half, b_rto, b_same, b_tries, b_smooth, b_spread, b_byNumber, b_byAck, b_sampled, b_told, b_retry, b_ackAt, b_waitAt, b_timedAt, b_timed)) :
    LK ap0 aq0 (fun p => wX_advance_67 p (zI e) f_now f_sent a_state a_error a_tries a_iss a_una a_nxt a_max a_last a_closing a_kept a_rcv a_first a_held a_fin a_unread a_came a_ended a_wnd a_peak a_half a_same a_setBy a_setAt a_isSet a_rto a_smooth a_spread a_timed a_since a_retry a_waits a_rest a_segSeq a_segAck a_segFlags a_segWindow a_segLength a_segBytes a_row a_many a_taken) (fun p => wY_goOn_94 p (zI e) g_now g_sent b_seq b_flags b_acked b_window b_many b_data b_rows b_state b_error b_iss b_una b_nxt b_max b_last b_closed b_written b_irs b_unread b_bytes b_held b_rcv b_finAt b_marked b_wnd b_peak b_half b_rto b_same b_tries b_smooth b_spread b_byNumber b_byAck b_sampled b_told b_retry b_ackAt b_waitAt b_timedAt b_timed) (fun u v => QA e rw_ L now er tr iss una nxt mx la cl irs fst wnd pk hf rto sa smo tm si rt wt nr nw ns u0 v0 u v) := by
  have hne : 1 - e ≠ e := by omega
  have R0 := R
  obtain ⟨R, F⟩ := R
  obtain ⟨rfl, rfl, xst, xer, xtr, xiss, xuna, xnxt, xmx, xla, xcl, xrcv, xfst, xfi, xun, xen, xwnd, xpk, xhf, xrto, xsm, xsb, xsa, xis, xsmo, xspr, xtm, xsi, xrt, xwt, xrs, yst, yer, ytr, yiss, yuna, ynxt, ymx, yla, ycl, yirs, yrcv, yfi, yun, ywnd, ypk, yhf, yrto, ysa, ysmo, ytm, ysi, yrt, ywt, yrs, I1, I3, I4, I5, K, C, H, W⟩ := RE_el R
  have b3 := I3
  unfold E3 at b3
  have b1 := I1
  unfold E1 at b1
  have b2 := E2_b I2 (by omega)
  have b5 := E5_b I5
  have nfr := nf_r irs fi
  have hcf : zI (nf irs fi) < 0 ↔ fi < 0 := by rw [zl_0, zI_lt (by omega), nf_s]
  have hcy : zL rcv = zL fi ↔ rcv = fi := zL_eq (by omega)
  unfold wX_advance_67 wY_goOn_94
  refine LX_a (e_in he) (LY_a (e_in he) (LY_a (e_in he) ?_))
  rw [e_cl he, xfi, yrcv, yfi]
  by_cases g : rcv = fi
  · have gn : 0 ≤ fi := by omega
    refine LX_f (fun z => by have := hcf.mp z; omega) (LX_a (e_in he) (LX_a (e_in he) ?_))
    refine LY_t (hcy.mpr g) (LY_a (e_in he) (LY_a (e_in he) ?_))
    have hr1 : (zI ((irs + rcv) % 65536) + 1) &&& 65535 = zI ((irs + (rcv + 1)) % 65536) := by rw [zl_1, zl_65535, zI_add, zI_m16, zm_add]
    have hr2 : zL rcv + 1 = zL (rcv + 1) := zL_add rcv 1
    rw [xrcv (by omega), nf_p gn, hr1, hr2]
    refine LX_t (by rw [g]) (LX_a (e_in he) (LX_a (e_in he) (LX_n (LX_a (e_in he) (LX_n (LX_a (e_in he) (LX_n (LX_a (e_in he) (LX_n (LX_a (e_in he) ?_))))))))))
    refine LY_n (LY_a (e_in he) (LY_n ?_))
    rw [show (64 : Int32) * zI e = zI (64 * e + ((0 : Nat) : Int)) by rw [zl_64, zI_mul]; congr 1]
    refine LY_n (LY_e 65 ?_)
    obtain ⟨mk, c1, c2, c3⟩ := y_135 (b_marked := b_marked) he 64 0 b_marked (by omega) rfl (fun z h0 h1 => absurd h1 (by omega))
    refine LK_y (fun p h => c3 p h) ?_
    have h64 : (64 : Int32) * zI e + 64 ≤ zI (64 * e + 64) := by rw [zl_64, zI_mul, zI_add, zI_le (by omega)]; omega
    refine LY_t h64 (LY_a (e_in he) ?_)
    rw [e_cl he, xst, yst]
    have hc4 : zI st = 4 ↔ st = 4 := by rw [zl_4, zI_eq (by omega)]
    have hc5 : zI st = 5 ↔ st = 5 := by rw [zl_5, zI_eq (by omega)]
    have J3 : ∀ st' : Int, 7 ≤ st' → E3 L st' irs (rcv + 1) (-1) un fst := by intro st' h; unfold E3; omega
    by_cases h4 : st = 4
    · subst h4
      refine LX_t (hc4.mpr rfl) (LX_a (e_in he) (LX_n (LY_t (hc4.mpr rfl) (LY_a (e_in he) (LY_n (LK_r0 ⟨7, rcv + 1, -1, un, rs, by omega, ⟨RE_in ⟨rfl, rfl, pk_us, xer, fun _ => xtr (by omega), xiss, fun _ => xuna (by omega), fun _ => xnxt (by omega), fun _ => xmx (by omega), fun _ => xla (by omega), fun _ => xcl (by omega), fun _ => pk_us, xfst, pk_us, xun, fun _ => pk_us, xwnd, xpk, xhf, xrto, fun _ => xsm (by omega), xsb, xsa, xis, xsmo, xspr, xtm, xsi, xrt, xwt, xrs, pk_us, yer, ytr, yiss, yuna, ynxt, ymx, yla, ycl, yirs, pk_uLs, pk_uLs, yun, ywnd, ypk, yhf, yrto, ysa, ysmo, ytm, ysi, yrt, ywt, yrs, ?_, J3 _ (by omega), I4, ?_, K, C, ?_, W⟩, FR_s F ?_ ?_ rfl⟩, E2_st7 I2 (by omega)⟩))))))
      · unfold E1; omega
      · exact E5_st I5 (fun z => by omega) (fun z => by omega)
      · rw [pk_us]; exact EH_fin c2
      · simp only [vX, pk_un hne]
      · simp only [vY, pk_un hne, pk_uLn hne, c1]
    · refine LX_f (fun z => h4 (hc4.mp z)) (LX_a (e_in he) (LY_f (fun z => h4 (hc4.mp z)) (LY_a (e_in he) ?_)))
      by_cases h5 : st = 5
      · subst h5
        refine LX_t (hc5.mpr rfl) (LX_a (e_in he) (LX_n (LY_t (hc5.mpr rfl) (LY_a (e_in he) (LY_n (LK_r0 ⟨8, rcv + 1, -1, un, rs, by omega, ⟨RE_in ⟨rfl, rfl, pk_us, xer, fun _ => xtr (by omega), xiss, fun _ => xuna (by omega), fun _ => xnxt (by omega), fun _ => xmx (by omega), fun _ => xla (by omega), fun _ => xcl (by omega), fun _ => pk_us, xfst, pk_us, xun, fun _ => pk_us, xwnd, xpk, xhf, xrto, fun _ => xsm (by omega), xsb, xsa, xis, xsmo, xspr, xtm, xsi, xrt, xwt, xrs, pk_us, yer, ytr, yiss, yuna, ynxt, ymx, yla, ycl, yirs, pk_uLs, pk_uLs, yun, ywnd, ypk, yhf, yrto, ysa, ysmo, ytm, ysi, yrt, ywt, yrs, ?_, J3 _ (by omega), I4, ?_, K, C, ?_, W⟩, FR_s F ?_ ?_ rfl⟩, E2_st7 I2 (by omega)⟩))))))
        · unfold E1; omega
        · exact E5_st I5 (fun z => by omega) (fun z => by omega)
        · rw [pk_us]; exact EH_fin c2
        · simp only [vX, pk_un hne]
        · simp only [vY, pk_un hne, pk_uLn hne, c1]
      · have h6 : st = 6 := by omega
        subst h6
        refine LX_f (fun z => h5 (hc5.mp z)) (LY_f (fun z => h5 (hc5.mp z)) ?_)
        unfold wpX_linger wpY_linger
        rw [e_cl he]
        refine LX_a (e_in he) (LX_n (LX_a (e_in he) (LX_n (LY_a (e_in he) (LY_n (LY_a (e_in he) (LY_n (LK_r0 ⟨10, rcv + 1, -1, un, now + 20, by omega, ⟨RE_in ⟨rfl, rfl, pk_us, xer, fun _ => xtr (by omega), xiss, fun _ => xuna (by omega), fun _ => xnxt (by omega), fun _ => xmx (by omega), fun _ => xla (by omega), fun _ => xcl (by omega), fun _ => pk_us, xfst, pk_us, xun, fun _ => pk_us, xwnd, xpk, xhf, xrto, fun _ => xsm (by omega), xsb, xsa, xis, xsmo, xspr, xtm, xsi, xrt, xwt, pk_us.trans (zI_add now 20), pk_us, yer, ytr, yiss, yuna, ynxt, ymx, yla, ycl, yirs, pk_uLs, pk_uLs, yun, ywnd, ypk, yhf, yrto, ysa, ysmo, ytm, ysi, yrt, ywt, pk_us.trans (zI_add now 20), ?_, J3 _ (by omega), I4, ?_, K, C, ?_, W⟩, FR_s F ?_ ?_ rfl⟩, E2_st7 I2 (by omega)⟩))))))))
        · unfold E1; omega
        · exact E5_st (E5_rs I5 (by omega)) (fun z => by omega) (fun z => by omega)
        · rw [pk_us]; exact EH_fin c2
        · simp only [vX, pk_un hne]
        · simp only [vY, pk_un hne, pk_uLn hne, c1]
  · have T0 : LK ap0 aq0 (fun p => p (zI now, f_sent, a_state, a_error, a_tries, a_iss, a_una, a_nxt, a_max, a_last, a_closing, a_kept, a_rcv, a_first, a_held, a_fin, a_unread, a_came, a_ended, a_wnd, a_peak, a_half, a_same, a_setBy, a_setAt, a_isSet, a_rto, a_smooth, a_spread, a_timed, a_since, a_retry, a_waits, a_rest, a_segSeq, a_segAck, a_segFlags, a_segWindow, a_segLength, a_segBytes, a_row, a_many, a_taken)) (fun p => p (zI now, g_sent, b_seq, b_flags, b_acked, b_window, b_many, b_data, b_rows, b_state, b_error, b_iss, b_una, b_nxt, b_max, b_last, b_closed, b_written, b_irs, b_unread, b_bytes, b_held, b_rcv, b_finAt, b_marked, b_wnd, b_peak, b_half, b_rto, b_same, b_tries, b_smooth, b_spread, b_byNumber, b_byAck, b_sampled, b_told, b_retry, b_ackAt, b_waitAt, b_timedAt, b_timed)) (fun u v => QA e rw_ L now er tr iss una nxt mx la cl irs fst wnd pk hf rto sa smo tm si rt wt nr nw ns u0 v0 u v) := LK_r0 ⟨st, rcv, fi, un, rs, by omega, R0, I2⟩
    refine LY_f (fun z => g (hcy.mp z)) ?_
    by_cases gn : fi < 0
    · exact LX_t (hcf.mpr gn) T0
    · refine LX_f (fun z => gn (hcf.mp z)) (LX_a (e_in he) (LX_a (e_in he) ?_))
      rw [xrcv (by omega), nf_p (by omega)]
      exact LX_f (by rw [zI_eq (by omega), zm_eq (by omega)]; exact g) T0
theorem lk_adv_l {rw_ : Int} (he : e < 2) : ∀ (d : Nat) (rcv un : Int) (a_held a_rcv a_unread b_marked b_bytes b_unread : Nat → Int32) (b_rcv : Nat → Int64) (fx fy : Nat), 24 - un ≤ d → d < fx → d < fy → (4 ≤ st ∧ st ≤ 6) → rcv + 25 - un ≤ L → (rw_ ≤ rcv ∧ rcv + (24 - un) ≤ rw_ + 29) → E2 L st iss una nxt mx la cl tm → RZ e L now st er tr iss una nxt mx la cl irs rcv fi un fst wnd pk hf rto sa smo tm si rt wt rs nr nw ns u0 v0 (f_now, f_sent, a_state, a_error, a_tries, a_iss, a_una, a_nxt, a_max, a_last, a_closing, a_kept, a_rcv, a_first, a_held, a_fin, a_unread, a_came, a_ended, a_wnd, a_peak, a_half, a_same, a_setBy, a_setAt, a_isSet, a_rto, a_smooth, a_spread, a_timed, a_since, a_retry, a_waits, a_rest, a_segSeq, a_segAck, a_segFlags, a_segWindow, a_segLength, a_segBytes, a_row, a_many, a_taken) (g_now, g_sent, b_seq, b_flags, b_acked, b_window, b_many, b_data, b_rows, b_state, b_error, b_iss, b_una, b_nxt, b_max, b_last, b_closed, b_written, b_irs, b_unread, b_bytes, b_held, b_rcv, b_finAt, b_marked, b_wnd, b_peak, b_half, b_rto, b_same, b_tries, b_smooth, b_spread, b_byNumber, b_byAck, b_sampled, b_told, b_retry, b_ackAt, b_waitAt, b_timedAt, b_timed) →
    LK ap0 aq0 (fun p => wX_advance_0 p (zI e) f_now f_sent fx a_state a_error a_tries a_iss a_una a_nxt a_max a_last a_closing a_kept a_rcv a_first a_held a_fin a_unread a_came a_ended a_wnd a_peak a_half a_same a_setBy a_setAt a_isSet a_rto a_smooth a_spread a_timed a_since a_retry a_waits a_rest a_segSeq a_segAck a_segFlags a_segWindow a_segLength a_segBytes a_row a_many a_taken) (fun p => wY_goOn_11 p (zI e) g_now g_sent fy (zI (64 * e + rcv % 64)) b_seq b_flags b_acked b_window b_many b_data b_rows b_state b_error b_iss b_una b_nxt b_max b_last b_closed b_written b_irs b_unread b_bytes b_held b_rcv b_finAt b_marked b_wnd b_peak b_half b_rto b_same b_tries b_smooth b_spread b_byNumber b_byAck b_sampled b_told b_retry b_ackAt b_waitAt b_timedAt b_timed) (fun u v => QA e rw_ L now er tr iss una nxt mx la cl irs fst wnd pk hf rto sa smo tm si rt wt nr nw ns u0 v0 u v) := by
  have hne : 1 - e ≠ e := by omega
  intro d
  induction d with
  | zero =>
    intro rcv un a_held a_rcv a_unread b_marked b_bytes b_unread b_rcv fx fy hd hx hy hst hB hw I2 R
    obtain ⟨fx, rfl⟩ : ∃ n', fx = n' + 1 := ⟨fx - 1, by omega⟩
    obtain ⟨fy, rfl⟩ : ∃ n', fy = n' + 1 := ⟨fy - 1, by omega⟩
    have R0 := R
    obtain ⟨R, F⟩ := R
    obtain ⟨rfl, rfl, xst, xer, xtr, xiss, xuna, xnxt, xmx, xla, xcl, xrcv, xfst, xfi, xun, xen, xwnd, xpk, xhf, xrto, xsm, xsb, xsa, xis, xsmo, xspr, xtm, xsi, xrt, xwt, xrs, yst, yer, ytr, yiss, yuna, ynxt, ymx, yla, ycl, yirs, yrcv, yfi, yun, ywnd, ypk, yhf, yrto, ysa, ysmo, ytm, ysi, yrt, ywt, yrs, I1, I3, I4, I5, K, C, H, W⟩ := RE_el R
    have b3 := I3
    unfold E3 at b3
    have hci : vp_in (zI (64 * (e : Int) + rcv % 64)) 128 := zI_in (by omega)
    have hcc : (zI (64 * (e : Int) + rcv % 64)).toNatClampNeg = (64 * (e : Int) + rcv % 64).toNat := zI_cl (by omega)
    have hmk : b_marked ((64 * (e : Int) + rcv % 64).toNat) = if bt (a_held e) 0 = true then zI 1 else zI 0 := by
      have := H.2.1 0 (by omega) (by omega)
      rw [Int.add_zero] at this
      exact this
    have hbit := bb_and1 (a_held e)
    have STOP : bt (a_held e) 0 = false → LK ap0 aq0 (fun p => wX_advance_0 p (zI e) (zI now) f_sent (fx + 1) a_state a_error a_tries a_iss a_una a_nxt a_max a_last a_closing a_kept a_rcv a_first a_held a_fin a_unread a_came a_ended a_wnd a_peak a_half a_same a_setBy a_setAt a_isSet a_rto a_smooth a_spread a_timed a_since a_retry a_waits a_rest a_segSeq a_segAck a_segFlags a_segWindow a_segLength a_segBytes a_row a_many a_taken) (fun p => wY_goOn_11 p (zI e) (zI now) g_sent (fy + 1) (zI (64 * e + rcv % 64)) b_seq b_flags b_acked b_window b_many b_data b_rows b_state b_error b_iss b_una b_nxt b_max b_last b_closed b_written b_irs b_unread b_bytes b_held b_rcv b_finAt b_marked b_wnd b_peak b_half b_rto b_same b_tries b_smooth b_spread b_byNumber b_byAck b_sampled b_told b_retry b_ackAt b_waitAt b_timedAt b_timed) (fun u v => QA e rw_ L now er tr iss una nxt mx la cl irs fst wnd pk hf rto sa smo tm si rt wt nr nw ns u0 v0 u v) := by
      intro hb
      refine LX_a (e_in he) (LY_a hci ?_)
      rw [e_cl he, hcc, hmk, hb]
      exact LX_t (hbit.mpr hb) (LY_t rfl (lk_fin he hst (by omega) (by omega) (Classical.em _) I2 R0))
    have hb : bt (a_held e) 0 = false := H.1 0 (by omega)
    exact STOP hb
  | succ d ih =>
    intro rcv un a_held a_rcv a_unread b_marked b_bytes b_unread b_rcv fx fy hd hx hy hst hB hw I2 R
    obtain ⟨fx, rfl⟩ : ∃ n', fx = n' + 1 := ⟨fx - 1, by omega⟩
    obtain ⟨fy, rfl⟩ : ∃ n', fy = n' + 1 := ⟨fy - 1, by omega⟩
    have R0 := R
    obtain ⟨R, F⟩ := R
    obtain ⟨rfl, rfl, xst, xer, xtr, xiss, xuna, xnxt, xmx, xla, xcl, xrcv, xfst, xfi, xun, xen, xwnd, xpk, xhf, xrto, xsm, xsb, xsa, xis, xsmo, xspr, xtm, xsi, xrt, xwt, xrs, yst, yer, ytr, yiss, yuna, ynxt, ymx, yla, ycl, yirs, yrcv, yfi, yun, ywnd, ypk, yhf, yrto, ysa, ysmo, ytm, ysi, yrt, ywt, yrs, I1, I3, I4, I5, K, C, H, W⟩ := RE_el R
    have b3 := I3
    unfold E3 at b3
    have hci : vp_in (zI (64 * (e : Int) + rcv % 64)) 128 := zI_in (by omega)
    have hcc : (zI (64 * (e : Int) + rcv % 64)).toNatClampNeg = (64 * (e : Int) + rcv % 64).toNat := zI_cl (by omega)
    have hmk : b_marked ((64 * (e : Int) + rcv % 64).toNat) = if bt (a_held e) 0 = true then zI 1 else zI 0 := by
      have := H.2.1 0 (by omega) (by omega)
      rw [Int.add_zero] at this
      exact this
    have hbit := bb_and1 (a_held e)
    have STOP : bt (a_held e) 0 = false → LK ap0 aq0 (fun p => wX_advance_0 p (zI e) (zI now) f_sent (fx + 1) a_state a_error a_tries a_iss a_una a_nxt a_max a_last a_closing a_kept a_rcv a_first a_held a_fin a_unread a_came a_ended a_wnd a_peak a_half a_same a_setBy a_setAt a_isSet a_rto a_smooth a_spread a_timed a_since a_retry a_waits a_rest a_segSeq a_segAck a_segFlags a_segWindow a_segLength a_segBytes a_row a_many a_taken) (fun p => wY_goOn_11 p (zI e) (zI now) g_sent (fy + 1) (zI (64 * e + rcv % 64)) b_seq b_flags b_acked b_window b_many b_data b_rows b_state b_error b_iss b_una b_nxt b_max b_last b_closed b_written b_irs b_unread b_bytes b_held b_rcv b_finAt b_marked b_wnd b_peak b_half b_rto b_same b_tries b_smooth b_spread b_byNumber b_byAck b_sampled b_told b_retry b_ackAt b_waitAt b_timedAt b_timed) (fun u v => QA e rw_ L now er tr iss una nxt mx la cl irs fst wnd pk hf rto sa smo tm si rt wt nr nw ns u0 v0 u v) := by
      intro hb
      refine LX_a (e_in he) (LY_a hci ?_)
      rw [e_cl he, hcc, hmk, hb]
      exact LX_t (hbit.mpr hb) (LY_t rfl (lk_fin he hst (by omega) (by omega) (Classical.em _) I2 R0))
    cases hb : bt (a_held e) 0 with
    | false => exact STOP hb
    | true =>
      have hu24 : un < 24 := by
        apply Classical.byContradiction
        intro hn
        have := H.1 0 (by omega)
        rw [this] at hb; cases hb
      have nfr := nf_r irs fi
      have hcy : zL rcv = zL fi ↔ rcv = fi := zL_eq (by have := E2_b I2 (by omega); omega)
      have hcx : zI ((irs + rcv) % 65536) = zI (nf irs fi) ↔ rcv = fi := by
        rw [zI_eq (by omega)]
        by_cases c : fi < 0
        · rw [nf_n c]; omega
        · rw [nf_p (by omega), zm_eq (by omega)]
      refine LX_a (e_in he) (LY_a hci ?_)
      rw [e_cl he, hcc, hmk, hb]
      refine LX_f (fun z => by rw [hbit.mp z] at hb; cases hb) (LX_a (e_in he) (LX_a (e_in he) ?_))
      refine LY_f (by decide) (LY_a (e_in he) (LY_a (e_in he) ?_))
      have hr1 : (zI ((irs + rcv) % 65536) + 1) &&& 65535 = zI ((irs + (rcv + 1)) % 65536) := by rw [zl_1, zl_65535, zI_add, zI_m16, zm_add]
      have hr2 : zL rcv + 1 = zL (rcv + 1) := zL_add rcv 1
      have hr3 : vp_nar .byte ((zI un + 1).toInt8.toInt32) = zI (un + 1) := by rw [zl_1, zI_add, zI_8 (by omega), zI_n8 (by omega)]
      have hr4 : zI un + 1 = zI (un + 1) := zI_add un 1
      have hr5 : (24 : Int32) * zI e + zI un = zI (24 * e + un) := by rw [zl_24, zI_mul, zI_add]
      have hr6 : vp_in (zI (24 * (e : Int) + un)) 48 := zI_in (by omega)
      have hr7 : (zI (24 * (e : Int) + un)).toNatClampNeg = (24 * (e : Int) + un).toNat := zI_cl (by omega)
      rw [xrcv (by omega), xfi, yrcv, yfi]
      by_cases g : rcv = fi
      · exact LX_t (hcx.mpr g) (LY_t (hcy.mpr g) (lk_fin he hst (by omega) (by omega) (Classical.em _) I2 R0))
      · refine LX_f (fun z => g (hcx.mp z)) (LY_f (fun z => g (hcy.mp z)) ?_)
        rw [xun, yun, hr1, hr2, hr3, hr4, hr5]
        refine LX_a (e_in he) (LX_a (e_in he) (LX_n (LX_a (e_in he) (LX_a (e_in he) (LX_n (LX_a (e_in he) (LX_a (e_in he) (LX_n ?_))))))))
        refine LY_a hci (LY_n (LY_a (e_in he) (LY_a (e_in he) (LY_n (LY_a hci (LY_a hr6 ?_))))))
        rw [hr7]
        refine LY_n (LY_a (e_in he) (LY_a (e_in he) (LY_n (LY_a (e_in he) ?_))))
        rw [pk_uLs]
        unfold wpY_at
        rw [show (64 : Int32) * zI e + (zL (rcv + 1) &&& 63).toInt32 = zI (64 * e + (rcv + 1) % 64) by rw [zk_63, zL_m6, zI_i, zl_64, zI_mul, zI_add]]
        have hby : b_held ((64 * (e : Int) + rcv % 64).toNat) = rg 32 e a_came (fst + un) &&& 255 := by
          have := H.2.2.1 0 (by omega) hb
          rw [Int.add_zero, Int.add_zero] at this
          exact this
        refine ih (rcv + 1) (un + 1) _ _ _ _ _ _ _ fx fy (by omega) (by omega) (by omega) hst (by omega) (by omega) I2 ⟨RE_in ⟨rfl, rfl, xst, xer, xtr, xiss, xuna, xnxt, xmx, xla, xcl, fun _ => pk_us, xfst, xfi, pk_us, xen, xwnd, xpk, xhf, xrto, xsm, xsb, xsa, xis, xsmo, xspr, xtm, xsi, xrt, xwt, xrs, yst, yer, ytr, yiss, yuna, ynxt, ymx, yla, ycl, yirs, pk_uLs, yfi, pk_us, ywnd, ypk, yhf, yrto, ysa, ysmo, ytm, ysi, yrt, ywt, yrs, I1, ?_, I4, I5, K, EC_push C (by omega) hby, ?_, W⟩, FR_s F ?_ ?_ rfl⟩
        · unfold E3; omega
        · rw [pk_us]
          exact EH_shift H hst b3.2.2.1
        · simp only [vX, pk_un hne]
        · simp only [vY, pk_un hne, pk_uLn hne, rg_out (n := 64) (by decide) (show 0 ≤ rcv % 64 ∧ rcv % 64 < 64 by omega) he (show 1 - e < 2 by omega) hne, rg_out (n := 24) (by decide) (show 0 ≤ un ∧ un < 24 by omega) he (show 1 - e < 2 by omega) hne]
theorem lk_advance (he : e < 2) (hst : 4 ≤ st ∧ st ≤ 6) (hB : rcv + 25 ≤ L) (I2 : E2 L st iss una nxt mx la cl tm) (R : RZ e L now st er tr iss una nxt mx la cl irs rcv fi un fst wnd pk hf rto sa smo tm si rt wt rs nr nw ns u0 v0 (f_now, f_sent, a_state, a_error, a_tries, a_iss, a_una, a_nxt, a_max, a_last, a_closing, a_kept, a_rcv, a_first, a_held, a_fin, a_unread, a_came, a_ended, a_wnd, a_peak, a_half, a_same, a_setBy, a_setAt, a_isSet, a_rto, a_smooth, a_spread, a_timed, a_since, a_retry, a_waits, a_rest, a_segSeq, a_segAck, a_segFlags, a_segWindow, a_segLength, a_segBytes, a_row, a_many, a_taken) (g_now, g_sent, b_seq, b_flags, b_acked, b_window, b_many, b_data, b_rows, b_state, b_error, b_iss, b_una, b_nxt, b_max, b_last, b_closed, b_written, b_irs, b_unread, b_bytes, b_held, b_rcv, b_finAt, b_marked, b_wnd, b_peak, b_half, b_rto, b_same, b_tries, b_smooth, b_spread, b_byNumber, b_byAck, b_sampled, b_told, b_retry, b_ackAt, b_waitAt, b_timedAt, b_timed)) :
    LK ap0 aq0 (fun p => wpX_advance p (f_now, f_sent, a_state, a_error, a_tries, a_iss, a_una, a_nxt, a_max, a_last, a_closing, a_kept, a_rcv, a_first, a_held, a_fin, a_unread, a_came, a_ended, a_wnd, a_peak, a_half, a_same, a_setBy, a_setAt, a_isSet, a_rto, a_smooth, a_spread, a_timed, a_since, a_retry, a_waits, a_rest, a_segSeq, a_segAck, a_segFlags, a_segWindow, a_segLength, a_segBytes, a_row, a_many, a_taken) (zI e)) (fun p => wpY_goOn p (g_now, g_sent, b_seq, b_flags, b_acked, b_window, b_many, b_data, b_rows, b_state, b_error, b_iss, b_una, b_nxt, b_max, b_last, b_closed, b_written, b_irs, b_unread, b_bytes, b_held, b_rcv, b_finAt, b_marked, b_wnd, b_peak, b_half, b_rto, b_same, b_tries, b_smooth, b_spread, b_byNumber, b_byAck, b_sampled, b_told, b_retry, b_ackAt, b_waitAt, b_timedAt, b_timed) (zI e)) (fun u v => QA e rcv L now er tr iss una nxt mx la cl irs fst wnd pk hf rto sa smo tm si rt wt nr nw ns u0 v0 u v) := by
  have R0 := R
  obtain ⟨R, F⟩ := R
  obtain ⟨rfl, rfl, xst, xer, xtr, xiss, xuna, xnxt, xmx, xla, xcl, xrcv, xfst, xfi, xun, xen, xwnd, xpk, xhf, xrto, xsm, xsb, xsa, xis, xsmo, xspr, xtm, xsi, xrt, xwt, xrs, yst, yer, ytr, yiss, yuna, ynxt, ymx, yla, ycl, yirs, yrcv, yfi, yun, ywnd, ypk, yhf, yrto, ysa, ysmo, ytm, ysi, yrt, ywt, yrs, I1, I3, I4, I5, K, C, H, W⟩ := RE_el R
  have b3 := I3.2.2.1
  unfold wpX_advance wpY_goOn wpY_at
  refine LX_e 25 (LY_a (e_in he) ?_)
  rw [e_cl he, yrcv, show (64 : Int32) * zI e + (zL rcv &&& 63).toInt32 = zI (64 * e + rcv % 64) by rw [zk_63, zL_m6, zI_i, zl_64, zI_mul, zI_add]]
  exact LY_e 25 (lk_adv_l he 24 rcv un a_held a_rcv a_unread b_marked b_bytes b_unread b_rcv 25 25 (by omega) (by omega) (by omega) hst (by omega) (by omega) I2 R0)
end
end
section
/-! holds, gather and text -/
section
variable {e : Nat} {L now : Int} {st er tr iss una nxt mx la cl irs rcv fi un fst wnd pk hf rto sa smo tm si rt wt rs nr nw ns : Int} {f_now f_sent : Int32} {a_state a_error a_tries a_iss a_una a_nxt a_max a_last a_closing a_kept a_rcv a_first a_held a_fin a_unread a_came a_ended a_wnd a_peak a_half a_same a_setBy a_setAt a_isSet a_rto a_smooth a_spread a_timed a_since a_retry a_waits a_rest a_segSeq a_segAck a_segFlags a_segWindow a_segLength a_segBytes a_row a_many a_taken : Nat → Int32} {g_now g_sent : Int32} {b_seq b_flags b_acked b_window b_many b_data b_rows b_state b_error b_iss : Nat → Int32} {b_una b_nxt b_max b_last : Nat → Int64} {b_closed b_written b_irs b_unread b_bytes b_held : Nat → Int32} {b_rcv b_finAt : Nat → Int64} {b_marked b_wnd b_peak b_half b_rto b_same b_tries b_smooth b_spread b_byNumber b_byAck b_sampled b_told b_retry b_ackAt b_waitAt b_timedAt : Nat → Int32} {b_timed : Nat → Int64} {u0 : SX} {v0 : SY}
theorem zb_nar {r : Int} (h : r = 0 ∨ r = 1) : narrow .boolean (.int (zI r)) = .int (zI r) := by rcases h with rfl | rfl <;> rfl
theorem zb_or {r s : Int} (h : r = 0 ∨ r = 1) (h2 : s = 0 ∨ s = 1) : zI r ||| zI s = zI (if r = 1 ∨ s = 1 then 1 else 0) := by rcases h with rfl | rfl <;> rcases h2 with rfl | rfl <;> rfl
theorem y_holds_l (he : e < 2) (hm : ∀ z : Int, 0 ≤ z → z < 64 → rg 64 e b_marked z = zI 0 ∨ rg 64 e b_marked z = zI 1) : ∀ (d j : Nat) (acc : Int), acc = 0 ∨ acc = 1 → j + d = 64 →
    ∃ r : Int, (r = 0 ∨ r = 1) ∧ (r = 1 ↔ acc = 1 ∨ ∃ z : Int, (j : Int) ≤ z ∧ z < 64 ∧ rg 64 e b_marked z = zI 1) ∧ ∀ {g_now g_sent : Int32} {b_seq b_flags b_acked b_window b_many b_data b_rows b_state b_error b_iss : Nat → Int32} {b_una b_nxt b_max b_last : Nat → Int64} {b_closed b_written b_irs b_unread b_bytes b_held : Nat → Int32} {b_rcv b_finAt : Nat → Int64} {b_wnd b_peak b_half b_rto b_same b_tries b_smooth b_spread b_byNumber b_byAck b_sampled b_told b_retry b_ackAt b_waitAt b_timedAt : Nat → Int32} {b_timed : Nat → Int64} (post : Int32 → Prop), post (zI r) → wY_holds_22 post (zI e) g_now g_sent b_seq b_flags b_acked b_window b_many b_data b_rows b_state b_error b_iss b_una b_nxt b_max b_last b_closed b_written b_irs b_unread b_bytes b_held b_rcv b_finAt b_marked b_wnd b_peak b_half b_rto b_same b_tries b_smooth b_spread b_byNumber b_byAck b_sampled b_told b_retry b_ackAt b_waitAt b_timedAt b_timed (d + 1) (zI acc) (zI (64 * e + j)) := by
  intro d
  induction d with
  | zero =>
    intro j acc ha hj
    refine ⟨acc, ha, ⟨Or.inl, ?_⟩, ?_⟩
    · rintro (h | ⟨z, h1, h2, _⟩)
      · exact h
      · omega
    · intro g_now g_sent b_seq b_flags b_acked b_window b_many b_data b_rows b_state b_error b_iss b_una b_nxt b_max b_last b_closed b_written b_irs b_unread b_bytes b_held b_rcv b_finAt b_wnd b_peak b_half b_rto b_same b_tries b_smooth b_spread b_byNumber b_byAck b_sampled b_told b_retry b_ackAt b_waitAt b_timedAt b_timed post K
      have h3 : (64 : Int32) * zI e + 64 ≤ zI (64 * e + j) := by rw [zl_64, zI_mul, zI_add, zI_le (by omega)]; omega
      rw [wY_holds_22]
      exact br_t h3 ⟨zb_nar ha, K⟩
  | succ d ih =>
    intro j acc ha hj
    have hz := hm j (by omega) (by omega)
    obtain ⟨s, hs, hs'⟩ : ∃ s : Int, (s = 0 ∨ s = 1) ∧ rg 64 e b_marked j = zI s := by
      rcases hz with h | h
      · exact ⟨0, Or.inl rfl, h⟩
      · exact ⟨1, Or.inr rfl, h⟩
    have hse : zI s = zI 1 ↔ s = 1 := zI_eq (by omega)
    obtain ⟨r, hr, hr2, k⟩ := ih (j + 1) (if acc = 1 ∨ s = 1 then 1 else 0) (by split <;> omega) (by omega)
    refine ⟨r, hr, ?_, ?_⟩
    · rw [hr2]
      constructor
      · rintro (h | ⟨z, h1, h2, h3⟩)
        · by_cases c : acc = 1 ∨ s = 1
          · rcases c with c | c
            · exact Or.inl c
            · refine Or.inr ⟨j, by omega, by omega, ?_⟩
              rw [hs', c]
          · rw [if_neg c] at h; omega
        · exact Or.inr ⟨z, by omega, h2, h3⟩
      · rintro (h | ⟨z, h1, h2, h3⟩)
        · exact Or.inl (if_pos (Or.inl h))
        · by_cases c : z = j
          · subst c
            rw [hs', hse] at h3
            exact Or.inl (if_pos (Or.inr h3))
          · exact Or.inr ⟨z, by omega, h2, h3⟩
    · intro g_now g_sent b_seq b_flags b_acked b_window b_many b_data b_rows b_state b_error b_iss b_una b_nxt b_max b_last b_closed b_written b_irs b_unread b_bytes b_held b_rcv b_finAt b_wnd b_peak b_half b_rto b_same b_tries b_smooth b_spread b_byNumber b_byAck b_sampled b_told b_retry b_ackAt b_waitAt b_timedAt b_timed post K
      have h3 : ¬ (64 : Int32) * zI e + 64 ≤ zI (64 * e + j) := by rw [zl_64, zI_mul, zI_add, zI_le (by omega)]; omega
      have h4 : vp_in (zI (64 * (e : Int) + j)) 128 := zI_in (by omega)
      have h5 : (zI (64 * (e : Int) + j)).toNatClampNeg = (64 * (e : Int) + j).toNat := zI_cl (by omega)
      have h6 : b_marked ((64 * (e : Int) + j).toNat) = zI s := by
        rw [← hs']; unfold rg
        rw [Int.emod_eq_of_lt (by omega) (by omega)]
      rw [wY_holds_22]
      refine br_f h3 ⟨h4, ?_⟩
      rw [h5, h6, zb_or ha hs]
      refine nm_e (nm_r (e' := zI (64 * e + ((j + 1 : Nat) : Int))) ?_ (k post K))
      rw [zl_1, zI_add]; congr 1
theorem y_holds {hd : Int32} {cm hl : Int → Int32} (he : e < 2) (H : EH st rcv un fst hd cm (rg 64 e b_marked) hl) (yfi : b_finAt e = zL fi) (hf : -1 ≤ fi ∧ fi ≤ 2199023255552) :
    ∃ r : Int, (r = 0 ∧ hd = zI 0 ∧ fi < 0 ∨ r = 1 ∧ (hd ≠ zI 0 ∨ 0 ≤ fi)) ∧ ∀ {g_now g_sent : Int32} {b_seq b_flags b_acked b_window b_many b_data b_rows b_state b_error b_iss : Nat → Int32} {b_una b_nxt b_max b_last : Nat → Int64} {b_closed b_written b_irs b_unread b_bytes b_held : Nat → Int32} {b_rcv : Nat → Int64} {b_wnd b_peak b_half b_rto b_same b_tries b_smooth b_spread b_byNumber b_byAck b_sampled b_told b_retry b_ackAt b_waitAt b_timedAt : Nat → Int32} {b_timed : Nat → Int64} (post : Int32 → Prop), post (zI r) → wpY_holds post (g_now, g_sent, b_seq, b_flags, b_acked, b_window, b_many, b_data, b_rows, b_state, b_error, b_iss, b_una, b_nxt, b_max, b_last, b_closed, b_written, b_irs, b_unread, b_bytes, b_held, b_rcv, b_finAt, b_marked, b_wnd, b_peak, b_half, b_rto, b_same, b_tries, b_smooth, b_spread, b_byNumber, b_byAck, b_sampled, b_told, b_retry, b_ackAt, b_waitAt, b_timedAt, b_timed) (zI e) := by
  have hm : ∀ z : Int, 0 ≤ z → z < 64 → rg 64 e b_marked z = zI 0 ∨ rg 64 e b_marked z = zI 1 := by
    intro z h0 h1
    have := H.2.1 ((z - rcv) % 64) (by omega) (by omega)
    rw [rg_mod (show (rcv + (z - rcv) % 64) % 64 = z % 64 by omega)] at this
    rw [this]; split
    · exact Or.inr rfl
    · exact Or.inl rfl
  have hex : (∃ z : Int, (((0 : Nat) : Int)) ≤ z ∧ z < 64 ∧ rg 64 e b_marked z = zI 1) ↔ hd ≠ zI 0 := by
    constructor
    · rintro ⟨z, h0, h1, h2⟩ h
      have := H.2.1 ((z - rcv) % 64) (by omega) (by omega)
      rw [rg_mod (show (rcv + (z - rcv) % 64) % 64 = z % 64 by omega), h2, h, show bt (zI 0) ((z - rcv) % 64).toNat = false from b_0 _] at this
      exact absurd this (by decide)
    · intro h
      apply Classical.byContradiction
      intro hn
      apply h
      refine b_ext fun i hi => ?_
      rw [show bt (zI 0) i = false from b_0 _]
      cases hb : bt hd i with
      | false => rfl
      | true =>
        exfalso
        apply hn
        have := H.2.1 i (by omega) (by omega)
        rw [show ((i : Int)).toNat = i by omega, hb, if_pos rfl] at this
        refine ⟨(rcv + i) % 64, by omega, by omega, ?_⟩
        rw [rg_mod (show ((rcv + i) % 64) % 64 = (rcv + i) % 64 by omega)]
        exact this
  have hcf : zL fi < 0 ↔ fi < 0 := by rw [zk_0, zL_lt (by omega)]
  have h0 : (64 : Int32) * zI e = zI (64 * e + ((0 : Nat) : Int)) := by rw [zl_64, zI_mul]; congr 1
  by_cases g : fi < 0
  · obtain ⟨r, hr, hr2, k⟩ := y_holds_l (b_marked := b_marked) he hm 64 0 0 (Or.inl rfl) rfl
    refine ⟨r, ?_, ?_⟩
    · rw [hex] at hr2
      by_cases c : hd = zI 0
      · left
        refine ⟨?_, c, g⟩
        rcases hr with h | h
        · exact h
        · rcases hr2.mp h with h' | h'
          · omega
          · exact absurd c h'
      · exact Or.inr ⟨hr2.mpr (Or.inr c), Or.inl c⟩
    · intro g_now g_sent b_seq b_flags b_acked b_window b_many b_data b_rows b_state b_error b_iss b_una b_nxt b_max b_last b_closed b_written b_irs b_unread b_bytes b_held b_rcv b_wnd b_peak b_half b_rto b_same b_tries b_smooth b_spread b_byNumber b_byAck b_sampled b_told b_retry b_ackAt b_waitAt b_timedAt b_timed post K
      unfold wpY_holds
      refine ⟨e_in he, ?_⟩
      rw [e_cl he, yfi, h0]
      exact br_t (hcf.mpr g) (nm_e ⟨65, k post K⟩)
  · obtain ⟨r, hr, hr2, k⟩ := y_holds_l (b_marked := b_marked) he hm 64 0 1 (Or.inr rfl) rfl
    refine ⟨r, Or.inr ⟨hr2.mpr (Or.inl rfl), Or.inr (by omega)⟩, ?_⟩
    intro g_now g_sent b_seq b_flags b_acked b_window b_many b_data b_rows b_state b_error b_iss b_una b_nxt b_max b_last b_closed b_written b_irs b_unread b_bytes b_held b_rcv b_wnd b_peak b_half b_rto b_same b_tries b_smooth b_spread b_byNumber b_byAck b_sampled b_told b_retry b_ackAt b_waitAt b_timedAt b_timed post K
    unfold wpY_holds
    refine ⟨e_in he, ?_⟩
    rw [e_cl he, yfi, h0]
    exact br_f (fun z => g (hcf.mp z)) (nm_e ⟨65, k post K⟩)
theorem lk_161 (he : e < 2) (h2 : 2 ≤ st) (I2 : E2 L st iss una nxt mx la cl tm) (R : RZ e L now st er tr iss una nxt mx la cl irs rcv fi un fst wnd pk hf rto sa smo tm si rt wt rs nr nw ns u0 v0 (f_now, f_sent, a_state, a_error, a_tries, a_iss, a_una, a_nxt, a_max, a_last, a_closing, a_kept, a_rcv, a_first, a_held, a_fin, a_unread, a_came, a_ended, a_wnd, a_peak, a_half, a_same, a_setBy, a_setAt, a_isSet, a_rto, a_smooth, a_spread, a_timed, a_since, a_retry, a_waits, a_rest, a_segSeq, a_segAck, a_segFlags, a_segWindow, a_segLength, a_segBytes, a_row, a_many, a_taken) (g_now, g_sent, b_seq, b_flags, b_acked, b_window, b_many, b_data, b_rows, b_state, b_error, b_iss, b_una, b_nxt, b_max, b_last, b_closed, b_written, b_irs, b_unread, b_bytes, b_held, b_rcv, b_finAt, b_marked, b_wnd, b_peak, b_half, b_rto, b_same, b_tries, b_smooth, b_spread, b_byNumber, b_byAck, b_sampled, b_told, b_retry, b_ackAt, b_waitAt, b_timedAt, b_timed)) :
    LK ap0 aq0 (fun p => wX_gather_161 p (zI e) f_now f_sent a_state a_error a_tries a_iss a_una a_nxt a_max a_last a_closing a_kept a_rcv a_first a_held a_fin a_unread a_came a_ended a_wnd a_peak a_half a_same a_setBy a_setAt a_isSet a_rto a_smooth a_spread a_timed a_since a_retry a_waits a_rest a_segSeq a_segAck a_segFlags a_segWindow a_segLength a_segBytes a_row a_many a_taken) (fun p => wY_text_130 p (zI e) g_now g_sent b_seq b_flags b_acked b_window b_many b_data b_rows b_state b_error b_iss b_una b_nxt b_max b_last b_closed b_written b_irs b_unread b_bytes b_held b_rcv b_finAt b_marked b_wnd b_peak b_half b_rto b_same b_tries b_smooth b_spread b_byNumber b_byAck b_sampled b_told b_retry b_ackAt b_waitAt b_timedAt b_timed) (fun u v => OKs e L now nr nw ns u0 v0 u v) := by
  unfold wX_gather_161 wY_text_130
  exact LK_b (lk_flow he h2 I2 R) (fun f_now1 f_sent1 a_state1 a_error1 a_tries1 a_iss1 a_una1 a_nxt1 a_max1 a_last1 a_closing1 a_kept1 a_rcv1 a_first1 a_held1 a_fin1 a_unread1 a_came1 a_ended1 a_wnd1 a_peak1 a_half1 a_same1 a_setBy1 a_setAt1 a_isSet1 a_rto1 a_smooth1 a_spread1 a_timed1 a_since1 a_retry1 a_waits1 a_rest1 a_segSeq1 a_segAck1 a_segFlags1 a_segWindow1 a_segLength1 a_segBytes1 a_row1 a_many1 a_taken1 g_now1 g_sent1 b_seq1 b_flags1 b_acked1 b_window1 b_many1 b_data1 b_rows1 b_state1 b_error1 b_iss1 b_una1 b_nxt1 b_max1 b_last1 b_closed1 b_written1 b_irs1 b_unread1 b_bytes1 b_held1 b_rcv1 b_finAt1 b_marked1 b_wnd1 b_peak1 b_half1 b_rto1 b_same1 b_tries1 b_smooth1 b_spread1 b_byNumber1 b_byAck1 b_sampled1 b_told1 b_retry1 b_ackAt1 b_waitAt1 b_timedAt1 b_timed1 h => LK_r0 (QF_OK h))
theorem lk_141 (he : e < 2) (h3 : 3 ≤ st) (I2 : E2 L st iss una nxt mx la cl tm) (R : RZ e L now st er tr iss una nxt mx la cl irs rcv fi un fst wnd pk hf rto sa smo tm si rt wt rs nr nw ns u0 v0 (f_now, f_sent, a_state, a_error, a_tries, a_iss, a_una, a_nxt, a_max, a_last, a_closing, a_kept, a_rcv, a_first, a_held, a_fin, a_unread, a_came, a_ended, a_wnd, a_peak, a_half, a_same, a_setBy, a_setAt, a_isSet, a_rto, a_smooth, a_spread, a_timed, a_since, a_retry, a_waits, a_rest, a_segSeq, a_segAck, a_segFlags, a_segWindow, a_segLength, a_segBytes, a_row, a_many, a_taken) (g_now, g_sent, b_seq, b_flags, b_acked, b_window, b_many, b_data, b_rows, b_state, b_error, b_iss, b_una, b_nxt, b_max, b_last, b_closed, b_written, b_irs, b_unread, b_bytes, b_held, b_rcv, b_finAt, b_marked, b_wnd, b_peak, b_half, b_rto, b_same, b_tries, b_smooth, b_spread, b_byNumber, b_byAck, b_sampled, b_told, b_retry, b_ackAt, b_waitAt, b_timedAt, b_timed)) :
    LK ap0 aq0 (fun p => wX_gather_141 p (zI e) f_now f_sent a_state a_error a_tries a_iss a_una a_nxt a_max a_last a_closing a_kept a_rcv a_first a_held a_fin a_unread a_came a_ended a_wnd a_peak a_half a_same a_setBy a_setAt a_isSet a_rto a_smooth a_spread a_timed a_since a_retry a_waits a_rest a_segSeq a_segAck a_segFlags a_segWindow a_segLength a_segBytes a_row a_many a_taken) (fun p => wY_text_98 p (zI e) g_now g_sent b_seq b_flags b_acked b_window b_many b_data b_rows b_state b_error b_iss b_una b_nxt b_max b_last b_closed b_written b_irs b_unread b_bytes b_held b_rcv b_finAt b_marked b_wnd b_peak b_half b_rto b_same b_tries b_smooth b_spread b_byNumber b_byAck b_sampled b_told b_retry b_ackAt b_waitAt b_timedAt b_timed) (fun u v => OKs e L now nr nw ns u0 v0 u v) := by
  have b2 := E2_b I2 (by omega)
  have b1 := (RE_el R.1).2.2.2.2.2.2.2.2.2.2.2.2.2.2.2.2.2.2.2.2.2.2.2.2.2.2.2.2.2.2.2.2.2.2.2.2.2.2.2.2.2.2.2.2.2.2.2.2.2.2.2.2.2.2.2.1
  unfold E1 at b1
  unfold wX_gather_141 wY_text_98 wY_text_103
  refine LY_f (by decide) ?_
  refine LK_b (lk_ack he h3 b2.1 (by omega) (by omega) R) ?_
  intro f_now1 f_sent1 a_state1 a_error1 a_tries1 a_iss1 a_una1 a_nxt1 a_max1 a_last1 a_closing1 a_kept1 a_rcv1 a_first1 a_held1 a_fin1 a_unread1 a_came1 a_ended1 a_wnd1 a_peak1 a_half1 a_same1 a_setBy1 a_setAt1 a_isSet1 a_rto1 a_smooth1 a_spread1 a_timed1 a_since1 a_retry1 a_waits1 a_rest1 a_segSeq1 a_segAck1 a_segFlags1 a_segWindow1 a_segLength1 a_segBytes1 a_row1 a_many1 a_taken1 g_now1 g_sent1 b_seq1 b_flags1 b_acked1 b_window1 b_many1 b_data1 b_rows1 b_state1 b_error1 b_iss1 b_una1 b_nxt1 b_max1 b_last1 b_closed1 b_written1 b_irs1 b_unread1 b_bytes1 b_held1 b_rcv1 b_finAt1 b_marked1 b_wnd1 b_peak1 b_half1 b_rto1 b_same1 b_tries1 b_smooth1 b_spread1 b_byNumber1 b_byAck1 b_sampled1 b_told1 b_retry1 b_ackAt1 b_waitAt1 b_timedAt1 b_timed1 R1
  exact lk_161 he (by omega) I2 R1
theorem lk_71 {ln rb rw_ : Int} (he : e < 2) (h4 : 4 ≤ st) (hln : 0 ≤ ln ∧ ln ≤ 10) (hrb : rb = 0 ∨ rb = 1) (hw : 0 ≤ rw_ ∧ rw_ ≤ rcv ∧ rcv ≤ rw_ + 30) (I2 : E2 L st iss una nxt mx la cl tm) (R : RZ e L now st er tr iss una nxt mx la cl irs rcv fi un fst wnd pk hf rto sa smo tm si rt wt rs nr nw ns u0 v0 (f_now, f_sent, a_state, a_error, a_tries, a_iss, a_una, a_nxt, a_max, a_last, a_closing, a_kept, a_rcv, a_first, a_held, a_fin, a_unread, a_came, a_ended, a_wnd, a_peak, a_half, a_same, a_setBy, a_setAt, a_isSet, a_rto, a_smooth, a_spread, a_timed, a_since, a_retry, a_waits, a_rest, a_segSeq, a_segAck, a_segFlags, a_segWindow, a_segLength, a_segBytes, a_row, a_many, a_taken) (g_now, g_sent, b_seq, b_flags, b_acked, b_window, b_many, b_data, b_rows, b_state, b_error, b_iss, b_una, b_nxt, b_max, b_last, b_closed, b_written, b_irs, b_unread, b_bytes, b_held, b_rcv, b_finAt, b_marked, b_wnd, b_peak, b_half, b_rto, b_same, b_tries, b_smooth, b_spread, b_byNumber, b_byAck, b_sampled, b_told, b_retry, b_ackAt, b_waitAt, b_timedAt, b_timed)) :
    LK ap0 aq0 (fun p => wX_gather_71 p (zI e) (zI ln) (zI rb) (zI ((irs + rw_) % 65536)) f_now f_sent a_state a_error a_tries a_iss a_una a_nxt a_max a_last a_closing a_kept a_rcv a_first a_held a_fin a_unread a_came a_ended a_wnd a_peak a_half a_same a_setBy a_setAt a_isSet a_rto a_smooth a_spread a_timed a_since a_retry a_waits a_rest a_segSeq a_segAck a_segFlags a_segWindow a_segLength a_segBytes a_row a_many a_taken) (fun p => wY_text_48 p (zI e) (zI ln) (zI rb) (zL rw_) g_now g_sent b_seq b_flags b_acked b_window b_many b_data b_rows b_state b_error b_iss b_una b_nxt b_max b_last b_closed b_written b_irs b_unread b_bytes b_held b_rcv b_finAt b_marked b_wnd b_peak b_half b_rto b_same b_tries b_smooth b_spread b_byNumber b_byAck b_sampled b_told b_retry b_ackAt b_waitAt b_timedAt b_timed) (fun u v => OKs e L now nr nw ns u0 v0 u v) := by
  have hne : 1 - e ≠ e := by omega
  have D161 := lk_161 he (by omega) I2 R
  have D141 := lk_141 he (by omega) I2 R
  obtain ⟨R, F⟩ := R
  obtain ⟨rfl, rfl, xst, xer, xtr, xiss, xuna, xnxt, xmx, xla, xcl, xrcv, xfst, xfi, xun, xen, xwnd, xpk, xhf, xrto, xsm, xsb, xsa, xis, xsmo, xspr, xtm, xsi, xrt, xwt, xrs, yst, yer, ytr, yiss, yuna, ynxt, ymx, yla, ycl, yirs, yrcv, yfi, yun, ywnd, ypk, yhf, yrto, ysa, ysmo, ytm, ysi, yrt, ywt, yrs, I1, I3, I4, I5, K, C, H, W⟩ := RE_el R
  have b1 := I1
  unfold E1 at b1
  have b2 := E2_b I2 (by omega)
  have b3 := I3
  unfold E3 at b3
  have b5 := E5_b I5
  have nfr := nf_r irs fi
  obtain ⟨r, hr, kr⟩ := y_holds (b_marked := b_marked) (b_finAt := b_finAt) he H yfi (by omega)
  have hc0 : zI ln ≤ 0 ↔ ln ≤ 0 := by rw [zl_0, zI_le (by omega)]
  have hc6 : 6 < zI st ↔ 6 < st := by rw [zl_6, zI_lt (by omega)]
  have hcf : zI (nf irs fi) < 0 ↔ fi < 0 := by rw [zl_0, zI_lt (by omega), nf_s]
  have hcx : zI ((irs + rcv) % 65536) = zI ((irs + rw_) % 65536) ↔ rcv = rw_ := by rw [zI_eq (by omega), zm_eq (by omega)]
  have hcy : zL rcv = zL rw_ ↔ rcv = rw_ := zL_eq (by omega)
  have hcb : zI rb = 0 ↔ rb = 0 := by rw [zl_0, zI_eq (by omega)]
  have hcr : zI r = 0 ↔ r = 0 := by rw [zl_0, zI_eq (by omega)]
  have hcw : zI wt < 0 ↔ wt < 0 := by rw [zl_0, zI_lt (by omega)]
  unfold wX_gather_71 wY_text_48
  by_cases g0 : ln ≤ 0
  · exact LX_t (hc0.mpr g0) (LY_t (hc0.mpr g0) D161)
  · refine LX_f (fun z => g0 (hc0.mp z)) (LY_f (fun z => g0 (hc0.mp z)) (LX_a (e_in he) (LY_a (e_in he) ?_)))
    rw [e_cl he, yst, yrcv, xfi]
    have Z : ∀ p, wX_gather_98 p (zI e) (zI rb) (zI ((irs + rw_) % 65536)) (zI r) (zI now) f_sent a_state a_error a_tries a_iss a_una a_nxt a_max a_last a_closing a_kept a_rcv a_first a_held a_fin a_unread a_came a_ended a_wnd a_peak a_half a_same a_setBy a_setAt a_isSet a_rto a_smooth a_spread a_timed a_since a_retry a_waits a_rest a_segSeq a_segAck a_segFlags a_segWindow a_segLength a_segBytes a_row a_many a_taken → ((a_held e = 0 → (vp_in (zI e) 2 ∧ ((zI (nf irs fi) < 0 → wX_gather_98 p (zI e) (zI rb) (zI ((irs + rw_) % 65536)) 0 (zI now) f_sent a_state a_error a_tries a_iss a_una a_nxt a_max a_last a_closing a_kept a_rcv a_first a_held a_fin a_unread a_came a_ended a_wnd a_peak a_half a_same a_setBy a_setAt a_isSet a_rto a_smooth a_spread a_timed a_since a_retry a_waits a_rest a_segSeq a_segAck a_segFlags a_segWindow a_segLength a_segBytes a_row a_many a_taken) ∧ (¬ zI (nf irs fi) < 0 → wX_gather_93 p (zI e) (zI rb) (zI ((irs + rw_) % 65536)) (zI now) f_sent a_state a_error a_tries a_iss a_una a_nxt a_max a_last a_closing a_kept a_rcv a_first a_held a_fin a_unread a_came a_ended a_wnd a_peak a_half a_same a_setBy a_setAt a_isSet a_rto a_smooth a_spread a_timed a_since a_retry a_waits a_rest a_segSeq a_segAck a_segFlags a_segWindow a_segLength a_segBytes a_row a_many a_taken)))) ∧ (¬ a_held e = 0 → wX_gather_93 p (zI e) (zI rb) (zI ((irs + rw_) % 65536)) (zI now) f_sent a_state a_error a_tries a_iss a_una a_nxt a_max a_last a_closing a_kept a_rcv a_first a_held a_fin a_unread a_came a_ended a_wnd a_peak a_half a_same a_setBy a_setAt a_isSet a_rto a_smooth a_spread a_timed a_since a_retry a_waits a_rest a_segSeq a_segAck a_segFlags a_segWindow a_segLength a_segBytes a_row a_many a_taken)) := by
      intro p h
      unfold wX_gather_93
      by_cases c1 : a_held e = 0
      · refine br_t c1 ⟨e_in he, ?_⟩
        by_cases c2 : fi < 0
        · have : r = 0 := by
            rcases hr with ⟨h1, _⟩ | ⟨_, h2 | h2⟩
            · exact h1
            · exact absurd c1 h2
            · omega
          subst this
          exact br_t (hcf.mpr c2) h
        · have : r = 1 := by
            rcases hr with ⟨_, _, h1⟩ | ⟨h1, _⟩
            · omega
            · exact h1
          subst this
          exact br_f (fun z => c2 (hcf.mp z)) h
      · have : r = 1 := by
          rcases hr with ⟨_, h1, _⟩ | ⟨h1, _⟩
          · exact absurd h1 c1
          · exact h1
        subst this
        exact br_f c1 h
    refine LK_x Z ?_
    clear Z
    unfold wX_gather_98
    refine LX_a (e_in he) ?_
    rw [e_cl he, xst]
    by_cases g6 : 6 < st
    · exact LX_t (hc6.mpr g6) (LY_t (hc6.mpr g6) D141)
    · refine LX_f (fun z => g6 (hc6.mp z)) (LY_f (fun z => g6 (hc6.mp z)) (LX_a (e_in he) (LY_a (e_in he) ?_)))
      rw [xrcv (by omega)]
      by_cases gr : rcv = rw_
      · exact LX_t (hcx.mpr gr) (LY_t (hcy.mpr gr) D141)
      · refine LX_f (fun z => gr (hcx.mp z)) (LY_f (fun z => gr (hcy.mp z)) ?_)
        by_cases gb : rb = 0
        · refine LX_t (hcb.mpr gb) (LY_t (hcb.mpr gb) ?_)
          refine LK_y (fun p h => kr _ h) ?_
          by_cases g1 : r = 0
          · refine LX_t (hcr.mpr g1) (LY_t (hcr.mpr g1) (LX_a (e_in he) (LY_a (e_in he) ?_)))
            rw [xwt, ywt]
            by_cases gw : wt < 0
            · refine LX_t (hcw.mpr gw) (LY_t (hcw.mpr gw) (LX_a (e_in he) ?_))
              unfold wY_text_103
              refine LY_t rfl (LY_a (e_in he) ?_)
              rw [e_cl he]
              refine LX_n (LY_n ?_)
              refine lk_161 (wt := now + 2) he (by omega) I2 ⟨RE_in ⟨rfl, rfl, xst, xer, xtr, xiss, xuna, xnxt, xmx, xla, xcl, xrcv, xfst, xfi, xun, xen, xwnd, xpk, xhf, xrto, xsm, xsb, xsa, xis, xsmo, xspr, xtm, xsi, xrt, pk_us.trans (zI_add now 2), xrs, yst, yer, ytr, yiss, yuna, ynxt, ymx, yla, ycl, yirs, yrcv, yfi, yun, ywnd, ypk, yhf, yrto, ysa, ysmo, ytm, ysi, yrt, pk_us.trans (zI_add now 2), yrs, I1, I3, I4, E5_wt I5 (by omega), K, C, H, W⟩, FR_s F ?_ ?_ rfl⟩
              · simp only [vX, pk_un hne]
              · simp only [vY, pk_un hne]
            · exact LX_f (fun z => gw (hcw.mp z)) (LY_f (fun z => gw (hcw.mp z)) D141)
          · exact LX_f (fun z => g1 (hcr.mp z)) (LY_f (fun z => g1 (hcr.mp z)) D141)
        · exact LX_f (fun z => gb (hcb.mp z)) (LY_f (fun z => gb (hcb.mp z)) D141)
end
end
section
/-! gather and text, accept, arrive -/
section
variable {e : Nat} {L now : Int} {st er tr iss una nxt mx la cl irs rcv fi un fst wnd pk hf rto sa smo tm si rt wt rs nr nw ns : Int} {f_now f_sent : Int32} {a_state a_error a_tries a_iss a_una a_nxt a_max a_last a_closing a_kept a_rcv a_first a_held a_fin a_unread a_came a_ended a_wnd a_peak a_half a_same a_setBy a_setAt a_isSet a_rto a_smooth a_spread a_timed a_since a_retry a_waits a_rest a_segSeq a_segAck a_segFlags a_segWindow a_segLength a_segBytes a_row a_many a_taken : Nat → Int32} {g_now g_sent : Int32} {b_seq b_flags b_acked b_window b_many b_data b_rows b_state b_error b_iss : Nat → Int32} {b_una b_nxt b_max b_last : Nat → Int64} {b_closed b_written b_irs b_unread b_bytes b_held : Nat → Int32} {b_rcv b_finAt : Nat → Int64} {b_marked b_wnd b_peak b_half b_rto b_same b_tries b_smooth b_spread b_byNumber b_byAck b_sampled b_told b_retry b_ackAt b_waitAt b_timedAt : Nat → Int32} {b_timed : Nat → Int64} {u0 : SX} {v0 : SY}
theorem lk_gather {S T q f a w n o ln : Int} (he : e < 2) (h4 : 4 ≤ st) (hB : rcv + 25 ≤ L) (S0 : SU e S T q f a w n u0 v0) (hln : ln = n + f % 2 + f / 4 % 2) (ho : o = zo (q - (irs + rcv) % 65536)) (I2 : E2 L st iss una nxt mx la cl tm) (R : RZ e L now st er tr iss una nxt mx la cl irs rcv fi un fst wnd pk hf rto sa smo tm si rt wt rs nr nw ns u0 v0 (f_now, f_sent, a_state, a_error, a_tries, a_iss, a_una, a_nxt, a_max, a_last, a_closing, a_kept, a_rcv, a_first, a_held, a_fin, a_unread, a_came, a_ended, a_wnd, a_peak, a_half, a_same, a_setBy, a_setAt, a_isSet, a_rto, a_smooth, a_spread, a_timed, a_since, a_retry, a_waits, a_rest, a_segSeq, a_segAck, a_segFlags, a_segWindow, a_segLength, a_segBytes, a_row, a_many, a_taken) (g_now, g_sent, b_seq, b_flags, b_acked, b_window, b_many, b_data, b_rows, b_state, b_error, b_iss, b_una, b_nxt, b_max, b_last, b_closed, b_written, b_irs, b_unread, b_bytes, b_held, b_rcv, b_finAt, b_marked, b_wnd, b_peak, b_half, b_rto, b_same, b_tries, b_smooth, b_spread, b_byNumber, b_byAck, b_sampled, b_told, b_retry, b_ackAt, b_waitAt, b_timedAt, b_timed)) :
    LK ap0 aq0 (fun p => wpX_gather p (f_now, f_sent, a_state, a_error, a_tries, a_iss, a_una, a_nxt, a_max, a_last, a_closing, a_kept, a_rcv, a_first, a_held, a_fin, a_unread, a_came, a_ended, a_wnd, a_peak, a_half, a_same, a_setBy, a_setAt, a_isSet, a_rto, a_smooth, a_spread, a_timed, a_since, a_retry, a_waits, a_rest, a_segSeq, a_segAck, a_segFlags, a_segWindow, a_segLength, a_segBytes, a_row, a_many, a_taken) (zI e) (zI S)) (fun p => wpY_text p (g_now, g_sent, b_seq, b_flags, b_acked, b_window, b_many, b_data, b_rows, b_state, b_error, b_iss, b_una, b_nxt, b_max, b_last, b_closed, b_written, b_irs, b_unread, b_bytes, b_held, b_rcv, b_finAt, b_marked, b_wnd, b_peak, b_half, b_rto, b_same, b_tries, b_smooth, b_spread, b_byNumber, b_byAck, b_sampled, b_told, b_retry, b_ackAt, b_waitAt, b_timedAt, b_timed) (zI e) (zI T) (zI o) (zI ln)) (fun u v => OKs e L now nr nw ns u0 v0 u v) := by
  have R0 := R
  obtain ⟨R, F⟩ := R
  obtain ⟨s1, s2, sq, sf, sa', sw, sn, xq, xa, xf, xw, xn, yq, ya, yf, yw, yn, ybs⟩ := SU_el he (SU_fr F S0)
  obtain ⟨rfl, rfl, xst, xer, xtr, xiss, xuna, xnxt, xmx, xla, xcl, xrcv, xfst, xfi, xun, xen, xwnd, xpk, xhf, xrto, xsm, xsb, xsa, xis, xsmo, xspr, xtm, xsi, xrt, xwt, xrs, yst, yer, ytr, yiss, yuna, ynxt, ymx, yla, ycl, yirs, yrcv, yfi, yun, ywnd, ypk, yhf, yrto, ysa, ysmo, ytm, ysi, yrt, ywt, yrs, I1, I3, I4, I5, K, C, H, W⟩ := RE_el R
  have b1 := I1
  unfold E1 at b1
  have b2 := E2_b I2 (by omega)
  have b3 := I3
  unfold E3 at b3
  have nfr := nf_r irs fi
  have hcf : zI (nf irs fi) < 0 ↔ fi < 0 := by rw [zl_0, zI_lt (by omega), nf_s]
  have hc3 : ¬ zI st ≤ 3 := by rw [zl_3, zI_le (by omega)]; omega
  have hc7 : 7 ≤ zI st ↔ 7 ≤ st := by rw [zl_7, zI_le (by omega)]
  have hl10 : 0 ≤ ln ∧ ln ≤ 10 := by omega
  have hfi2 : -1 ≤ fi ∧ fi ≤ 2199023255552 := by omega
  have h0r : 0 ≤ rcv ∧ rcv ≤ rcv ∧ rcv ≤ rcv + 30 := by omega
  obtain ⟨r, hr, kr⟩ := y_holds (b_marked := b_marked) (b_finAt := b_finAt) he H yfi hfi2
  have hr01 : r = 0 ∨ r = 1 := by
    rcases hr with ⟨h, _⟩ | ⟨h, _⟩
    · exact Or.inl h
    · exact Or.inr h
  have hX : ∀ p, wX_gather_29 p (zI e) (zI S) (zI ln) (zI r) (zI now) f_sent a_state a_error a_tries a_iss a_una a_nxt a_max a_last a_closing a_kept a_rcv a_first a_held a_fin a_unread a_came a_ended a_wnd a_peak a_half a_same a_setBy a_setAt a_isSet a_rto a_smooth a_spread a_timed a_since a_retry a_waits a_rest a_segSeq a_segAck a_segFlags a_segWindow a_segLength a_segBytes a_row a_many a_taken → wpX_gather p (zI now, f_sent, a_state, a_error, a_tries, a_iss, a_una, a_nxt, a_max, a_last, a_closing, a_kept, a_rcv, a_first, a_held, a_fin, a_unread, a_came, a_ended, a_wnd, a_peak, a_half, a_same, a_setBy, a_setAt, a_isSet, a_rto, a_smooth, a_spread, a_timed, a_since, a_retry, a_waits, a_rest, a_segSeq, a_segAck, a_segFlags, a_segWindow, a_segLength, a_segBytes, a_row, a_many, a_taken) (zI e) (zI S) := by
    intro p h
    unfold wpX_gather wX_gather_24
    simp only [x_length s1 sf xf xn]
    rw [← hln]
    refine ⟨e_in he, ?_⟩
    rw [e_cl he, xfi]
    by_cases c1 : a_held e = 0
    · refine br_t c1 ⟨e_in he, ?_⟩
      by_cases c2 : fi < 0
      · have : r = 0 := by
          rcases hr with ⟨h1, _⟩ | ⟨_, h2 | h2⟩
          · exact h1
          · exact absurd c1 h2
          · exact absurd c2 (Int.not_lt.mpr h2)
        subst this
        exact br_t (hcf.mpr c2) h
      · have : r = 1 := by
          rcases hr with ⟨_, _, h1⟩ | ⟨h1, _⟩
          · exact absurd h1 c2
          · exact h1
        subst this
        exact br_f (fun z => c2 (hcf.mp z)) h
    · have : r = 1 := by
        rcases hr with ⟨_, h1, _⟩ | ⟨h1, _⟩
        · exact absurd h1 c1
        · exact h1
      subst this
      exact br_f c1 h
  refine LK_x hX ?_
  unfold wpY_text
  refine LK_y (fun p h => kr _ h) ?_
  clear hX kr hr
  unfold wX_gather_29
  refine LX_a (e_in he) (LY_a (e_in he) ?_)
  rw [e_cl he, xrcv (by omega), yrcv, xst, yst]
  refine LX_n (LX_a (e_in he) (LX_n (LX_f hc3 ?_)))
  refine LY_n (LY_a (e_in he) (LY_f hc3 (LY_a (e_in he) ?_)))
  by_cases g : 7 ≤ st
  · exact LX_t (hc7.mpr g) (LY_t (hc7.mpr g) (lk_71 he h4 hl10 hr01 h0r I2 R0))
  · refine LX_f (fun z => g (hc7.mp z)) (LY_f (fun z => g (hc7.mp z)) ?_)
    refine LK_b (lk_hold he (by omega) (by omega) S0 ho R0) ?_
    intro f_now1 f_sent1 a_state1 a_error1 a_tries1 a_iss1 a_una1 a_nxt1 a_max1 a_last1 a_closing1 a_kept1 a_rcv1 a_first1 a_held1 a_fin1 a_unread1 a_came1 a_ended1 a_wnd1 a_peak1 a_half1 a_same1 a_setBy1 a_setAt1 a_isSet1 a_rto1 a_smooth1 a_spread1 a_timed1 a_since1 a_retry1 a_waits1 a_rest1 a_segSeq1 a_segAck1 a_segFlags1 a_segWindow1 a_segLength1 a_segBytes1 a_row1 a_many1 a_taken1 g_now1 g_sent1 b_seq1 b_flags1 b_acked1 b_window1 b_many1 b_data1 b_rows1 b_state1 b_error1 b_iss1 b_una1 b_nxt1 b_max1 b_last1 b_closed1 b_written1 b_irs1 b_unread1 b_bytes1 b_held1 b_rcv1 b_finAt1 b_marked1 b_wnd1 b_peak1 b_half1 b_rto1 b_same1 b_tries1 b_smooth1 b_spread1 b_byNumber1 b_byAck1 b_sampled1 b_told1 b_retry1 b_ackAt1 b_waitAt1 b_timedAt1 b_timed1 R1
    obtain ⟨fi1, R1⟩ := R1
    refine LK_b (lk_advance he (by omega) hB I2 R1) ?_
    intro f_now2 f_sent2 a_state2 a_error2 a_tries2 a_iss2 a_una2 a_nxt2 a_max2 a_last2 a_closing2 a_kept2 a_rcv2 a_first2 a_held2 a_fin2 a_unread2 a_came2 a_ended2 a_wnd2 a_peak2 a_half2 a_same2 a_setBy2 a_setAt2 a_isSet2 a_rto2 a_smooth2 a_spread2 a_timed2 a_since2 a_retry2 a_waits2 a_rest2 a_segSeq2 a_segAck2 a_segFlags2 a_segWindow2 a_segLength2 a_segBytes2 a_row2 a_many2 a_taken2 g_now2 g_sent2 b_seq2 b_flags2 b_acked2 b_window2 b_many2 b_data2 b_rows2 b_state2 b_error2 b_iss2 b_una2 b_nxt2 b_max2 b_last2 b_closed2 b_written2 b_irs2 b_unread2 b_bytes2 b_held2 b_rcv2 b_finAt2 b_marked2 b_wnd2 b_peak2 b_half2 b_rto2 b_same2 b_tries2 b_smooth2 b_spread2 b_byNumber2 b_byAck2 b_sampled2 b_told2 b_retry2 b_ackAt2 b_waitAt2 b_timedAt2 b_timed2 R2
    obtain ⟨st2, rcv2, fi2, un2, rs2, hh, R2, J2⟩ := R2
    exact lk_71 he hh.1 hl10 hr01 ⟨h0r.1, hh.2⟩ J2 R2
/-- the segment is in the window -/
def Gd (o ln un : Int) : Prop := (ln = 0 ∧ 0 ≤ o ∧ o ≤ 24 - un) ∨ (ln ≠ 0 ∧ (0 ≤ o ∧ o < 24 - un ∨ 0 < o + ln ∧ o + ln ≤ 24 - un))
theorem x_accept {post : Int32 → SX → Prop} {S f q n o ln g : Int} (he : e < 2) (s1 : 0 ≤ S ∧ S < 32) (sf : 0 ≤ f ∧ f < 16) (sn : 0 ≤ n ∧ n ≤ 8) (xq : a_segSeq S.toNat = zI q) (xf : a_segFlags S.toNat = zI f) (xn : a_segLength S.toNat = zI n) (xrcv : a_rcv e = zI ((irs + rcv) % 65536)) (xun : a_unread e = zI un) (hu : 0 ≤ un ∧ un ≤ 24) (hln : ln = n + f % 2 + f / 4 % 2) (ho : o = zo (q - (irs + rcv) % 65536)) (hg : g = 1 ∧ Gd o ln un ∨ g = 0 ∧ ¬ Gd o ln un)
    (K : wX_accept_91 post (zI e) (zI f) (zI o) (zI g) f_now f_sent a_state a_error a_tries a_iss a_una a_nxt a_max a_last a_closing a_kept a_rcv a_first a_held a_fin a_unread a_came a_ended a_wnd a_peak a_half a_same a_setBy a_setAt a_isSet a_rto a_smooth a_spread a_timed a_since a_retry a_waits a_rest a_segSeq a_segAck a_segFlags a_segWindow a_segLength a_segBytes a_row a_many a_taken) : wpX_accept post (f_now, f_sent, a_state, a_error, a_tries, a_iss, a_una, a_nxt, a_max, a_last, a_closing, a_kept, a_rcv, a_first, a_held, a_fin, a_unread, a_came, a_ended, a_wnd, a_peak, a_half, a_same, a_setBy, a_setAt, a_isSet, a_rto, a_smooth, a_spread, a_timed, a_since, a_retry, a_waits, a_rest, a_segSeq, a_segAck, a_segFlags, a_segWindow, a_segLength, a_segBytes, a_row, a_many, a_taken) (zI e) (zI S) (zI f) := by
  have hSi : vp_in (zI S) 32 := zI_in (by omega)
  have hSc : (zI S).toNatClampNeg = S.toNat := zI_cl (by omega)
  have hor := zo_r (q - (irs + rcv) % 65536)
  rw [← ho] at hor
  have hl10 : 0 ≤ ln ∧ ln ≤ 10 := by omega
  unfold Gd at hg
  unfold wpX_accept wX_accept_52 wX_accept_68 wX_accept_86 wX_accept_90
  refine ⟨hSi, e_in he, ?_⟩
  rw [hSc, e_cl he, xq, xrcv, x_offset, x_window he xun, x_length s1 sf xf xn, ← ho, ← hln]
  clear hln ho xq xf xn xrcv xun hSi hSc sf sn s1
  simp (disch := omega) only [zl_0, zl_1, zI_eq, zI_lt, zI_le, zI_add]
  have G0 : ¬ Gd o ln un → g = 0 := fun h => by unfold Gd at h; omega
  have G1 : Gd o ln un → g = 1 := fun h => by unfold Gd at h; omega
  unfold Gd at G0 G1
  clear hg
  by_cases c1 : ln = 0
  · refine br_t c1 ?_
    by_cases c2 : o < 0
    · have := G0 (by omega)
      subst this
      exact br_t c2 K
    · refine br_f c2 ?_
      by_cases c3 : 24 - un < o
      · have := G0 (by omega)
        subst this
        exact br_t c3 K
      · have := G1 (by omega)
        subst this
        exact br_f c3 K
  · refine br_f c1 ?_
    by_cases c2 : o < 0
    · refine br_t c2 ?_
      by_cases c3 : o + ln ≤ 0
      · have := G0 (by omega)
        subst this
        exact br_t c3 K
      · refine br_f c3 ?_
        by_cases c4 : 24 - un < o + ln
        · have := G0 (by omega)
          subst this
          exact br_t c4 K
        · have := G1 (by omega)
          subst this
          exact br_f c4 K
    · refine br_f c2 ?_
      by_cases c5 : o < 24 - un
      · have := G1 (by omega)
        subst this
        exact br_t c5 K
      · refine br_f c5 ?_
        by_cases c3 : o + ln ≤ 0
        · have := G0 (by omega)
          subst this
          exact br_t c3 K
        · refine br_f c3 ?_
          by_cases c4 : 24 - un < o + ln
          · have := G0 (by omega)
            subst this
            exact br_t c4 K
          · have := G1 (by omega)
            subst this
            exact br_f c4 K
theorem y_accept {post : Int32 → Prop} {o ln g : Int} (he : e < 2) (yun : b_unread e = zI un) (hu : 0 ≤ un ∧ un ≤ 24) (hor : -32768 ≤ o ∧ o < 32768) (hl10 : 0 ≤ ln ∧ ln ≤ 10) (hg : g = 1 ∧ Gd o ln un ∨ g = 0 ∧ ¬ Gd o ln un) (K : post (zI g)) : wpY_acceptable post (g_now, g_sent, b_seq, b_flags, b_acked, b_window, b_many, b_data, b_rows, b_state, b_error, b_iss, b_una, b_nxt, b_max, b_last, b_closed, b_written, b_irs, b_unread, b_bytes, b_held, b_rcv, b_finAt, b_marked, b_wnd, b_peak, b_half, b_rto, b_same, b_tries, b_smooth, b_spread, b_byNumber, b_byAck, b_sampled, b_told, b_retry, b_ackAt, b_waitAt, b_timedAt, b_timed) (zI e) (zI o) (zI ln) := by
  unfold Gd at hg
  unfold wpY_acceptable wY_acceptable_44
  simp only [y_own he yun]
  simp (disch := omega) only [zl_0, zl_1, zI_eq, zI_lt, zI_le, zI_add, zI_sub, forall_eq]
  have G0 : ¬ Gd o ln un → g = 0 := fun h => by unfold Gd at h; omega
  have G1 : Gd o ln un → g = 1 := fun h => by unfold Gd at h; omega
  unfold Gd at G0 G1
  clear hg
  by_cases c1 : ln = 0
  · refine br_t c1 ?_
    by_cases c2 : o < 0
    · have := G0 (by omega)
      subst this
      exact br_t c2 K
    · refine br_f c2 ?_
      by_cases c3 : 24 - un < o
      · have := G0 (by omega)
        subst this
        exact br_t c3 K
      · have := G1 (by omega)
        subst this
        exact br_f c3 K
  · refine br_f c1 ?_
    by_cases c2 : o < 0
    · refine br_t c2 ?_
      by_cases c3 : o + ln - 1 < 0
      · have := G0 (by omega)
        subst this
        exact br_t c3 K
      · refine br_f c3 ?_
        by_cases c4 : 24 - un ≤ o + ln - 1
        · have := G0 (by omega)
          subst this
          exact br_t c4 K
        · have := G1 (by omega)
          subst this
          exact br_f c4 K
    · refine br_f c2 ?_
      by_cases c5 : o < 24 - un
      · have := G1 (by omega)
        subst this
        exact br_t c5 K
      · refine br_f c5 ?_
        by_cases c3 : o + ln - 1 < 0
        · have := G0 (by omega)
          subst this
          exact br_t c3 K
        · refine br_f c3 ?_
          by_cases c4 : 24 - un ≤ o + ln - 1
          · have := G0 (by omega)
            subst this
            exact br_t c4 K
          · have := G1 (by omega)
            subst this
            exact br_f c4 K
/-- what arrive does behind accept -/
def cK (p : SX → Prop) (E S : Int32) : Int32 → SX → Prop := fun r u => match u with | (f_now, f_sent, a_state, a_error, a_tries, a_iss, a_una, a_nxt, a_max, a_last, a_closing, a_kept, a_rcv, a_first, a_held, a_fin, a_unread, a_came, a_ended, a_wnd, a_peak, a_half, a_same, a_setBy, a_setAt, a_isSet, a_rto, a_smooth, a_spread, a_timed, a_since, a_retry, a_waits, a_rest, a_segSeq, a_segAck, a_segFlags, a_segWindow, a_segLength, a_segBytes, a_row, a_many, a_taken) => (r = 0 → wX_arrive_141 p E S r f_now f_sent a_state a_error a_tries a_iss a_una a_nxt a_max a_last a_closing a_kept a_rcv a_first a_held a_fin a_unread a_came a_ended a_wnd a_peak a_half a_same a_setBy a_setAt a_isSet a_rto a_smooth a_spread a_timed a_since a_retry a_waits a_rest a_segSeq a_segAck a_segFlags a_segWindow a_segLength a_segBytes a_row a_many a_taken) ∧ (¬ r = 0 → wpX_judge (fun r u => match u with | (f_now, f_sent, a_state, a_error, a_tries, a_iss, a_una, a_nxt, a_max, a_last, a_closing, a_kept, a_rcv, a_first, a_held, a_fin, a_unread, a_came, a_ended, a_wnd, a_peak, a_half, a_same, a_setBy, a_setAt, a_isSet, a_rto, a_smooth, a_spread, a_timed, a_since, a_retry, a_waits, a_rest, a_segSeq, a_segAck, a_segFlags, a_segWindow, a_segLength, a_segBytes, a_row, a_many, a_taken) => wX_arrive_141 p E S r f_now f_sent a_state a_error a_tries a_iss a_una a_nxt a_max a_last a_closing a_kept a_rcv a_first a_held a_fin a_unread a_came a_ended a_wnd a_peak a_half a_same a_setBy a_setAt a_isSet a_rto a_smooth a_spread a_timed a_since a_retry a_waits a_rest a_segSeq a_segAck a_segFlags a_segWindow a_segLength a_segBytes a_row a_many a_taken) (f_now, f_sent, a_state, a_error, a_tries, a_iss, a_una, a_nxt, a_max, a_last, a_closing, a_kept, a_rcv, a_first, a_held, a_fin, a_unread, a_came, a_ended, a_wnd, a_peak, a_half, a_same, a_setBy, a_setAt, a_isSet, a_rto, a_smooth, a_spread, a_timed, a_since, a_retry, a_waits, a_rest, a_segSeq, a_segAck, a_segFlags, a_segWindow, a_segLength, a_segBytes, a_row, a_many, a_taken) E S)
theorem lk_k0 {S : Int} {Q : SX → SY → Prop} {WY : (SY → Prop) → Prop} (D : LK ap0 aq0 (fun p => p (f_now, f_sent, a_state, a_error, a_tries, a_iss, a_una, a_nxt, a_max, a_last, a_closing, a_kept, a_rcv, a_first, a_held, a_fin, a_unread, a_came, a_ended, a_wnd, a_peak, a_half, a_same, a_setBy, a_setAt, a_isSet, a_rto, a_smooth, a_spread, a_timed, a_since, a_retry, a_waits, a_rest, a_segSeq, a_segAck, a_segFlags, a_segWindow, a_segLength, a_segBytes, a_row, a_many, a_taken)) WY Q) : LK ap0 aq0 (fun p => cK p (zI e) (zI S) 0 (f_now, f_sent, a_state, a_error, a_tries, a_iss, a_una, a_nxt, a_max, a_last, a_closing, a_kept, a_rcv, a_first, a_held, a_fin, a_unread, a_came, a_ended, a_wnd, a_peak, a_half, a_same, a_setBy, a_setAt, a_isSet, a_rto, a_smooth, a_spread, a_timed, a_since, a_retry, a_waits, a_rest, a_segSeq, a_segAck, a_segFlags, a_segWindow, a_segLength, a_segBytes, a_row, a_many, a_taken)) WY Q := LX_t rfl (LX_t rfl D)
theorem lk_ack0 {S : Int} (he : e < 2) (h3 : 3 ≤ st) (I2 : E2 L st iss una nxt mx la cl tm) (R : RZ e L now st er tr iss una nxt mx la cl irs rcv fi un fst wnd pk hf rto sa smo tm si rt wt rs nr nw ns u0 v0 (f_now, f_sent, a_state, a_error, a_tries, a_iss, a_una, a_nxt, a_max, a_last, a_closing, a_kept, a_rcv, a_first, a_held, a_fin, a_unread, a_came, a_ended, a_wnd, a_peak, a_half, a_same, a_setBy, a_setAt, a_isSet, a_rto, a_smooth, a_spread, a_timed, a_since, a_retry, a_waits, a_rest, a_segSeq, a_segAck, a_segFlags, a_segWindow, a_segLength, a_segBytes, a_row, a_many, a_taken) (g_now, g_sent, b_seq, b_flags, b_acked, b_window, b_many, b_data, b_rows, b_state, b_error, b_iss, b_una, b_nxt, b_max, b_last, b_closed, b_written, b_irs, b_unread, b_bytes, b_held, b_rcv, b_finAt, b_marked, b_wnd, b_peak, b_half, b_rto, b_same, b_tries, b_smooth, b_spread, b_byNumber, b_byAck, b_sampled, b_told, b_retry, b_ackAt, b_waitAt, b_timedAt, b_timed)) :
    LK ap0 aq0 (fun p => wpX_acknowledge (fun u => match u with | (f_now, f_sent, a_state, a_error, a_tries, a_iss, a_una, a_nxt, a_max, a_last, a_closing, a_kept, a_rcv, a_first, a_held, a_fin, a_unread, a_came, a_ended, a_wnd, a_peak, a_half, a_same, a_setBy, a_setAt, a_isSet, a_rto, a_smooth, a_spread, a_timed, a_since, a_retry, a_waits, a_rest, a_segSeq, a_segAck, a_segFlags, a_segWindow, a_segLength, a_segBytes, a_row, a_many, a_taken) => cK p (zI e) (zI S) 0 (f_now, f_sent, a_state, a_error, a_tries, a_iss, a_una, a_nxt, a_max, a_last, a_closing, a_kept, a_rcv, a_first, a_held, a_fin, a_unread, a_came, a_ended, a_wnd, a_peak, a_half, a_same, a_setBy, a_setAt, a_isSet, a_rto, a_smooth, a_spread, a_timed, a_since, a_retry, a_waits, a_rest, a_segSeq, a_segAck, a_segFlags, a_segWindow, a_segLength, a_segBytes, a_row, a_many, a_taken)) (f_now, f_sent, a_state, a_error, a_tries, a_iss, a_una, a_nxt, a_max, a_last, a_closing, a_kept, a_rcv, a_first, a_held, a_fin, a_unread, a_came, a_ended, a_wnd, a_peak, a_half, a_same, a_setBy, a_setAt, a_isSet, a_rto, a_smooth, a_spread, a_timed, a_since, a_retry, a_waits, a_rest, a_segSeq, a_segAck, a_segFlags, a_segWindow, a_segLength, a_segBytes, a_row, a_many, a_taken) (zI e)) (fun p => wpY_acknowledge (fun u => match u with | (g_now, g_sent, b_seq, b_flags, b_acked, b_window, b_many, b_data, b_rows, b_state, b_error, b_iss, b_una, b_nxt, b_max, b_last, b_closed, b_written, b_irs, b_unread, b_bytes, b_held, b_rcv, b_finAt, b_marked, b_wnd, b_peak, b_half, b_rto, b_same, b_tries, b_smooth, b_spread, b_byNumber, b_byAck, b_sampled, b_told, b_retry, b_ackAt, b_waitAt, b_timedAt, b_timed) => p (g_now, g_sent, b_seq, b_flags, b_acked, b_window, b_many, b_data, b_rows, b_state, b_error, b_iss, b_una, b_nxt, b_max, b_last, b_closed, b_written, b_irs, b_unread, b_bytes, b_held, b_rcv, b_finAt, b_marked, b_wnd, b_peak, b_half, b_rto, b_same, b_tries, b_smooth, b_spread, b_byNumber, b_byAck, b_sampled, b_told, b_retry, b_ackAt, b_waitAt, b_timedAt, b_timed)) (g_now, g_sent, b_seq, b_flags, b_acked, b_window, b_many, b_data, b_rows, b_state, b_error, b_iss, b_una, b_nxt, b_max, b_last, b_closed, b_written, b_irs, b_unread, b_bytes, b_held, b_rcv, b_finAt, b_marked, b_wnd, b_peak, b_half, b_rto, b_same, b_tries, b_smooth, b_spread, b_byNumber, b_byAck, b_sampled, b_told, b_retry, b_ackAt, b_waitAt, b_timedAt, b_timed) (zI e)) (fun u v => OKs e L now nr nw ns u0 v0 u v) := by
  have b2 := E2_b I2 (by omega)
  have b1 := (RE_el R.1).2.2.2.2.2.2.2.2.2.2.2.2.2.2.2.2.2.2.2.2.2.2.2.2.2.2.2.2.2.2.2.2.2.2.2.2.2.2.2.2.2.2.2.2.2.2.2.2.2.2.2.2.2.2.2.1
  unfold E1 at b1
  refine LK_b (lk_ack he h3 b2.1 (by omega) (by omega) R) ?_
  intro f_now1 f_sent1 a_state1 a_error1 a_tries1 a_iss1 a_una1 a_nxt1 a_max1 a_last1 a_closing1 a_kept1 a_rcv1 a_first1 a_held1 a_fin1 a_unread1 a_came1 a_ended1 a_wnd1 a_peak1 a_half1 a_same1 a_setBy1 a_setAt1 a_isSet1 a_rto1 a_smooth1 a_spread1 a_timed1 a_since1 a_retry1 a_waits1 a_rest1 a_segSeq1 a_segAck1 a_segFlags1 a_segWindow1 a_segLength1 a_segBytes1 a_row1 a_many1 a_taken1 g_now1 g_sent1 b_seq1 b_flags1 b_acked1 b_window1 b_many1 b_data1 b_rows1 b_state1 b_error1 b_iss1 b_una1 b_nxt1 b_max1 b_last1 b_closed1 b_written1 b_irs1 b_unread1 b_bytes1 b_held1 b_rcv1 b_finAt1 b_marked1 b_wnd1 b_peak1 b_half1 b_rto1 b_same1 b_tries1 b_smooth1 b_spread1 b_byNumber1 b_byAck1 b_sampled1 b_told1 b_retry1 b_ackAt1 b_waitAt1 b_timedAt1 b_timed1 R1
  exact lk_k0 (LK_r0 (OK_i R1 I2))
theorem lk_142 {S f : Int} {x8 : Int32} (he : e < 2) (h3 : 3 ≤ st) (sf : 0 ≤ f ∧ f < 16) (hx : x8 = if f / 8 % 2 = 0 then 0 else 1) (I2 : E2 L st iss una nxt mx la cl tm) (R : RZ e L now st er tr iss una nxt mx la cl irs rcv fi un fst wnd pk hf rto sa smo tm si rt wt rs nr nw ns u0 v0 (f_now, f_sent, a_state, a_error, a_tries, a_iss, a_una, a_nxt, a_max, a_last, a_closing, a_kept, a_rcv, a_first, a_held, a_fin, a_unread, a_came, a_ended, a_wnd, a_peak, a_half, a_same, a_setBy, a_setAt, a_isSet, a_rto, a_smooth, a_spread, a_timed, a_since, a_retry, a_waits, a_rest, a_segSeq, a_segAck, a_segFlags, a_segWindow, a_segLength, a_segBytes, a_row, a_many, a_taken) (g_now, g_sent, b_seq, b_flags, b_acked, b_window, b_many, b_data, b_rows, b_state, b_error, b_iss, b_una, b_nxt, b_max, b_last, b_closed, b_written, b_irs, b_unread, b_bytes, b_held, b_rcv, b_finAt, b_marked, b_wnd, b_peak, b_half, b_rto, b_same, b_tries, b_smooth, b_spread, b_byNumber, b_byAck, b_sampled, b_told, b_retry, b_ackAt, b_waitAt, b_timedAt, b_timed)) :
    LK ap0 aq0 (fun p => wX_accept_142 (cK p (zI e) (zI S)) (zI e) x8 f_now f_sent a_state a_error a_tries a_iss a_una a_nxt a_max a_last a_closing a_kept a_rcv a_first a_held a_fin a_unread a_came a_ended a_wnd a_peak a_half a_same a_setBy a_setAt a_isSet a_rto a_smooth a_spread a_timed a_since a_retry a_waits a_rest a_segSeq a_segAck a_segFlags a_segWindow a_segLength a_segBytes a_row a_many a_taken) (fun p => wY_toOthers_80 p (zI e) (zI f) g_now g_sent b_seq b_flags b_acked b_window b_many b_data b_rows b_state b_error b_iss b_una b_nxt b_max b_last b_closed b_written b_irs b_unread b_bytes b_held b_rcv b_finAt b_marked b_wnd b_peak b_half b_rto b_same b_tries b_smooth b_spread b_byNumber b_byAck b_sampled b_told b_retry b_ackAt b_waitAt b_timedAt b_timed) (fun u v => OKs e L now nr nw ns u0 v0 u v) := by
  unfold wX_accept_142 wY_toOthers_80
  by_cases h8 : f / 8 % 2 = 0
  · rw [if_pos h8] at hx
    exact LX_t hx (LY_t ((cf_8 sf).mpr h8) (lk_ack0 he h3 I2 R))
  · rw [if_neg h8] at hx
    have hx' : ¬ x8 = 0 := by rw [hx]; decide
    exact LX_f hx' (LY_f (fun z => h8 ((cf_8 sf).mp z)) (lk_k0 (LK_r0 (OK_i R I2))))
theorem lk_others {S T q f a w n : Int} (he : e < 2) (h3 : 3 ≤ st) (hB : rcv + 25 ≤ L) (S0 : SU e S T q f a w n u0 v0) (I2 : E2 L st iss una nxt mx la cl tm) (R : RZ e L now st er tr iss una nxt mx la cl irs rcv fi un fst wnd pk hf rto sa smo tm si rt wt rs nr nw ns u0 v0 (f_now, f_sent, a_state, a_error, a_tries, a_iss, a_una, a_nxt, a_max, a_last, a_closing, a_kept, a_rcv, a_first, a_held, a_fin, a_unread, a_came, a_ended, a_wnd, a_peak, a_half, a_same, a_setBy, a_setAt, a_isSet, a_rto, a_smooth, a_spread, a_timed, a_since, a_retry, a_waits, a_rest, a_segSeq, a_segAck, a_segFlags, a_segWindow, a_segLength, a_segBytes, a_row, a_many, a_taken) (g_now, g_sent, b_seq, b_flags, b_acked, b_window, b_many, b_data, b_rows, b_state, b_error, b_iss, b_una, b_nxt, b_max, b_last, b_closed, b_written, b_irs, b_unread, b_bytes, b_held, b_rcv, b_finAt, b_marked, b_wnd, b_peak, b_half, b_rto, b_same, b_tries, b_smooth, b_spread, b_byNumber, b_byAck, b_sampled, b_told, b_retry, b_ackAt, b_waitAt, b_timedAt, b_timed)) :
    LK ap0 aq0 (fun p => wpX_accept (cK p (zI e) (zI S)) (f_now, f_sent, a_state, a_error, a_tries, a_iss, a_una, a_nxt, a_max, a_last, a_closing, a_kept, a_rcv, a_first, a_held, a_fin, a_unread, a_came, a_ended, a_wnd, a_peak, a_half, a_same, a_setBy, a_setAt, a_isSet, a_rto, a_smooth, a_spread, a_timed, a_since, a_retry, a_waits, a_rest, a_segSeq, a_segAck, a_segFlags, a_segWindow, a_segLength, a_segBytes, a_row, a_many, a_taken) (zI e) (zI S) (zI f)) (fun p => wpY_toOthers p (g_now, g_sent, b_seq, b_flags, b_acked, b_window, b_many, b_data, b_rows, b_state, b_error, b_iss, b_una, b_nxt, b_max, b_last, b_closed, b_written, b_irs, b_unread, b_bytes, b_held, b_rcv, b_finAt, b_marked, b_wnd, b_peak, b_half, b_rto, b_same, b_tries, b_smooth, b_spread, b_byNumber, b_byAck, b_sampled, b_told, b_retry, b_ackAt, b_waitAt, b_timedAt, b_timed) (zI e) (zI T)) (fun u v => OKs e L now nr nw ns u0 v0 u v) := by
  have hne : 1 - e ≠ e := by omega
  have R0 := R
  obtain ⟨R, F⟩ := R
  obtain ⟨s1, s2, sq, sf, sa', sw, sn, xq, xa, xf, xw, xn, yq, ya, yf, yw, yn, ybs⟩ := SU_el he (SU_fr F S0)
  obtain ⟨rfl, rfl, xst, xer, xtr, xiss, xuna, xnxt, xmx, xla, xcl, xrcv, xfst, xfi, xun, xen, xwnd, xpk, xhf, xrto, xsm, xsb, xsa, xis, xsmo, xspr, xtm, xsi, xrt, xwt, xrs, yst, yer, ytr, yiss, yuna, ynxt, ymx, yla, ycl, yirs, yrcv, yfi, yun, ywnd, ypk, yhf, yrto, ysa, ysmo, ytm, ysi, yrt, ywt, yrs, I1, I3, I4, I5, K, C, H, W⟩ := RE_el R
  have hTi : vp_in (zI T) 32 := zI_in (by omega)
  have hTc : (zI T).toNatClampNeg = T.toNat := zI_cl (by omega)
  have b1 := I1
  unfold E1 at b1
  have b2 := E2_b I2 (by omega)
  have b3 := I3
  unfold E3 at b3
  have b5 := E5_b I5
  obtain ⟨o, ho⟩ : ∃ o : Int, o = zo (q - (irs + rcv) % 65536) := ⟨_, rfl⟩
  obtain ⟨ln, hln⟩ : ∃ ln : Int, ln = n + f % 2 + f / 4 % 2 := ⟨_, rfl⟩
  have hor := zo_r (q - (irs + rcv) % 65536)
  rw [← ho] at hor
  have hl10 : 0 ≤ ln ∧ ln ≤ 10 := by omega
  obtain ⟨g, hg⟩ : ∃ g : Int, g = 1 ∧ Gd o ln un ∨ g = 0 ∧ ¬ Gd o ln un := by
    by_cases h : Gd o ln un
    · exact ⟨1, Or.inl ⟨rfl, h⟩⟩
    · exact ⟨0, Or.inr ⟨rfl, h⟩⟩
  have hg01 : g = 0 ∨ g = 1 := by
    rcases hg with ⟨h, _⟩ | ⟨h, _⟩
    · exact Or.inr h
    · exact Or.inl h
  refine LK_x (fun p h => x_accept he s1 sf sn xq xf xn (xrcv (by omega)) xun b3.2.2.1 hln ho hg h) ?_
  unfold wpY_toOthers
  simp only [y_due he yirs yrcv b3.1]
  refine LY_a hTi ?_
  rw [hTc, yq]
  simp only [y_offset', y_length s2 sf yf yn]
  rw [← ho, ← hln]
  refine LY_a hTi ?_
  rw [yf]
  refine LY_n (LK_y (fun p h => y_accept he yun b3.2.2.1 hor hl10 hg h) ?_)
  clear hg
  have hcg : zI g = 0 ↔ g = 0 := by rw [zl_0, zI_eq (by omega)]
  obtain ⟨x8, hx8⟩ : ∃ x8 : Int32, x8 = if f / 8 % 2 = 0 then 0 else 1 := ⟨_, rfl⟩
  have hX : ∀ p, wX_accept_105 (cK p (zI e) (zI S)) (zI e) (zI f) (zI o) (zI g) x8 (zI now) f_sent a_state a_error a_tries a_iss a_una a_nxt a_max a_last a_closing a_kept a_rcv a_first a_held a_fin a_unread a_came a_ended a_wnd a_peak a_half a_same a_setBy a_setAt a_isSet a_rto a_smooth a_spread a_timed a_since a_retry a_waits a_rest a_segSeq a_segAck a_segFlags a_segWindow a_segLength a_segBytes a_row a_many a_taken → wX_accept_91 (cK p (zI e) (zI S)) (zI e) (zI f) (zI o) (zI g) (zI now) f_sent a_state a_error a_tries a_iss a_una a_nxt a_max a_last a_closing a_kept a_rcv a_first a_held a_fin a_unread a_came a_ended a_wnd a_peak a_half a_same a_setBy a_setAt a_isSet a_rto a_smooth a_spread a_timed a_since a_retry a_waits a_rest a_segSeq a_segAck a_segFlags a_segWindow a_segLength a_segBytes a_row a_many a_taken := by
    intro p h
    unfold wX_accept_91
    by_cases h8 : f / 8 % 2 = 0
    · rw [if_pos h8] at hx8
      subst hx8
      exact br_t ((cf_8 sf).mpr h8) h
    · rw [if_neg h8] at hx8
      subst hx8
      exact br_f (fun z => h8 ((cf_8 sf).mp z)) h
  refine LK_x hX ?_
  clear hX
  unfold wX_accept_105
  rcases hg01 with rfl | rfl
  · refine LX_t rfl (LY_t rfl (LX_a (e_in he) (LY_a (e_in he) ?_)))
    rw [e_cl he, xst, yst]
    have hc10 : zI st = 10 ↔ st = 10 := by rw [zl_10, zI_eq (by omega)]
    by_cases h10 : st = 10
    · refine LX_t (hc10.mpr h10) (LY_t (hc10.mpr h10) ?_)
      by_cases h4 : f / 4 % 2 = 0
      · exact LX_t ((cf_4 sf).mpr h4) (LY_t ((cf_4 sf).mpr h4) (lk_142 he h3 sf hx8 I2 R0))
      · refine LX_f (fun z => h4 ((cf_4 sf).mp z)) (LY_f (fun z => h4 ((cf_4 sf).mp z)) (LX_a (e_in he) (LX_n (LY_a (e_in he) (LY_n ?_)))))
        refine lk_142 (rs := now + 20) he h3 sf hx8 I2 ⟨RE_in ⟨rfl, rfl, xst, xer, xtr, xiss, xuna, xnxt, xmx, xla, xcl, xrcv, xfst, xfi, xun, xen, xwnd, xpk, xhf, xrto, xsm, xsb, xsa, xis, xsmo, xspr, xtm, xsi, xrt, xwt, pk_us.trans (zI_add now 20), yst, yer, ytr, yiss, yuna, ynxt, ymx, yla, ycl, yirs, yrcv, yfi, yun, ywnd, ypk, yhf, yrto, ysa, ysmo, ytm, ysi, yrt, ywt, pk_us.trans (zI_add now 20), I1, I3, I4, E5_rs I5 (by omega), K, C, H, W⟩, FR_s F ?_ ?_ rfl⟩
        · simp only [vX, pk_un hne]
        · simp only [vY, pk_un hne]
    · exact LX_f (fun z => h10 (hc10.mp z)) (LY_f (fun z => h10 (hc10.mp z)) (lk_142 he h3 sf hx8 I2 R0))
  · refine LX_f (by decide) (LY_f (by decide) ?_)
    unfold wX_accept_172 wX_accept_183
    by_cases h8 : f / 8 % 2 = 0
    · rw [if_pos h8] at hx8
      refine LX_t hx8 (LX_t hx8 (LY_t ((cf_8 sf).mpr h8) ?_))
      by_cases h1 : f % 2 = 0
      · refine LX_t ((cf_1 sf).mpr h1) (LY_t ((cf_1 sf).mpr h1) ?_)
        by_cases h2 : f / 2 % 2 = 0
        · exact LX_t ((cf_2 sf).mpr h2) (LY_t ((cf_2 sf).mpr h2) (lk_k0 (LK_r0 (OK_i R0 I2))))
        · refine LX_f (fun z => h2 ((cf_2 sf).mp z)) (LY_f (fun z => h2 ((cf_2 sf).mp z)) ?_)
          refine LX_f (by decide) ?_
          refine LK_b1 (lk_judge he h3 S0 (by omega) hln I2 R0) ?_
          intro r1 r2 f_now1 f_sent1 a_state1 a_error1 a_tries1 a_iss1 a_una1 a_nxt1 a_max1 a_last1 a_closing1 a_kept1 a_rcv1 a_first1 a_held1 a_fin1 a_unread1 a_came1 a_ended1 a_wnd1 a_peak1 a_half1 a_same1 a_setBy1 a_setAt1 a_isSet1 a_rto1 a_smooth1 a_spread1 a_timed1 a_since1 a_retry1 a_waits1 a_rest1 a_segSeq1 a_segAck1 a_segFlags1 a_segWindow1 a_segLength1 a_segBytes1 a_row1 a_many1 a_taken1 g_now1 g_sent1 b_seq1 b_flags1 b_acked1 b_window1 b_many1 b_data1 b_rows1 b_state1 b_error1 b_iss1 b_una1 b_nxt1 b_max1 b_last1 b_closed1 b_written1 b_irs1 b_unread1 b_bytes1 b_held1 b_rcv1 b_finAt1 b_marked1 b_wnd1 b_peak1 b_half1 b_rto1 b_same1 b_tries1 b_smooth1 b_spread1 b_byNumber1 b_byAck1 b_sampled1 b_told1 b_retry1 b_ackAt1 b_waitAt1 b_timedAt1 b_timed1 Z1
          unfold wX_arrive_141
          rcases Z1 with ⟨e1, e2, Z1⟩ | ⟨e1, e2, Z1⟩
          · exact LX_t e1 (LY_t e2 (LK_r0 Z1))
          · have n1 : ¬ r1 = 0 := by rw [show r1 = 1 from e1]; decide
            have n2 : ¬ r2 = 0 := by rw [show r2 = 1 from e2]; decide
            refine LX_f n1 (LY_f n2 ?_)
            refine OKp_el Z1 ?_
            intro st1 er1 tr1 iss1 una1 nxt1 mx1 la1 cl1 irs1 rcv1 fi1 un1 fst1 wnd1 pk1 hf1 rto1 sa1 smo1 tm1 si1 rt1 wt1 rs1 hP R1 J1
            obtain ⟨h41, hi1, hr1⟩ := hP
            exact LK_b (lk_gather he h41 (by omega) S0 hln (by rw [hi1, hr1]; exact ho) J1 R1) (fun f_now2 f_sent2 a_state2 a_error2 a_tries2 a_iss2 a_una2 a_nxt2 a_max2 a_last2 a_closing2 a_kept2 a_rcv2 a_first2 a_held2 a_fin2 a_unread2 a_came2 a_ended2 a_wnd2 a_peak2 a_half2 a_same2 a_setBy2 a_setAt2 a_isSet2 a_rto2 a_smooth2 a_spread2 a_timed2 a_since2 a_retry2 a_waits2 a_rest2 a_segSeq2 a_segAck2 a_segFlags2 a_segWindow2 a_segLength2 a_segBytes2 a_row2 a_many2 a_taken2 g_now2 g_sent2 b_seq2 b_flags2 b_acked2 b_window2 b_many2 b_data2 b_rows2 b_state2 b_error2 b_iss2 b_una2 b_nxt2 b_max2 b_last2 b_closed2 b_written2 b_irs2 b_unread2 b_bytes2 b_held2 b_rcv2 b_finAt2 b_marked2 b_wnd2 b_peak2 b_half2 b_rto2 b_same2 b_tries2 b_smooth2 b_spread2 b_byNumber2 b_byAck2 b_sampled2 b_told2 b_retry2 b_ackAt2 b_waitAt2 b_timedAt2 b_timed2 h => LK_r0 h)
      · exact LX_f (fun z => h1 ((cf_1 sf).mp z)) (LY_f (fun z => h1 ((cf_1 sf).mp z)) (lk_ack0 he h3 I2 R0))
    · rw [if_neg h8] at hx8
      have hx' : ¬ x8 = 0 := by rw [hx8]; decide
      refine LX_f hx' (LY_f (fun z => h8 ((cf_8 sf).mp z)) ?_)
      have hco : zI o = 0 ↔ o = 0 := by rw [zl_0, zI_eq (by omega)]
      by_cases h0 : o = 0
      · refine LX_t (hco.mpr h0) (LY_t (hco.mpr h0) ?_)
        refine LK_b (lk_fail he R0) ?_
        intro f_now1 f_sent1 a_state1 a_error1 a_tries1 a_iss1 a_una1 a_nxt1 a_max1 a_last1 a_closing1 a_kept1 a_rcv1 a_first1 a_held1 a_fin1 a_unread1 a_came1 a_ended1 a_wnd1 a_peak1 a_half1 a_same1 a_setBy1 a_setAt1 a_isSet1 a_rto1 a_smooth1 a_spread1 a_timed1 a_since1 a_retry1 a_waits1 a_rest1 a_segSeq1 a_segAck1 a_segFlags1 a_segWindow1 a_segLength1 a_segBytes1 a_row1 a_many1 a_taken1 g_now1 g_sent1 b_seq1 b_flags1 b_acked1 b_window1 b_many1 b_data1 b_rows1 b_state1 b_error1 b_iss1 b_una1 b_nxt1 b_max1 b_last1 b_closed1 b_written1 b_irs1 b_unread1 b_bytes1 b_held1 b_rcv1 b_finAt1 b_marked1 b_wnd1 b_peak1 b_half1 b_rto1 b_same1 b_tries1 b_smooth1 b_spread1 b_byNumber1 b_byAck1 b_sampled1 b_told1 b_retry1 b_ackAt1 b_waitAt1 b_timedAt1 b_timed1 R1
        exact lk_k0 (LK_r0 (OK_i R1 (E2_0 I2)))
      · exact LX_f (fun z => h0 (hco.mp z)) (LY_f (fun z => h0 (hco.mp z)) (LX_f hx' (lk_ack0 he h3 I2 R0)))
theorem lk_arrive {S T q f a w n : Int} (he : e < 2) (hB : rcv + 25 ≤ L) (S0 : SU e S T q f a w n u0 v0) (I2 : E2 L st iss una nxt mx la cl tm) (R : RZ e L now st er tr iss una nxt mx la cl irs rcv fi un fst wnd pk hf rto sa smo tm si rt wt rs nr nw ns u0 v0 (f_now, f_sent, a_state, a_error, a_tries, a_iss, a_una, a_nxt, a_max, a_last, a_closing, a_kept, a_rcv, a_first, a_held, a_fin, a_unread, a_came, a_ended, a_wnd, a_peak, a_half, a_same, a_setBy, a_setAt, a_isSet, a_rto, a_smooth, a_spread, a_timed, a_since, a_retry, a_waits, a_rest, a_segSeq, a_segAck, a_segFlags, a_segWindow, a_segLength, a_segBytes, a_row, a_many, a_taken) (g_now, g_sent, b_seq, b_flags, b_acked, b_window, b_many, b_data, b_rows, b_state, b_error, b_iss, b_una, b_nxt, b_max, b_last, b_closed, b_written, b_irs, b_unread, b_bytes, b_held, b_rcv, b_finAt, b_marked, b_wnd, b_peak, b_half, b_rto, b_same, b_tries, b_smooth, b_spread, b_byNumber, b_byAck, b_sampled, b_told, b_retry, b_ackAt, b_waitAt, b_timedAt, b_timed)) :
    LK ap0 aq0 (fun p => wpX_arrive p (f_now, f_sent, a_state, a_error, a_tries, a_iss, a_una, a_nxt, a_max, a_last, a_closing, a_kept, a_rcv, a_first, a_held, a_fin, a_unread, a_came, a_ended, a_wnd, a_peak, a_half, a_same, a_setBy, a_setAt, a_isSet, a_rto, a_smooth, a_spread, a_timed, a_since, a_retry, a_waits, a_rest, a_segSeq, a_segAck, a_segFlags, a_segWindow, a_segLength, a_segBytes, a_row, a_many, a_taken) (zI e) (zI S)) (fun p => wpY_arrive p (g_now, g_sent, b_seq, b_flags, b_acked, b_window, b_many, b_data, b_rows, b_state, b_error, b_iss, b_una, b_nxt, b_max, b_last, b_closed, b_written, b_irs, b_unread, b_bytes, b_held, b_rcv, b_finAt, b_marked, b_wnd, b_peak, b_half, b_rto, b_same, b_tries, b_smooth, b_spread, b_byNumber, b_byAck, b_sampled, b_told, b_retry, b_ackAt, b_waitAt, b_timedAt, b_timed) (zI e) (zI T)) (fun u v => OKs e L now nr nw ns u0 v0 u v) := by
  have R0 := R
  obtain ⟨R, F⟩ := R
  obtain ⟨s1, s2, sq, sf, sa', sw, sn, xq, xa, xf, xw, xn, yq, ya, yf, yw, yn, ybs⟩ := SU_el he (SU_fr F S0)
  obtain ⟨rfl, rfl, xst, xer, xtr, xiss, xuna, xnxt, xmx, xla, xcl, xrcv, xfst, xfi, xun, xen, xwnd, xpk, xhf, xrto, xsm, xsb, xsa, xis, xsmo, xspr, xtm, xsi, xrt, xwt, xrs, yst, yer, ytr, yiss, yuna, ynxt, ymx, yla, ycl, yirs, yrcv, yfi, yun, ywnd, ypk, yhf, yrto, ysa, ysmo, ytm, ysi, yrt, ywt, yrs, I1, I3, I4, I5, K, C, H, W⟩ := RE_el R
  have hSi : vp_in (zI S) 32 := zI_in (by omega)
  have hSc : (zI S).toNatClampNeg = S.toNat := zI_cl (by omega)
  have b1 := I1
  unfold E1 at b1
  have hc0 : zI st = 0 ↔ st = 0 := by rw [zl_0, zI_eq (by omega)]
  have hc1 : zI st = 1 ↔ st = 1 := by rw [zl_1, zI_eq (by omega)]
  have hc2 : zI st = 2 ↔ st = 2 := by rw [zl_2, zI_eq (by omega)]
  have hcn : ¬ zI st < 0 := by rw [zl_0, zI_lt (by omega)]; omega
  have hc3 : 2 < zI st ↔ 2 < st := by rw [zl_2, zI_lt (by omega)]
  unfold wpX_arrive wpY_arrive
  refine LX_a hSi ?_
  rw [hSc, xf]
  refine LX_n (LX_a (e_in he) ?_)
  refine LY_a (e_in he) ?_
  rw [e_cl he, xst, yst]
  refine LX_n (LX_f hcn ?_)
  by_cases h3 : 3 ≤ st
  · refine LX_t (hc3.mpr (by omega)) (LY_f (fun z => by have := hc0.mp z; omega) (LY_a (e_in he) (LY_f (fun z => by have := hc1.mp z; omega) (LY_a (e_in he) (LY_f (fun z => by have := hc2.mp z; omega) ?_)))))
    exact lk_others he h3 hB S0 I2 R0
  · refine LX_f (fun z => by have := hc3.mp z; omega) ?_
    by_cases h0 : st = 0
    · refine LX_t (hc0.mpr h0) (LY_t (hc0.mpr h0) ?_)
      exact lk_closed he S0 I2 h0 R0
    · refine LX_f (fun z => h0 (hc0.mp z)) (LY_f (fun z => h0 (hc0.mp z)) (LY_a (e_in he) ?_))
      by_cases h1 : st = 1
      · subst h1
        refine LX_t (hc1.mpr rfl) (LY_t (hc1.mpr rfl) ?_)
        exact lk_listen he S0 I2 R0
      · have h2 : st = 2 := by omega
        subst h2
        refine LX_f (fun z => h1 (hc1.mp z)) (LX_t (hc2.mpr rfl) (LY_f (fun z => h1 (hc1.mp z)) (LY_a (e_in he) (LY_t (hc2.mpr rfl) ?_))))
        exact lk_opening he S0 I2 R0
end
end
section
/-! the link: a segment leaves a row -/
/-- r' is r without the place k, of m -/
def Dl (k m : Nat) (r r' : Int → Int32) : Prop := ∀ i : Nat, i < m - 1 → r' i = r ((if i < k then i else i + 1 : Nat) : Int)
def Dd (k m : Nat) (r r' : Int → Int32) : Prop := ∀ i : Nat, i < m - 1 → ∀ y : Int, 0 ≤ y → y < 8 → r' (8 * i + y) = r (8 * ((if i < k then i else i + 1 : Nat) : Int) + y)
section
variable {e : Nat} {L now : Int} {st er tr iss una nxt mx la cl irs rcv fi un fst wnd pk hf rto sa smo tm si rt wt rs nr nw ns : Int} {f_now f_sent : Int32} {a_state a_error a_tries a_iss a_una a_nxt a_max a_last a_closing a_kept a_rcv a_first a_held a_fin a_unread a_came a_ended a_wnd a_peak a_half a_same a_setBy a_setAt a_isSet a_rto a_smooth a_spread a_timed a_since a_retry a_waits a_rest a_segSeq a_segAck a_segFlags a_segWindow a_segLength a_segBytes a_row a_many a_taken : Nat → Int32} {g_now g_sent : Int32} {b_seq b_flags b_acked b_window b_many b_data b_rows b_state b_error b_iss : Nat → Int32} {b_una b_nxt b_max b_last : Nat → Int64} {b_closed b_written b_irs b_unread b_bytes b_held : Nat → Int32} {b_rcv b_finAt : Nat → Int64} {b_marked b_wnd b_peak b_half b_rto b_same b_tries b_smooth b_spread b_byNumber b_byAck b_sampled b_told b_retry b_ackAt b_waitAt b_timedAt : Nat → Int32} {b_timed : Nat → Int64} {u0 : SX} {v0 : SY}
theorem ES_del {m k : Nat} {sg : Nat → Nat} {tk tk' : Int32} {sq sa' sf sw sl sb yq yf ya yw yl yd zq zf za zw zl zd : Int → Int32} (h : ES m sg tk sq sa' sf sw sl sb yq yf ya yw yl yd) (hk : k < m) (ht : ∀ i, bt tk' i = (bt tk i && !decide (i = sg k)))
    (h1 : Dl k m yq zq) (h2 : Dl k m yf zf) (h3 : Dl k m ya za) (h4 : Dl k m yw zw) (h5 : Dl k m yl zl) (h6 : Dd k m yd zd) : ES (m - 1) (fun i => sg (if i < k then i else i + 1)) tk' sq sa' sf sw sl sb zq zf za zw zl zd := by
  obtain ⟨s1, s2, s3, s4, s5⟩ := h
  have hj : ∀ i, i < m - 1 → (if i < k then i else i + 1) < m ∧ (if i < k then i else i + 1) ≠ k := by intro i hi; split <;> omega
  refine ⟨by omega, fun i hi => s2 _ (hj i hi).1, fun i j hi hj' hij => ?_, fun b => ?_, fun i hi => ?_⟩
  · have := s3 _ _ (hj i hi).1 (hj j hj').1 hij
    split at this <;> split at this <;> omega
  · rw [ht b, Bool.and_eq_true, s4 b]
    constructor
    · rintro ⟨⟨i, hi, hs⟩, hb⟩
      have hik : i ≠ k := fun z => by subst z; rw [hs] at hb; simp at hb
      by_cases c : i < k
      · exact ⟨i, by omega, by simp only [if_pos c]; exact hs⟩
      · refine ⟨i - 1, by omega, ?_⟩
        have c2 : ¬ i - 1 < k := by omega
        simp only [if_neg c2]
        rw [show i - 1 + 1 = i by omega]; exact hs
    · rintro ⟨i, hi, hs⟩
      have := hj i hi
      refine ⟨⟨_, this.1, hs⟩, ?_⟩
      have hne : b ≠ sg k := fun z => this.2 (s3 _ _ this.1 hk (hs.trans z))
      simp [hne]
  · have hji := hj i hi
    obtain ⟨q, f, a, w, n, g1, g2, g3, g4, g5, g6⟩ := s5 _ hji.1
    refine ⟨q, f, a, w, n, ?_, ?_, ?_, ?_, ?_, fun y hy hy' => ?_⟩
    · rw [h1 i hi]; exact g1
    · rw [h2 i hi]; exact g2
    · rw [h3 i hi]; exact g3
    · rw [h4 i hi]; exact g4
    · rw [h5 i hi]; exact g5
    · have := g5.2.2.2
      rw [h6 i hi y hy (by omega)]; exact g6 y hy hy'
theorem ER_del {m k : Nat} {sg : Nat → Nat} {mn : Int32} {r r' : Int → Int32} (h : ER e m sg mn r) (hk : k < m) (hd : Dl k m r r') : ER e (m - 1) (fun i => sg (if i < k then i else i + 1)) (zI ((m - 1 : Nat) : Int)) r' := by
  refine ⟨rfl, fun i hi => ?_⟩
  rw [hd i hi]
  exact h.2 _ (by split <;> omega)
theorem RE_del {m k : Nat} {sg : Nat → Nat} {c_row c_seq c_flags c_acked c_window c_many c_data : Nat → Int32} (he : e < 2) (R : RE e L now st er tr iss una nxt mx la cl irs rcv fi un fst wnd pk hf rto sa smo tm si rt wt rs nr nw ns (f_now, f_sent, a_state, a_error, a_tries, a_iss, a_una, a_nxt, a_max, a_last, a_closing, a_kept, a_rcv, a_first, a_held, a_fin, a_unread, a_came, a_ended, a_wnd, a_peak, a_half, a_same, a_setBy, a_setAt, a_isSet, a_rto, a_smooth, a_spread, a_timed, a_since, a_retry, a_waits, a_rest, a_segSeq, a_segAck, a_segFlags, a_segWindow, a_segLength, a_segBytes, a_row, a_many, a_taken) (g_now, g_sent, b_seq, b_flags, b_acked, b_window, b_many, b_data, b_rows, b_state, b_error, b_iss, b_una, b_nxt, b_max, b_last, b_closed, b_written, b_irs, b_unread, b_bytes, b_held, b_rcv, b_finAt, b_marked, b_wnd, b_peak, b_half, b_rto, b_same, b_tries, b_smooth, b_spread, b_byNumber, b_byAck, b_sampled, b_told, b_retry, b_ackAt, b_waitAt, b_timedAt, b_timed)) (hk : k < m) (hR : ER e m sg (a_many e) (rg 16 e a_row)) (hS : ES m sg (a_taken e) (rg 16 e a_segSeq) (rg 16 e a_segAck) (rg 16 e a_segFlags) (rg 16 e a_segWindow) (rg 16 e a_segLength) (rg 128 e a_segBytes) (rg 16 e b_seq) (rg 16 e b_flags) (rg 16 e b_acked) (rg 16 e b_window) (rg 16 e b_many) (rg 128 e b_data))
    (h0 : Dl k m (rg 16 e a_row) (rg 16 e c_row)) (h1 : Dl k m (rg 16 e b_seq) (rg 16 e c_seq)) (h2 : Dl k m (rg 16 e b_flags) (rg 16 e c_flags)) (h3 : Dl k m (rg 16 e b_acked) (rg 16 e c_acked)) (h4 : Dl k m (rg 16 e b_window) (rg 16 e c_window)) (h5 : Dl k m (rg 16 e b_many) (rg 16 e c_many)) (h6 : Dd k m (rg 128 e b_data) (rg 128 e c_data)) :
    RE e L now st er tr iss una nxt mx la cl irs rcv fi un fst wnd pk hf rto sa smo tm si rt wt rs nr nw ns (f_now, f_sent, a_state, a_error, a_tries, a_iss, a_una, a_nxt, a_max, a_last, a_closing, a_kept, a_rcv, a_first, a_held, a_fin, a_unread, a_came, a_ended, a_wnd, a_peak, a_half, a_same, a_setBy, a_setAt, a_isSet, a_rto, a_smooth, a_spread, a_timed, a_since, a_retry, a_waits, a_rest, a_segSeq, a_segAck, a_segFlags, a_segWindow, a_segLength, a_segBytes, c_row, upd a_many e (zI ((m - 1 : Nat) : Int)), upd a_taken e (a_taken e &&& ((zI 1 <<< (zI (sg k) &&& zI 31)) ^^^ zI (-1)))) (g_now, g_sent, c_seq, c_flags, c_acked, c_window, c_many, c_data, upd b_rows e (zI ((m - 1 : Nat) : Int)), b_state, b_error, b_iss, b_una, b_nxt, b_max, b_last, b_closed, b_written, b_irs, b_unread, b_bytes, b_held, b_rcv, b_finAt, b_marked, b_wnd, b_peak, b_half, b_rto, b_same, b_tries, b_smooth, b_spread, b_byNumber, b_byAck, b_sampled, b_told, b_retry, b_ackAt, b_waitAt, b_timedAt, b_timed) := by
  obtain ⟨xnow, ynow, xst, xer, xtr, xiss, xuna, xnxt, xmx, xla, xcl, xrcv, xfst, xfi, xun, xen, xwnd, xpk, xhf, xrto, xsm, xsb, xsa, xis, xsmo, xspr, xtm, xsi, xrt, xwt, xrs, yst, yer, ytr, yiss, yuna, ynxt, ymx, yla, ycl, yirs, yrcv, yfi, yun, ywnd, ypk, yhf, yrto, ysa, ysmo, ytm, ysi, yrt, ywt, yrs, I1, I3, I4, I5, K, C, H, W⟩ := RE_el R
  have hs := hS.2.1 k hk
  refine RE_in ⟨xnow, ynow, xst, xer, xtr, xiss, xuna, xnxt, xmx, xla, xcl, xrcv, xfst, xfi, xun, xen, xwnd, xpk, xhf, xrto, xsm, xsb, xsa, xis, xsmo, xspr, xtm, xsi, xrt, xwt, xrs, yst, yer, ytr, yiss, yuna, ynxt, ymx, yla, ycl, yirs, yrcv, yfi, yun, ywnd, ypk, yhf, yrto, ysa, ysmo, ytm, ysi, yrt, ywt, yrs, I1, I3, I4, I5, K, C, H, ?_⟩
  rw [pk_us, pk_us, pk_us]
  exact ⟨m - 1, _, rfl, ER_del hR hk h0, ES_del hS hk (fun i => bb_clr _ _ (by omega) i) h1 h2 h3 h4 h5 h6⟩
/-! X: pull and free -/
theorem x_pull_l {m k : Nat} {s : Int32} (he : e < 2) (hm : m ≤ 16) (hk : k < m) (hv : ∀ i : Nat, i < m → vp_nar .byte (rg 16 e a_row i) = rg 16 e a_row i) : ∀ (d i : Nat) (rw' : Nat → Int32), i + d = m - 1 → k ≤ i → rg 16 (1 - e) rw' = rg 16 (1 - e) a_row → (∀ z : Nat, z < i → rg 16 e rw' z = rg 16 e a_row ((if z < k then z else z + 1 : Nat) : Int)) → (∀ z : Nat, i ≤ z → z < 16 → rg 16 e rw' z = rg 16 e a_row z) →
    ∃ c, rg 16 (1 - e) c = rg 16 (1 - e) a_row ∧ Dl k m (rg 16 e a_row) (rg 16 e c) ∧ ∀ {f_now f_sent : Int32} {a_state a_error a_tries a_iss a_una a_nxt a_max a_last a_closing a_kept a_rcv a_first a_held a_fin a_unread a_came a_ended a_wnd a_peak a_half a_same a_setBy a_setAt a_isSet a_rto a_smooth a_spread a_timed a_since a_retry a_waits a_rest a_segSeq a_segAck a_segFlags a_segWindow a_segLength a_segBytes a_many a_taken : Nat → Int32} (post : Int32 → SX → Prop) (fuel : Nat), a_many e = zI ((m - 1 : Nat) : Int) → d < fuel → post s (f_now, f_sent, a_state, a_error, a_tries, a_iss, a_una, a_nxt, a_max, a_last, a_closing, a_kept, a_rcv, a_first, a_held, a_fin, a_unread, a_came, a_ended, a_wnd, a_peak, a_half, a_same, a_setBy, a_setAt, a_isSet, a_rto, a_smooth, a_spread, a_timed, a_since, a_retry, a_waits, a_rest, a_segSeq, a_segAck, a_segFlags, a_segWindow, a_segLength, a_segBytes, c, a_many, a_taken) → wX_pull_31 post (zI e) s f_now f_sent fuel (zI (16 * e + i)) a_state a_error a_tries a_iss a_una a_nxt a_max a_last a_closing a_kept a_rcv a_first a_held a_fin a_unread a_came a_ended a_wnd a_peak a_half a_same a_setBy a_setAt a_isSet a_rto a_smooth a_spread a_timed a_since a_retry a_waits a_rest a_segSeq a_segAck a_segFlags a_segWindow a_segLength a_segBytes rw' a_many a_taken := by
  intro d
  induction d with
  | zero =>
    intro i rw' hi hki h1 h2 h3
    refine ⟨rw', h1, fun z hz => h2 z (by omega), ?_⟩
    intro f_now f_sent a_state a_error a_tries a_iss a_una a_nxt a_max a_last a_closing a_kept a_rcv a_first a_held a_fin a_unread a_came a_ended a_wnd a_peak a_half a_same a_setBy a_setAt a_isSet a_rto a_smooth a_spread a_timed a_since a_retry a_waits a_rest a_segSeq a_segAck a_segFlags a_segWindow a_segLength a_segBytes a_many a_taken post fuel hmn hf K
    obtain ⟨fuel, rfl⟩ : ∃ n', fuel = n' + 1 := ⟨fuel - 1, by omega⟩
    have hc : (16 : Int32) * zI e + zI ((m - 1 : Nat) : Int) ≤ zI (16 * e + i) := by rw [zl_16, zI_mul, zI_add, zI_le (by omega)]; omega
    rw [wX_pull_31]
    refine ⟨e_in he, ?_⟩
    rw [e_cl he, hmn]
    exact br_t hc K
  | succ d ih =>
    intro i rw' hi hki h1 h2 h3
    obtain ⟨c, c1, c2, c3⟩ := ih (i + 1) (upd rw' ((16 * (e : Int) + i).toNat) (rg 16 e a_row ((i + 1 : Nat) : Int))) (by omega) (by omega) (by rw [rg_out (by decide) (by omega) he (by omega) (by omega)]; exact h1) (fun z hz => by
      rw [rg_in (by decide) (by omega)]
      by_cases q : z = i
      · subst q; rw [if_pos (by omega), if_neg (by omega)]
      · rw [if_neg (by omega)]; exact h2 z (by omega)) (fun z hz hz' => by
      rw [rg_in (by decide) (by omega), if_neg (by omega)]; exact h3 z (by omega) hz')
    refine ⟨c, c1, c2, ?_⟩
    intro f_now f_sent a_state a_error a_tries a_iss a_una a_nxt a_max a_last a_closing a_kept a_rcv a_first a_held a_fin a_unread a_came a_ended a_wnd a_peak a_half a_same a_setBy a_setAt a_isSet a_rto a_smooth a_spread a_timed a_since a_retry a_waits a_rest a_segSeq a_segAck a_segFlags a_segWindow a_segLength a_segBytes a_many a_taken post fuel hmn hf K
    obtain ⟨fuel, rfl⟩ : ∃ n', fuel = n' + 1 := ⟨fuel - 1, by omega⟩
    have hc : ¬ (16 : Int32) * zI e + zI ((m - 1 : Nat) : Int) ≤ zI (16 * e + i) := by rw [zl_16, zI_mul, zI_add, zI_le (by omega)]; omega
    have hi1 : zI (16 * (e : Int) + i) + 1 = zI (16 * e + ((i + 1 : Nat) : Int)) := by rw [zl_1, zI_add]; congr 1
    have v1 : vp_in (zI (16 * (e : Int) + ((i + 1 : Nat) : Int))) 32 := zI_in (by omega)
    have v2 : (zI (16 * (e : Int) + ((i + 1 : Nat) : Int))).toNatClampNeg = (16 * (e : Int) + ((i + 1 : Nat) : Int)).toNat := zI_cl (by omega)
    have v3 : vp_in (zI (16 * (e : Int) + i)) 32 := zI_in (by omega)
    have v4 : (zI (16 * (e : Int) + i)).toNatClampNeg = (16 * (e : Int) + i).toNat := zI_cl (by omega)
    have v5 : vp_nar .byte (rw' (16 * (e : Int) + ((i + 1 : Nat) : Int)).toNat) = rg 16 e a_row ((i + 1 : Nat) : Int) := by
      rw [← hv (i + 1) (by omega), ← h3 (i + 1) (by omega) (by omega)]
      unfold rg
      rw [Int.emod_eq_of_lt (by omega) (by omega)]
    rw [wX_pull_31]
    refine ⟨e_in he, ?_⟩
    rw [e_cl he, hmn, hi1]
    refine br_f hc ⟨v1, v3, ?_⟩
    rw [v2, v4, v5]
    exact nm_e (nm_e (c3 post fuel hmn (by omega) K))
theorem x_pull {m k : Nat} {sg : Nat → Nat} (he : e < 2) (hR : ER e m sg (a_many e) (rg 16 e a_row)) (hs : ∀ i, i < m → sg i < 16) (hm : m ≤ 16) (hk : k < m) :
    ∃ c, rg 16 (1 - e) c = rg 16 (1 - e) a_row ∧ Dl k m (rg 16 e a_row) (rg 16 e c) ∧ ∀ post : Int32 → SX → Prop, post (zI (16 * e + sg k)) (f_now, f_sent, a_state, a_error, a_tries, a_iss, a_una, a_nxt, a_max, a_last, a_closing, a_kept, a_rcv, a_first, a_held, a_fin, a_unread, a_came, a_ended, a_wnd, a_peak, a_half, a_same, a_setBy, a_setAt, a_isSet, a_rto, a_smooth, a_spread, a_timed, a_since, a_retry, a_waits, a_rest, a_segSeq, a_segAck, a_segFlags, a_segWindow, a_segLength, a_segBytes, c, upd a_many e (zI ((m - 1 : Nat) : Int)), a_taken) → wpX_pull post (f_now, f_sent, a_state, a_error, a_tries, a_iss, a_una, a_nxt, a_max, a_last, a_closing, a_kept, a_rcv, a_first, a_held, a_fin, a_unread, a_came, a_ended, a_wnd, a_peak, a_half, a_same, a_setBy, a_setAt, a_isSet, a_rto, a_smooth, a_spread, a_timed, a_since, a_retry, a_waits, a_rest, a_segSeq, a_segAck, a_segFlags, a_segWindow, a_segLength, a_segBytes, a_row, a_many, a_taken) (zI e) (zI k) := by
  obtain ⟨c, c1, c2, c3⟩ := x_pull_l (a_row := a_row) (s := zI (16 * e + sg k)) he hm hk (fun i hi => by rw [hR.2 i hi]; exact zI_n8 (by have := hs i hi; omega)) (m - 1 - k) k a_row (by omega) (by omega) rfl (fun z hz => by rw [if_pos hz]) (fun z _ _ => rfl)
  refine ⟨c, c1, c2, fun post K => ?_⟩
  have v1 : (16 : Int32) * zI e + zI k = zI (16 * e + k) := by rw [zl_16, zI_mul, zI_add]
  have v2 : vp_in (zI (16 * (e : Int) + k)) 32 := zI_in (by omega)
  have v3 : (zI (16 * (e : Int) + k)).toNatClampNeg = (16 * (e : Int) + k).toNat := zI_cl (by omega)
  have v4 : a_row (16 * (e : Int) + k).toNat = zI (16 * e + sg k) := by
    rw [← hR.2 k hk]; unfold rg
    rw [Int.emod_eq_of_lt (by omega) (by omega)]
  have v5 : vp_nar .byte ((zI m - 1).toInt8.toInt32) = zI ((m - 1 : Nat) : Int) := by
    rw [zl_1, zI_sub, zI_8 (by omega), zI_n8 (by omega)]; congr 1; omega
  unfold wpX_pull
  rw [v1]
  refine ⟨v2, ?_⟩
  rw [v3, v4]
  refine nm_e ⟨e_in he, e_in he, ?_⟩
  rw [e_cl he, hR.1, v5]
  exact nm_e (nm_e ⟨_, c3 post (m - 1 - k + 1) pk_us (by omega) K⟩)
theorem x_free {post : SX → Prop} {s : Nat} (he : e < 2) (hs : s < 16) (K : post (f_now, f_sent, a_state, a_error, a_tries, a_iss, a_una, a_nxt, a_max, a_last, a_closing, a_kept, a_rcv, a_first, a_held, a_fin, a_unread, a_came, a_ended, a_wnd, a_peak, a_half, a_same, a_setBy, a_setAt, a_isSet, a_rto, a_smooth, a_spread, a_timed, a_since, a_retry, a_waits, a_rest, a_segSeq, a_segAck, a_segFlags, a_segWindow, a_segLength, a_segBytes, a_row, a_many, upd a_taken e (a_taken e &&& ((zI 1 <<< (zI s &&& zI 31)) ^^^ zI (-1))))) : wpX_free post (f_now, f_sent, a_state, a_error, a_tries, a_iss, a_una, a_nxt, a_max, a_last, a_closing, a_kept, a_rcv, a_first, a_held, a_fin, a_unread, a_came, a_ended, a_wnd, a_peak, a_half, a_same, a_setBy, a_setAt, a_isSet, a_rto, a_smooth, a_spread, a_timed, a_since, a_retry, a_waits, a_rest, a_segSeq, a_segAck, a_segFlags, a_segWindow, a_segLength, a_segBytes, a_row, a_many, a_taken) (zI (16 * e + s)) := by
  have v1 : zI (16 * (e : Int) + s) / 16 = zI e := by rw [zl_16, zI_div (by omega)]; congr 1; omega
  have v2 : zI (16 * (e : Int) + s) - zI e * 16 = zI s := by rw [zl_16, zI_mul, zI_sub]; congr 1; omega
  unfold wpX_free
  rw [v1, v2]
  refine ⟨by decide, e_in he, by decide, e_in he, ?_⟩
  rw [e_cl he]
  exact nm_e K
end
end
section
/-! Y: copy and take -/
def Iv (e k i : Nat) (a a' : Nat → Int32) : Prop := rg 16 (1 - e) a' = rg 16 (1 - e) a ∧ (∀ z : Nat, z < i → rg 16 e a' z = rg 16 e a ((if z < k then z else z + 1 : Nat) : Int)) ∧ (∀ z : Nat, i ≤ z → z < 16 → rg 16 e a' z = rg 16 e a z)
def Id_ (e k i : Nat) (a a' : Nat → Int32) : Prop := rg 128 (1 - e) a' = rg 128 (1 - e) a ∧ (∀ z : Nat, z < i → ∀ y : Int, 0 ≤ y → y < 8 → rg 128 e a' (8 * z + y) = rg 128 e a (8 * ((if z < k then z else z + 1 : Nat) : Int) + y)) ∧ (∀ z : Nat, i ≤ z → z < 16 → ∀ y : Int, 0 ≤ y → y < 8 → rg 128 e a' (8 * z + y) = rg 128 e a (8 * z + y))
section
variable {e : Nat} {L now : Int} {st er tr iss una nxt mx la cl irs rcv fi un fst wnd pk hf rto sa smo tm si rt wt rs nr nw ns : Int} {f_now f_sent : Int32} {a_state a_error a_tries a_iss a_una a_nxt a_max a_last a_closing a_kept a_rcv a_first a_held a_fin a_unread a_came a_ended a_wnd a_peak a_half a_same a_setBy a_setAt a_isSet a_rto a_smooth a_spread a_timed a_since a_retry a_waits a_rest a_segSeq a_segAck a_segFlags a_segWindow a_segLength a_segBytes a_row a_many a_taken : Nat → Int32} {g_now g_sent : Int32} {b_seq b_flags b_acked b_window b_many b_data b_rows b_state b_error b_iss : Nat → Int32} {b_una b_nxt b_max b_last : Nat → Int64} {b_closed b_written b_irs b_unread b_bytes b_held : Nat → Int32} {b_rcv b_finAt : Nat → Int64} {b_marked b_wnd b_peak b_half b_rto b_same b_tries b_smooth b_spread b_byNumber b_byAck b_sampled b_told b_retry b_ackAt b_waitAt b_timedAt : Nat → Int32} {b_timed : Nat → Int64} {u0 : SX} {v0 : SY}
theorem Iv_0 {k : Nat} {a : Nat → Int32} : Iv e k k a a := ⟨rfl, fun z hz => by rw [if_pos hz], fun z _ _ => rfl⟩
theorem Id_0 {k : Nat} {a : Nat → Int32} : Id_ e k k a a := ⟨rfl, fun z hz y _ _ => by rw [if_pos hz], fun z _ _ y _ _ => rfl⟩
theorem Iv_s {k i : Nat} {a a' : Nat → Int32} (he : e < 2) (hk : k ≤ i) (hi : i + 1 < 16) (h : Iv e k i a a') : Iv e k (i + 1) a (upd a' ((16 * (e : Int) + i).toNat) (a' ((16 * (e : Int) + ((i + 1 : Nat) : Int)).toNat))) := by
  obtain ⟨h1, h2, h3⟩ := h
  refine ⟨by rw [rg_out (by decide) (by omega) he (by omega) (by omega)]; exact h1, fun z hz => ?_, fun z hz hz' => ?_⟩
  · rw [rg_in (by decide) (by omega)]
    by_cases q : z = i
    · subst q
      rw [if_pos (by omega), if_neg (by omega), ← h3 (z + 1) (by omega) (by omega)]
      unfold rg
      rw [Int.emod_eq_of_lt (by omega) (by omega)]
    · rw [if_neg (by omega)]; exact h2 z (by omega)
  · rw [rg_in (by decide) (by omega), if_neg (by omega)]; exact h3 z (by omega) hz'
theorem Id_s {k i : Nat} {a a' a'' : Nat → Int32} (hk : k ≤ i) (hi : i + 1 < 16) (h : Id_ e k i a a') (hc : ch 128 e (8 * i) 8 a' a'') (hy : ∀ y : Int, 0 ≤ y → y < 8 → rg 128 e a'' (8 * i + y) = rg 128 e a' (8 * ((i + 1 : Nat) : Int) + y)) : Id_ e k (i + 1) a a'' := by
  obtain ⟨h1, h2, h3⟩ := h
  refine ⟨hc.1.trans h1, fun z hz y y0 y1 => ?_, fun z hz hz' y y0 y1 => ?_⟩
  · by_cases q : z = i
    · subst q
      rw [hy y y0 y1, if_neg (by omega)]
      exact h3 (z + 1) (by omega) (by omega) y y0 y1
    · rw [hc.2 _ (by omega) (by omega) (by omega)]
      exact h2 z (by omega) y y0 y1
  · rw [hc.2 _ (by omega) (by omega) (by omega)]
    exact h3 z (by omega) hz' y y0 y1
theorem y_copy_l {a b : Nat} (he : e < 2) (ha : a < 16) (hb : b < 16) (hab : a ≠ b) : ∀ (d i : Nat) (dt : Nat → Int32), i + d = 8 → ch 128 e (8 * b) 8 b_data dt → (∀ y : Int, 0 ≤ y → y < i → rg 128 e dt (8 * b + y) = rg 128 e b_data (8 * a + y)) →
    ∃ dt', ch 128 e (8 * b) 8 b_data dt' ∧ (∀ y : Int, 0 ≤ y → y < 8 → rg 128 e dt' (8 * b + y) = rg 128 e b_data (8 * a + y)) ∧ ∀ {g_now g_sent : Int32} {b_seq b_flags b_acked b_window b_many b_rows b_state b_error b_iss : Nat → Int32} {b_una b_nxt b_max b_last : Nat → Int64} {b_closed b_written b_irs b_unread b_bytes b_held : Nat → Int32} {b_rcv b_finAt : Nat → Int64} {b_marked b_wnd b_peak b_half b_rto b_same b_tries b_smooth b_spread b_byNumber b_byAck b_sampled b_told b_retry b_ackAt b_waitAt b_timedAt : Nat → Int32} {b_timed : Nat → Int64} (post : SY → Prop) (fuel : Nat), d < fuel → post (g_now, g_sent, b_seq, b_flags, b_acked, b_window, b_many, dt', b_rows, b_state, b_error, b_iss, b_una, b_nxt, b_max, b_last, b_closed, b_written, b_irs, b_unread, b_bytes, b_held, b_rcv, b_finAt, b_marked, b_wnd, b_peak, b_half, b_rto, b_same, b_tries, b_smooth, b_spread, b_byNumber, b_byAck, b_sampled, b_told, b_retry, b_ackAt, b_waitAt, b_timedAt, b_timed) → wY_copy_62 post (zI (16 * e + a)) (zI (16 * e + b)) g_now g_sent fuel (zI i) b_seq b_flags b_acked b_window b_many dt b_rows b_state b_error b_iss b_una b_nxt b_max b_last b_closed b_written b_irs b_unread b_bytes b_held b_rcv b_finAt b_marked b_wnd b_peak b_half b_rto b_same b_tries b_smooth b_spread b_byNumber b_byAck b_sampled b_told b_retry b_ackAt b_waitAt b_timedAt b_timed := by
  intro d
  induction d with
  | zero =>
    intro i dt hi h1 h2
    refine ⟨dt, h1, fun y y0 y1 => h2 y y0 (by omega), ?_⟩
    intro g_now g_sent b_seq b_flags b_acked b_window b_many b_rows b_state b_error b_iss b_una b_nxt b_max b_last b_closed b_written b_irs b_unread b_bytes b_held b_rcv b_finAt b_marked b_wnd b_peak b_half b_rto b_same b_tries b_smooth b_spread b_byNumber b_byAck b_sampled b_told b_retry b_ackAt b_waitAt b_timedAt b_timed post fuel hf K
    obtain ⟨fuel, rfl⟩ : ∃ n', fuel = n' + 1 := ⟨fuel - 1, by omega⟩
    have hc : (8 : Int32) ≤ zI i := by rw [zl_8, zI_le (by omega)]; omega
    rw [wY_copy_62]
    exact br_t hc K
  | succ d ih =>
    intro i dt hi h1 h2
    have hidx : (8 * (16 * (e : Int) + b) + i).toNat = (128 * (e : Int) + (8 * b + i)).toNat := by omega
    have hval : dt (8 * (16 * (e : Int) + a) + i).toNat = rg 128 e b_data (8 * a + i) := by
      rw [← h1.2 (8 * a + i) (by omega) (by omega) (by omega)]
      unfold rg
      rw [Int.emod_eq_of_lt (by omega) (by omega)]
      congr 1; omega
    obtain ⟨dt', c1, c2, c3⟩ := ih (i + 1) (upd dt ((128 * (e : Int) + (8 * b + i)).toNat) (rg 128 e b_data (8 * a + i))) (by omega) (ch_u (by decide) he (by omega) h1) (fun y y0 y1 => by
      rw [rg_in (by decide) (by omega)]
      by_cases z : y = i
      · subst z; rw [if_pos (by omega)]
      · rw [if_neg (by omega)]; exact h2 y y0 (by omega))
    refine ⟨dt', c1, c2, ?_⟩
    intro g_now g_sent b_seq b_flags b_acked b_window b_many b_rows b_state b_error b_iss b_una b_nxt b_max b_last b_closed b_written b_irs b_unread b_bytes b_held b_rcv b_finAt b_marked b_wnd b_peak b_half b_rto b_same b_tries b_smooth b_spread b_byNumber b_byAck b_sampled b_told b_retry b_ackAt b_waitAt b_timedAt b_timed post fuel hf K
    obtain ⟨fuel, rfl⟩ : ∃ n', fuel = n' + 1 := ⟨fuel - 1, by omega⟩
    have hc : ¬ (8 : Int32) ≤ zI i := by rw [zl_8, zI_le (by omega)]; omega
    have a1 : (8 : Int32) * zI (16 * e + a) + zI i = zI (8 * (16 * e + a) + i) := by rw [zl_8, zI_mul, zI_add]
    have a2 : (8 : Int32) * zI (16 * e + b) + zI i = zI (8 * (16 * e + b) + i) := by rw [zl_8, zI_mul, zI_add]
    have a3 : vp_in (zI (8 * (16 * (e : Int) + a) + i)) 256 := zI_in (by omega)
    have a4 : vp_in (zI (8 * (16 * (e : Int) + b) + i)) 256 := zI_in (by omega)
    have a5 : (zI (8 * (16 * (e : Int) + a) + i)).toNatClampNeg = (8 * (16 * (e : Int) + a) + i).toNat := zI_cl (by omega)
    have a6 : (zI (8 * (16 * (e : Int) + b) + i)).toNatClampNeg = (8 * (16 * (e : Int) + b) + i).toNat := zI_cl (by omega)
    rw [wY_copy_62]
    refine br_f hc ?_
    rw [a1, a2]
    refine ⟨a3, a4, ?_⟩
    rw [a5, a6, hval, hidx]
    exact nm_e (nm_r (e' := zI ((i + 1 : Nat) : Int)) (zI_add i 1) (c3 post fuel (by omega) K))
theorem y_copy {a b : Nat} (he : e < 2) (ha : a < 16) (hb : b < 16) (hab : a ≠ b) :
    ∃ dt, ch 128 e (8 * b) 8 b_data dt ∧ (∀ y : Int, 0 ≤ y → y < 8 → rg 128 e dt (8 * b + y) = rg 128 e b_data (8 * a + y)) ∧ ∀ {g_now g_sent : Int32} {b_seq b_flags b_acked b_window b_many b_rows b_state b_error b_iss : Nat → Int32} {b_una b_nxt b_max b_last : Nat → Int64} {b_closed b_written b_irs b_unread b_bytes b_held : Nat → Int32} {b_rcv b_finAt : Nat → Int64} {b_marked b_wnd b_peak b_half b_rto b_same b_tries b_smooth b_spread b_byNumber b_byAck b_sampled b_told b_retry b_ackAt b_waitAt b_timedAt : Nat → Int32} {b_timed : Nat → Int64} (post : SY → Prop), post (g_now, g_sent, upd b_seq ((16 * (e : Int) + b).toNat) (b_seq (16 * (e : Int) + a).toNat), upd b_flags ((16 * (e : Int) + b).toNat) (b_flags (16 * (e : Int) + a).toNat), upd b_acked ((16 * (e : Int) + b).toNat) (b_acked (16 * (e : Int) + a).toNat), upd b_window ((16 * (e : Int) + b).toNat) (b_window (16 * (e : Int) + a).toNat), upd b_many ((16 * (e : Int) + b).toNat) (b_many (16 * (e : Int) + a).toNat), dt, b_rows, b_state, b_error, b_iss, b_una, b_nxt, b_max, b_last, b_closed, b_written, b_irs, b_unread, b_bytes, b_held, b_rcv, b_finAt, b_marked, b_wnd, b_peak, b_half, b_rto, b_same, b_tries, b_smooth, b_spread, b_byNumber, b_byAck, b_sampled, b_told, b_retry, b_ackAt, b_waitAt, b_timedAt, b_timed) →
      wpY_copy post (g_now, g_sent, b_seq, b_flags, b_acked, b_window, b_many, b_data, b_rows, b_state, b_error, b_iss, b_una, b_nxt, b_max, b_last, b_closed, b_written, b_irs, b_unread, b_bytes, b_held, b_rcv, b_finAt, b_marked, b_wnd, b_peak, b_half, b_rto, b_same, b_tries, b_smooth, b_spread, b_byNumber, b_byAck, b_sampled, b_told, b_retry, b_ackAt, b_waitAt, b_timedAt, b_timed) (zI (16 * e + a)) (zI (16 * e + b)) := by
  obtain ⟨dt, c1, c2, c3⟩ := y_copy_l (b_data := b_data) he ha hb hab 8 0 b_data (by omega) ch_0 (fun y y0 y1 => absurd y1 (by omega))
  refine ⟨dt, c1, c2, ?_⟩
  intro g_now g_sent b_seq b_flags b_acked b_window b_many b_rows b_state b_error b_iss b_una b_nxt b_max b_last b_closed b_written b_irs b_unread b_bytes b_held b_rcv b_finAt b_marked b_wnd b_peak b_half b_rto b_same b_tries b_smooth b_spread b_byNumber b_byAck b_sampled b_told b_retry b_ackAt b_waitAt b_timedAt b_timed post K
  have a3 : vp_in (zI (16 * (e : Int) + a)) 32 := zI_in (by omega)
  have a4 : vp_in (zI (16 * (e : Int) + b)) 32 := zI_in (by omega)
  have a5 : (zI (16 * (e : Int) + a)).toNatClampNeg = (16 * (e : Int) + a).toNat := zI_cl (by omega)
  have a6 : (zI (16 * (e : Int) + b)).toNatClampNeg = (16 * (e : Int) + b).toNat := zI_cl (by omega)
  unfold wpY_copy
  refine ⟨a3, a4, ?_⟩
  rw [a5, a6]
  exact nm_e ⟨a3, a4, nm_e ⟨a3, a4, nm_e ⟨a3, a4, nm_e ⟨a3, a4, nm_e ⟨9, c3 post 9 (by omega) K⟩⟩⟩⟩⟩
theorem y_take_l {m k : Nat} (he : e < 2) (hm : m ≤ 16) (hk : k < m) : ∀ (d i : Nat) (cq cf ca cw cn cd : Nat → Int32), i + d = m - 1 → k ≤ i → Iv e k i b_seq cq → Iv e k i b_flags cf → Iv e k i b_acked ca → Iv e k i b_window cw → Iv e k i b_many cn → Id_ e k i b_data cd →
    ∃ zq zf za zw zn zd, Iv e k (m - 1) b_seq zq ∧ Iv e k (m - 1) b_flags zf ∧ Iv e k (m - 1) b_acked za ∧ Iv e k (m - 1) b_window zw ∧ Iv e k (m - 1) b_many zn ∧ Id_ e k (m - 1) b_data zd ∧
      ∀ {g_now g_sent : Int32} {b_rows b_state b_error b_iss : Nat → Int32} {b_una b_nxt b_max b_last : Nat → Int64} {b_closed b_written b_irs b_unread b_bytes b_held : Nat → Int32} {b_rcv b_finAt : Nat → Int64} {b_marked b_wnd b_peak b_half b_rto b_same b_tries b_smooth b_spread b_byNumber b_byAck b_sampled b_told b_retry b_ackAt b_waitAt b_timedAt : Nat → Int32} {b_timed : Nat → Int64} (post : SY → Prop) (fuel : Nat), b_rows e = zI ((m - 1 : Nat) : Int) → d < fuel → post (g_now, g_sent, zq, zf, za, zw, zn, zd, b_rows, b_state, b_error, b_iss, b_una, b_nxt, b_max, b_last, b_closed, b_written, b_irs, b_unread, b_bytes, b_held, b_rcv, b_finAt, b_marked, b_wnd, b_peak, b_half, b_rto, b_same, b_tries, b_smooth, b_spread, b_byNumber, b_byAck, b_sampled, b_told, b_retry, b_ackAt, b_waitAt, b_timedAt, b_timed) → wY_take_17 post (zI e) fuel (zI (16 * e + i)) g_now g_sent cq cf ca cw cn cd b_rows b_state b_error b_iss b_una b_nxt b_max b_last b_closed b_written b_irs b_unread b_bytes b_held b_rcv b_finAt b_marked b_wnd b_peak b_half b_rto b_same b_tries b_smooth b_spread b_byNumber b_byAck b_sampled b_told b_retry b_ackAt b_waitAt b_timedAt b_timed := by
  intro d
  induction d with
  | zero =>
    intro i cq cf ca cw cn cd hi hki h1 h2 h3 h4 h5 h6
    have him : i = m - 1 := by omega
    subst him
    refine ⟨cq, cf, ca, cw, cn, cd, h1, h2, h3, h4, h5, h6, ?_⟩
    intro g_now g_sent b_rows b_state b_error b_iss b_una b_nxt b_max b_last b_closed b_written b_irs b_unread b_bytes b_held b_rcv b_finAt b_marked b_wnd b_peak b_half b_rto b_same b_tries b_smooth b_spread b_byNumber b_byAck b_sampled b_told b_retry b_ackAt b_waitAt b_timedAt b_timed post fuel hr hf K
    obtain ⟨fuel, rfl⟩ : ∃ n', fuel = n' + 1 := ⟨fuel - 1, by omega⟩
    have hc : (16 : Int32) * zI e + zI ((m - 1 : Nat) : Int) ≤ zI (16 * e + ((m - 1 : Nat) : Int)) := by rw [zl_16, zI_mul, zI_add, zI_le (by omega)]; omega
    rw [wY_take_17]
    refine ⟨e_in he, ?_⟩
    rw [e_cl he, hr]
    exact br_t hc K
  | succ d ih =>
    intro i cq cf ca cw cn cd hi hki h1 h2 h3 h4 h5 h6
    obtain ⟨dt, d1, d2, d3⟩ := y_copy (b_data := cd) (a := i + 1) (b := i) he (by omega) (by omega) (by omega)
    obtain ⟨zq, zf, za, zw, zn, zd, g1, g2, g3, g4, g5, g6, g7⟩ := ih (i + 1) _ _ _ _ _ dt (by omega) (by omega) (Iv_s he hki (by omega) h1) (Iv_s he hki (by omega) h2) (Iv_s he hki (by omega) h3) (Iv_s he hki (by omega) h4) (Iv_s he hki (by omega) h5) (Id_s hki (by omega) h6 d1 d2)
    refine ⟨zq, zf, za, zw, zn, zd, g1, g2, g3, g4, g5, g6, ?_⟩
    intro g_now g_sent b_rows b_state b_error b_iss b_una b_nxt b_max b_last b_closed b_written b_irs b_unread b_bytes b_held b_rcv b_finAt b_marked b_wnd b_peak b_half b_rto b_same b_tries b_smooth b_spread b_byNumber b_byAck b_sampled b_told b_retry b_ackAt b_waitAt b_timedAt b_timed post fuel hr hf K
    obtain ⟨fuel, rfl⟩ : ∃ n', fuel = n' + 1 := ⟨fuel - 1, by omega⟩
    have hc : ¬ (16 : Int32) * zI e + zI ((m - 1 : Nat) : Int) ≤ zI (16 * e + i) := by rw [zl_16, zI_mul, zI_add, zI_le (by omega)]; omega
    have hi1 : zI (16 * (e : Int) + i) + 1 = zI (16 * e + ((i + 1 : Nat) : Int)) := by rw [zl_1, zI_add]; congr 1
    rw [wY_take_17]
    refine ⟨e_in he, ?_⟩
    rw [e_cl he, hr, hi1]
    refine br_f hc ?_
    refine d3 _ ?_
    exact nm_e (g7 post fuel hr (by omega) K)
theorem Iv_D {m k : Nat} {a a' : Nat → Int32} (h : Iv e k (m - 1) a a') : Dl k m (rg 16 e a) (rg 16 e a') := fun i hi => h.2.1 i hi
theorem Id_D {m k : Nat} {a a' : Nat → Int32} (h : Id_ e k (m - 1) a a') : Dd k m (rg 128 e a) (rg 128 e a') := fun i hi y y0 y1 => h.2.1 i hi y y0 y1
theorem y_take {m k : Nat} (he : e < 2) (hm : m ≤ 16) (hk : k < m) (hr : b_rows e = zI m) :
    ∃ zq zf za zw zn zd, Iv e k (m - 1) b_seq zq ∧ Iv e k (m - 1) b_flags zf ∧ Iv e k (m - 1) b_acked za ∧ Iv e k (m - 1) b_window zw ∧ Iv e k (m - 1) b_many zn ∧ Id_ e k (m - 1) b_data zd ∧
      ∀ post : SY → Prop, post (g_now, g_sent, zq, zf, za, zw, zn, zd, upd b_rows e (zI ((m - 1 : Nat) : Int)), b_state, b_error, b_iss, b_una, b_nxt, b_max, b_last, b_closed, b_written, b_irs, b_unread, b_bytes, b_held, b_rcv, b_finAt, b_marked, b_wnd, b_peak, b_half, b_rto, b_same, b_tries, b_smooth, b_spread, b_byNumber, b_byAck, b_sampled, b_told, b_retry, b_ackAt, b_waitAt, b_timedAt, b_timed) → wpY_take post (g_now, g_sent, b_seq, b_flags, b_acked, b_window, b_many, b_data, b_rows, b_state, b_error, b_iss, b_una, b_nxt, b_max, b_last, b_closed, b_written, b_irs, b_unread, b_bytes, b_held, b_rcv, b_finAt, b_marked, b_wnd, b_peak, b_half, b_rto, b_same, b_tries, b_smooth, b_spread, b_byNumber, b_byAck, b_sampled, b_told, b_retry, b_ackAt, b_waitAt, b_timedAt, b_timed) (zI e) (zI k) := by
  obtain ⟨zq, zf, za, zw, zn, zd, g1, g2, g3, g4, g5, g6, g7⟩ := y_take_l (b_seq := b_seq) (b_flags := b_flags) (b_acked := b_acked) (b_window := b_window) (b_many := b_many) (b_data := b_data) he hm hk (m - 1 - k) k b_seq b_flags b_acked b_window b_many b_data (by omega) (by omega) Iv_0 Iv_0 Iv_0 Iv_0 Iv_0 Id_0
  refine ⟨zq, zf, za, zw, zn, zd, g1, g2, g3, g4, g5, g6, fun post K => ?_⟩
  have v1 : (16 : Int32) * zI e + zI k = zI (16 * e + k) := by rw [zl_16, zI_mul, zI_add]
  have v2 : zI m - 1 = zI ((m - 1 : Nat) : Int) := by rw [zl_1, zI_sub]; congr 1; omega
  unfold wpY_take
  refine ⟨e_in he, e_in he, ?_⟩
  rw [e_cl he, hr, v1, v2]
  exact nm_e (nm_e ⟨_, g7 post (m - 1 - k + 1) pk_us (by omega) K⟩)
end
end
section
/-! the relation at the head of a turn; questions; tick -/
/-- both ends are related, the clock and the positions are bounded by the turn -/
def i_Rel (k : Nat) (u : SX) (v : SY) : Prop := k ≤ 4096 → ∃ now : Int, (0 ≤ now ∧ now ≤ 125 * (k : Int)) ∧ ∀ e, e < 2 → ON e (1000 + 100 * (k : Int)) now (now + 1) (now + 1) (now + 1) u v
section
variable {e : Nat} {L now : Int} {st er tr iss una nxt mx la cl irs rcv fi un fst wnd pk hf rto sa smo tm si rt wt rs nr nw ns : Int} {f_now f_sent : Int32} {a_state a_error a_tries a_iss a_una a_nxt a_max a_last a_closing a_kept a_rcv a_first a_held a_fin a_unread a_came a_ended a_wnd a_peak a_half a_same a_setBy a_setAt a_isSet a_rto a_smooth a_spread a_timed a_since a_retry a_waits a_rest a_segSeq a_segAck a_segFlags a_segWindow a_segLength a_segBytes a_row a_many a_taken : Nat → Int32} {g_now g_sent : Int32} {b_seq b_flags b_acked b_window b_many b_data b_rows b_state b_error b_iss : Nat → Int32} {b_una b_nxt b_max b_last : Nat → Int64} {b_closed b_written b_irs b_unread b_bytes b_held : Nat → Int32} {b_rcv b_finAt : Nat → Int64} {b_marked b_wnd b_peak b_half b_rto b_same b_tries b_smooth b_spread b_byNumber b_byAck b_sampled b_told b_retry b_ackAt b_waitAt b_timedAt : Nat → Int32} {b_timed : Nat → Int64} {u0 : SX} {v0 : SY}
theorem ON_L {L' : Int} {u : SX} {v : SY} (h : ON e L now nr nw ns u v) (h1 : L ≤ L') (h2 : L' ≤ 1099511627776) : ON e L' now nr nw ns u v := by
  refine ON_el h ?_
  intro st er tr iss una nxt mx la cl irs rcv fi un fst wnd pk hf rto sa smo tm si rt wt rs R I2
  obtain ⟨xnow, ynow, xst, xer, xtr, xiss, xuna, xnxt, xmx, xla, xcl, xrcv, xfst, xfi, xun, xen, xwnd, xpk, xhf, xrto, xsm, xsb, xsa, xis, xsmo, xspr, xtm, xsi, xrt, xwt, xrs, yst, yer, ytr, yiss, yuna, ynxt, ymx, yla, ycl, yirs, yrcv, yfi, yun, ywnd, ypk, yhf, yrto, ysa, ysmo, ytm, ysi, yrt, ywt, yrs, I1, I3, I4, I5, K, C, H, W⟩ := RE_el R
  refine ON_i (RE_in ⟨xnow, ynow, xst, xer, xtr, xiss, xuna, xnxt, xmx, xla, xcl, xrcv, xfst, xfi, xun, xen, xwnd, xpk, xhf, xrto, xsm, xsb, xsa, xis, xsmo, xspr, xtm, xsi, xrt, xwt, xrs, yst, yer, ytr, yiss, yuna, ynxt, ymx, yla, ycl, yirs, yrcv, yfi, yun, ywnd, ypk, yhf, yrto, ysa, ysmo, ytm, ysi, yrt, ywt, yrs, I1, ?_, I4, I5, K, C, H, W⟩) ?_
  · obtain ⟨a1, a2, a3, a4, a5, a6, a7⟩ := I3
    exact ⟨a1, by omega, a3, a4, a5, a6, a7⟩
  · obtain ⟨a1, a2, a3, a4, a5, a6, a7, a8, a9⟩ := I2
    exact ⟨a1, by omega, a3, a4, a5, a6, a7, a8, a9⟩
theorem i_up {k : Nat} {u : SX} {v : SY} (h : i_Rel k u v) : i_Rel (k + 8) u v := by
  intro hk
  obtain ⟨now, hn, hr⟩ := h (by omega)
  exact ⟨now, by omega, fun e he => ON_L (hr e he) (by omega) (by omega)⟩
theorem top1 {WX : (Int32 → SX → Prop) → Prop} {WY : (Int32 → SY → Prop) → Prop} {k : Nat} {now : Int} (hn : 0 ≤ now ∧ now ≤ 125 * ((k + 8 : Nat) : Int)) (h : LK ap1 aq1 WX WY (QT (1000 + 100 * ((k + 8 : Nat) : Int)) now)) : WX (fun r u => WY (fun r' v => r' = r ∧ i_Rel (k + 8) u v)) :=
  LK_top1 (R := i_Rel (k + 8)) (LK_m (fun _ _ q => ⟨q.1, fun _ => ⟨now, hn, q.2⟩⟩) h)
theorem QT_i {r r' : Int32} {u : SX} {v : SY} (he : e < 2) (hr : r' = r) (h : OKs e L now (now + 1) (now + 1) (now + 1) u0 v0 u v) (ho : ON (1 - e) L now (now + 1) (now + 1) (now + 1) u0 v0) : QT L now (r, u) (r', v) := by
  refine ⟨hr, fun e' he' => ?_⟩
  by_cases c : e' = e
  · subst c; exact OK_on h
  · have : e' = 1 - e := by omega
    exact this ▸ ON_fr rfl (OK_fr h) ho
theorem end_c (v : Int32) : (∃ e : Nat, e < 2 ∧ v = zI e) ∨ (v ≠ 0 ∧ v ≠ 1) := by
  by_cases h0 : v = 0
  · exact Or.inl ⟨0, by decide, h0⟩
  · by_cases h1 : v = 1
    · exact Or.inl ⟨1, by decide, h1⟩
    · exact Or.inr ⟨h0, h1⟩
theorem x_isEnd_n {post : Int32 → Prop} {v : Int32} (h : v ≠ 0 ∧ v ≠ 1) : wpX_isEnd post v = post 0 := by
  unfold wpX_isEnd
  simp only [h.1, h.2, true_and, and_true, true_implies, false_implies, forall_eq, not_true_eq_false, not_false_eq_true, implies_true, forall_const]
theorem y_end_n {post : Int32 → Prop} {v : Int32} (h : v ≠ 0 ∧ v ≠ 1) : wpY_no post v 0 1 = post 1 := by
  unfold wpY_no
  have h0 : v.toInt ≠ 0 := fun z => h.1 (Int32.toInt_inj.mp z)
  have h1 : v.toInt ≠ 1 := fun z => h.2 (Int32.toInt_inj.mp z)
  by_cases c : v < 0
  · simp only [c, true_and, and_true, true_implies, false_implies, forall_eq, not_true_eq_false, not_false_eq_true, implies_true, forall_const]
  · have c2 : ¬ v ≤ 1 := by
      rw [Int32.le_iff_toInt_le, show (1 : Int32).toInt = 1 from rfl]
      rw [Int32.lt_iff_toInt_lt, show (0 : Int32).toInt = 0 from rfl] at c
      omega
    simp only [c, c2, true_and, and_true, true_implies, false_implies, forall_eq, not_true_eq_false, not_false_eq_true, implies_true, forall_const]
theorem x_out {post : Int32 → Prop} {v lo hi : Int32} : wpX_outside post v lo hi = post (if v < lo ∨ ¬ v ≤ hi then 1 else 0) := by
  unfold wpX_outside
  by_cases c : v < lo
  · simp only [c, true_or, if_true, true_and, and_true, true_implies, false_implies, forall_eq, not_true_eq_false, not_false_eq_true, implies_true, forall_const]
  · by_cases d : v ≤ hi
    · simp only [c, d, not_true_eq_false, or_self, if_false, true_and, and_true, true_implies, false_implies, forall_eq, not_true_eq_false, not_false_eq_true, implies_true, forall_const]
    · simp only [c, d, not_false_eq_true, or_true, if_true, true_and, and_true, true_implies, false_implies, forall_eq, not_true_eq_false, not_false_eq_true, implies_true, forall_const]
theorem y_out {post : Int32 → Prop} {v lo hi : Int32} : wpY_no post v lo hi = post (if v < lo ∨ ¬ v ≤ hi then 1 else 0) := by rw [y_no]; exact x_out
theorem i_vc_state {k : Nat} {u : SX} {v : SY} (I : i_Rel k u v) (hk : k + 8 ≤ 4096) (v1 : Int32) : wpX_state (fun r => wpY_state (fun r' => r' = r ∧ i_Rel (k + 8) u v) v v1) u v1 := by
  have J := i_up I
  obtain ⟨now, hn, hr⟩ := I (by omega)
  obtain ⟨f_now, f_sent, a_state, a_error, a_tries, a_iss, a_una, a_nxt, a_max, a_last, a_closing, a_kept, a_rcv, a_first, a_held, a_fin, a_unread, a_came, a_ended, a_wnd, a_peak, a_half, a_same, a_setBy, a_setAt, a_isSet, a_rto, a_smooth, a_spread, a_timed, a_since, a_retry, a_waits, a_rest, a_segSeq, a_segAck, a_segFlags, a_segWindow, a_segLength, a_segBytes, a_row, a_many, a_taken⟩ := u
  obtain ⟨g_now, g_sent, b_seq, b_flags, b_acked, b_window, b_many, b_data, b_rows, b_state, b_error, b_iss, b_una, b_nxt, b_max, b_last, b_closed, b_written, b_irs, b_unread, b_bytes, b_held, b_rcv, b_finAt, b_marked, b_wnd, b_peak, b_half, b_rto, b_same, b_tries, b_smooth, b_spread, b_byNumber, b_byAck, b_sampled, b_told, b_retry, b_ackAt, b_waitAt, b_timedAt, b_timed⟩ := v
  unfold wpX_state wpY_state
  rcases end_c v1 with ⟨e, he, rfl⟩ | hne
  · simp only [x_isEnd he, y_end he]
    refine br_f (by decide) ⟨e_in he, ?_⟩
    refine br_t (by trivial) ⟨e_in he, ?_, J⟩
    refine ON_el (hr e he) ?_
    intro st er tr iss una nxt mx la cl irs rcv fi un fst wnd pk hf rto sa smo tm si rt wt rs R I2
    obtain ⟨xnow, ynow, xst, xer, xtr, xiss, xuna, xnxt, xmx, xla, xcl, xrcv, xfst, xfi, xun, xen, xwnd, xpk, xhf, xrto, xsm, xsb, xsa, xis, xsmo, xspr, xtm, xsi, xrt, xwt, xrs, yst, yer, ytr, yiss, yuna, ynxt, ymx, yla, ycl, yirs, yrcv, yfi, yun, ywnd, ypk, yhf, yrto, ysa, ysmo, ytm, ysi, yrt, ywt, yrs, I1, I3, I4, I5, K, C, H, W⟩ := RE_el R
    rw [e_cl he]
    exact yst.trans xst.symm
  · simp only [x_isEnd_n hne, y_end_n hne]
    exact br_t (by trivial) (br_f (by decide) ⟨by trivial, J⟩)
theorem i_vc_tick {k : Nat} {u : SX} {v : SY} (I : i_Rel k u v) (hk : k + 8 ≤ 4096) (v1 : Int32) : wpX_tick (fun r u' => wpY_tick (fun r' v' => r' = r ∧ i_Rel (k + 8) u' v') v v1) u v1 := by
  have J := i_up I
  obtain ⟨now, hn, hr⟩ := I (by omega)
  by_cases ho : v1 < 1 ∨ ¬ v1 ≤ 1000
  · unfold wpX_tick wpY_tick
    simp only [x_out, y_out, if_pos ho]
    exact br_f (by decide) (br_f (by decide) ⟨by trivial, J⟩)
  · obtain ⟨n, hv, hn1⟩ : ∃ n : Int, v1 = zI n ∧ 1 ≤ n ∧ n ≤ 1000 := by
      refine ⟨v1.toInt, (zI_self v1).symm, ?_⟩
      rw [Int32.lt_iff_toInt_lt, Int32.le_iff_toInt_le, show (1 : Int32).toInt = 1 from rfl, show (1000 : Int32).toInt = 1000 from rfl] at ho
      omega
    subst hv
    refine top1 (WX := fun p => wpX_tick p u (zI n)) (WY := fun p => wpY_tick p v (zI n)) (k := k) (now := now + n) (by omega) ?_
    obtain ⟨f_now, f_sent, a_state, a_error, a_tries, a_iss, a_una, a_nxt, a_max, a_last, a_closing, a_kept, a_rcv, a_first, a_held, a_fin, a_unread, a_came, a_ended, a_wnd, a_peak, a_half, a_same, a_setBy, a_setAt, a_isSet, a_rto, a_smooth, a_spread, a_timed, a_since, a_retry, a_waits, a_rest, a_segSeq, a_segAck, a_segFlags, a_segWindow, a_segLength, a_segBytes, a_row, a_many, a_taken⟩ := u
    obtain ⟨g_now, g_sent, b_seq, b_flags, b_acked, b_window, b_many, b_data, b_rows, b_state, b_error, b_iss, b_una, b_nxt, b_max, b_last, b_closed, b_written, b_irs, b_unread, b_bytes, b_held, b_rcv, b_finAt, b_marked, b_wnd, b_peak, b_half, b_rto, b_same, b_tries, b_smooth, b_spread, b_byNumber, b_byAck, b_sampled, b_told, b_retry, b_ackAt, b_waitAt, b_timedAt, b_timed⟩ := v
    have h0 := ON_L (L' := 1000 + 100 * ((k + 8 : Nat) : Int)) (hr 0 (by omega)) (by omega) (by omega)
    have h1 := ON_L (L' := 1000 + 100 * ((k + 8 : Nat) : Int)) (hr 1 (by omega)) (by omega) (by omega)
    obtain ⟨e1, e2⟩ := ON_now h0
    subst e1 e2
    have z0 : ON 0 (1000 + 100 * ((k + 8 : Nat) : Int)) now (now + 1) (now + 1) (now + 1) (zI now, 0, a_state, a_error, a_tries, a_iss, a_una, a_nxt, a_max, a_last, a_closing, a_kept, a_rcv, a_first, a_held, a_fin, a_unread, a_came, a_ended, a_wnd, a_peak, a_half, a_same, a_setBy, a_setAt, a_isSet, a_rto, a_smooth, a_spread, a_timed, a_since, a_retry, a_waits, a_rest, a_segSeq, a_segAck, a_segFlags, a_segWindow, a_segLength, a_segBytes, a_row, a_many, a_taken) (zI now, 0, b_seq, b_flags, b_acked, b_window, b_many, b_data, b_rows, b_state, b_error, b_iss, b_una, b_nxt, b_max, b_last, b_closed, b_written, b_irs, b_unread, b_bytes, b_held, b_rcv, b_finAt, b_marked, b_wnd, b_peak, b_half, b_rto, b_same, b_tries, b_smooth, b_spread, b_byNumber, b_byAck, b_sampled, b_told, b_retry, b_ackAt, b_waitAt, b_timedAt, b_timed) := h0
    have z1 : ON 1 (1000 + 100 * ((k + 8 : Nat) : Int)) now (now + 1) (now + 1) (now + 1) (zI now, 0, a_state, a_error, a_tries, a_iss, a_una, a_nxt, a_max, a_last, a_closing, a_kept, a_rcv, a_first, a_held, a_fin, a_unread, a_came, a_ended, a_wnd, a_peak, a_half, a_same, a_setBy, a_setAt, a_isSet, a_rto, a_smooth, a_spread, a_timed, a_since, a_retry, a_waits, a_rest, a_segSeq, a_segAck, a_segFlags, a_segWindow, a_segLength, a_segBytes, a_row, a_many, a_taken) (zI now, 0, b_seq, b_flags, b_acked, b_window, b_many, b_data, b_rows, b_state, b_error, b_iss, b_una, b_nxt, b_max, b_last, b_closed, b_written, b_irs, b_unread, b_bytes, b_held, b_rcv, b_finAt, b_marked, b_wnd, b_peak, b_half, b_rto, b_same, b_tries, b_smooth, b_spread, b_byNumber, b_byAck, b_sampled, b_told, b_retry, b_ackAt, b_waitAt, b_timedAt, b_timed) := h1
    obtain ⟨t, T, ht, ht2, ht3, kN⟩ := x_nextON z0 z1
    unfold wpX_tick wpY_tick
    simp only [x_out, y_out, if_neg ho]
    refine LX_t (by trivial) (LY_t (by trivial) ?_)
    rw [zI_add]
    refine LX_n (LK_x (fun p h => kN _ h) ?_)
    refine LX_e (n.toNat + 1) (LY_e (n.toNat + 1) ?_)
    exact lk_tick_l (by omega) (by omega) n.toNat now t 0 (n.toNat + 1) (n.toNat + 1) (by omega) (by omega) (by omega) (by omega) (by omega) rfl rfl T ht ht3 z0 z1
end
end
section
/-! drop and deliver -/
section
variable {e : Nat} {L now : Int} {st er tr iss una nxt mx la cl irs rcv fi un fst wnd pk hf rto sa smo tm si rt wt rs nr nw ns : Int} {f_now f_sent : Int32} {a_state a_error a_tries a_iss a_una a_nxt a_max a_last a_closing a_kept a_rcv a_first a_held a_fin a_unread a_came a_ended a_wnd a_peak a_half a_same a_setBy a_setAt a_isSet a_rto a_smooth a_spread a_timed a_since a_retry a_waits a_rest a_segSeq a_segAck a_segFlags a_segWindow a_segLength a_segBytes a_row a_many a_taken : Nat → Int32} {g_now g_sent : Int32} {b_seq b_flags b_acked b_window b_many b_data b_rows b_state b_error b_iss : Nat → Int32} {b_una b_nxt b_max b_last : Nat → Int64} {b_closed b_written b_irs b_unread b_bytes b_held : Nat → Int32} {b_rcv b_finAt : Nat → Int64} {b_marked b_wnd b_peak b_half b_rto b_same b_tries b_smooth b_spread b_byNumber b_byAck b_sampled b_told b_retry b_ackAt b_waitAt b_timedAt : Nat → Int32} {b_timed : Nat → Int64} {u0 : SX} {v0 : SY}
theorem x_there {post : Int32 → Prop} {m k : Nat} (he : e < 2) (xm : a_many e = zI m) (hm : m ≤ 16) (hk : k < m) : wpX_isThere post (f_now, f_sent, a_state, a_error, a_tries, a_iss, a_una, a_nxt, a_max, a_last, a_closing, a_kept, a_rcv, a_first, a_held, a_fin, a_unread, a_came, a_ended, a_wnd, a_peak, a_half, a_same, a_setBy, a_setAt, a_isSet, a_rto, a_smooth, a_spread, a_timed, a_since, a_retry, a_waits, a_rest, a_segSeq, a_segAck, a_segFlags, a_segWindow, a_segLength, a_segBytes, a_row, a_many, a_taken) (zI e) (zI k) = post 1 := by
  unfold wpX_isThere
  have h1 : ¬ zI (k : Int) < 0 := by rw [zl_0, zI_lt (by omega)]; omega
  have h2 : ¬ zI (m : Int) ≤ zI k := by rw [zI_le (by omega)]; omega
  simp only [x_isEnd he, e_in he, e_cl he, xm, h1, h2, show ¬ (1 : Int32) = 0 by decide, true_and, and_true, true_implies, false_implies, forall_eq, not_true_eq_false, not_false_eq_true, implies_true, forall_const]
theorem x_there_n {post : Int32 → Prop} {m : Nat} {v : Int32} (he : e < 2) (xm : a_many e = zI m) (h : v < 0 ∨ zI m ≤ v) : wpX_isThere post (f_now, f_sent, a_state, a_error, a_tries, a_iss, a_una, a_nxt, a_max, a_last, a_closing, a_kept, a_rcv, a_first, a_held, a_fin, a_unread, a_came, a_ended, a_wnd, a_peak, a_half, a_same, a_setBy, a_setAt, a_isSet, a_rto, a_smooth, a_spread, a_timed, a_since, a_retry, a_waits, a_rest, a_segSeq, a_segAck, a_segFlags, a_segWindow, a_segLength, a_segBytes, a_row, a_many, a_taken) (zI e) v = post 0 := by
  unfold wpX_isThere
  by_cases c : v < 0
  · simp only [x_isEnd he, c, show ¬ (1 : Int32) = 0 by decide, true_and, and_true, true_implies, false_implies, forall_eq, not_true_eq_false, not_false_eq_true, implies_true, forall_const]
  · have h2 : zI m ≤ v := by rcases h with h | h; exact absurd h c; exact h
    simp only [x_isEnd he, e_in he, e_cl he, xm, c, h2, show ¬ (1 : Int32) = 0 by decide, true_and, and_true, true_implies, false_implies, forall_eq, not_true_eq_false, not_false_eq_true, implies_true, forall_const]
theorem x_there_e {post : Int32 → Prop} {v w : Int32} (h : v ≠ 0 ∧ v ≠ 1) : wpX_isThere post (f_now, f_sent, a_state, a_error, a_tries, a_iss, a_una, a_nxt, a_max, a_last, a_closing, a_kept, a_rcv, a_first, a_held, a_fin, a_unread, a_came, a_ended, a_wnd, a_peak, a_half, a_same, a_setBy, a_setAt, a_isSet, a_rto, a_smooth, a_spread, a_timed, a_since, a_retry, a_waits, a_rest, a_segSeq, a_segAck, a_segFlags, a_segWindow, a_segLength, a_segBytes, a_row, a_many, a_taken) v w = post 0 := by
  unfold wpX_isThere
  simp only [x_isEnd_n h, true_and, and_true, true_implies, false_implies, forall_eq, not_true_eq_false, not_false_eq_true, implies_true, forall_const]
theorem y_none_k {post : Int32 → Prop} {m k : Nat} (he : e < 2) (ym : b_rows e = zI m) (hm : m ≤ 16) (hk : k < m) : wpY_none post (g_now, g_sent, b_seq, b_flags, b_acked, b_window, b_many, b_data, b_rows, b_state, b_error, b_iss, b_una, b_nxt, b_max, b_last, b_closed, b_written, b_irs, b_unread, b_bytes, b_held, b_rcv, b_finAt, b_marked, b_wnd, b_peak, b_half, b_rto, b_same, b_tries, b_smooth, b_spread, b_byNumber, b_byAck, b_sampled, b_told, b_retry, b_ackAt, b_waitAt, b_timedAt, b_timed) (zI e) (zI k) = post 0 := by
  unfold wpY_none
  have h1 : ¬ (zI (k : Int) < 0 ∨ ¬ zI (k : Int) ≤ zI m - 1) := by
    rw [zl_0, zl_1, zI_sub, zI_lt (by omega), zI_le (by omega)]; omega
  simp only [y_end he, e_in he, e_cl he, ym, y_out, if_neg h1, true_and, and_true, true_implies, false_implies, forall_eq, not_true_eq_false, not_false_eq_true, implies_true, forall_const]
theorem y_none_n {post : Int32 → Prop} {m : Nat} {v : Int32} (he : e < 2) (ym : b_rows e = zI m) (hm : m ≤ 16) (h : v < 0 ∨ zI m ≤ v) : wpY_none post (g_now, g_sent, b_seq, b_flags, b_acked, b_window, b_many, b_data, b_rows, b_state, b_error, b_iss, b_una, b_nxt, b_max, b_last, b_closed, b_written, b_irs, b_unread, b_bytes, b_held, b_rcv, b_finAt, b_marked, b_wnd, b_peak, b_half, b_rto, b_same, b_tries, b_smooth, b_spread, b_byNumber, b_byAck, b_sampled, b_told, b_retry, b_ackAt, b_waitAt, b_timedAt, b_timed) (zI e) v = post 1 := by
  unfold wpY_none
  have h1 : v < 0 ∨ ¬ v ≤ zI m - 1 := by
    rcases h with h | h
    · exact Or.inl h
    · right
      rw [zl_1, zI_sub, Int32.le_iff_toInt_le, zI_toInt (by omega)]
      rw [Int32.le_iff_toInt_le, zI_toInt (by omega)] at h
      omega
  simp only [y_end he, e_in he, e_cl he, ym, y_out, if_pos h1, show ¬ (1 : Int32) = 0 by decide, true_and, and_true, true_implies, false_implies, forall_eq, not_true_eq_false, not_false_eq_true, implies_true, forall_const]
theorem y_none_e {post : Int32 → Prop} {v w : Int32} (h : v ≠ 0 ∧ v ≠ 1) : wpY_none post (g_now, g_sent, b_seq, b_flags, b_acked, b_window, b_many, b_data, b_rows, b_state, b_error, b_iss, b_una, b_nxt, b_max, b_last, b_closed, b_written, b_irs, b_unread, b_bytes, b_held, b_rcv, b_finAt, b_marked, b_wnd, b_peak, b_half, b_rto, b_same, b_tries, b_smooth, b_spread, b_byNumber, b_byAck, b_sampled, b_told, b_retry, b_ackAt, b_waitAt, b_timedAt, b_timed) v w = post 1 := by
  unfold wpY_none
  simp only [y_end_n h, show ¬ (1 : Int32) = 0 by decide, true_and, and_true, true_implies, false_implies, forall_eq, not_true_eq_false, not_false_eq_true, implies_true, forall_const]
theorem there_c (v : Int32) {m : Nat} (hm : m ≤ 16) : (∃ k : Nat, k < m ∧ v = zI k) ∨ (v < 0 ∨ zI m ≤ v) := by
  by_cases c : v < 0
  · exact Or.inr (Or.inl c)
  · by_cases d : zI m ≤ v
    · exact Or.inr (Or.inr d)
    · left
      rw [Int32.lt_iff_toInt_lt, show (0 : Int32).toInt = 0 from rfl] at c
      rw [Int32.le_iff_toInt_le, zI_toInt (by omega)] at d
      refine ⟨v.toInt.toNat, by omega, ?_⟩
      rw [Int.toNat_of_nonneg (by omega), zI_self]
theorem ON_W (h : ON e L now nr nw ns (f_now, f_sent, a_state, a_error, a_tries, a_iss, a_una, a_nxt, a_max, a_last, a_closing, a_kept, a_rcv, a_first, a_held, a_fin, a_unread, a_came, a_ended, a_wnd, a_peak, a_half, a_same, a_setBy, a_setAt, a_isSet, a_rto, a_smooth, a_spread, a_timed, a_since, a_retry, a_waits, a_rest, a_segSeq, a_segAck, a_segFlags, a_segWindow, a_segLength, a_segBytes, a_row, a_many, a_taken) (g_now, g_sent, b_seq, b_flags, b_acked, b_window, b_many, b_data, b_rows, b_state, b_error, b_iss, b_una, b_nxt, b_max, b_last, b_closed, b_written, b_irs, b_unread, b_bytes, b_held, b_rcv, b_finAt, b_marked, b_wnd, b_peak, b_half, b_rto, b_same, b_tries, b_smooth, b_spread, b_byNumber, b_byAck, b_sampled, b_told, b_retry, b_ackAt, b_waitAt, b_timedAt, b_timed)) : ∃ m sg, b_rows e = zI (m : Nat) ∧ ER e m sg (a_many e) (rg 16 e a_row) ∧ ES m sg (a_taken e) (rg 16 e a_segSeq) (rg 16 e a_segAck) (rg 16 e a_segFlags) (rg 16 e a_segWindow) (rg 16 e a_segLength) (rg 128 e a_segBytes) (rg 16 e b_seq) (rg 16 e b_flags) (rg 16 e b_acked) (rg 16 e b_window) (rg 16 e b_many) (rg 128 e b_data) := by
  refine ON_el h ?_
  intro st er tr iss una nxt mx la cl irs rcv fi un fst wnd pk hf rto sa smo tm si rt wt rs R I2
  obtain ⟨xnow, ynow, xst, xer, xtr, xiss, xuna, xnxt, xmx, xla, xcl, xrcv, xfst, xfi, xun, xen, xwnd, xpk, xhf, xrto, xsm, xsb, xsa, xis, xsmo, xspr, xtm, xsi, xrt, xwt, xrs, yst, yer, ytr, yiss, yuna, ynxt, ymx, yla, ycl, yirs, yrcv, yfi, yun, ywnd, ypk, yhf, yrto, ysa, ysmo, ytm, ysi, yrt, ywt, yrs, I1, I3, I4, I5, K, C, H, W⟩ := RE_el R
  exact W
theorem ON_del {m k : Nat} {sg : Nat → Nat} {c_row c_seq c_flags c_acked c_window c_many c_data : Nat → Int32} (he : e < 2) (h : ON e L now nr nw ns (f_now, f_sent, a_state, a_error, a_tries, a_iss, a_una, a_nxt, a_max, a_last, a_closing, a_kept, a_rcv, a_first, a_held, a_fin, a_unread, a_came, a_ended, a_wnd, a_peak, a_half, a_same, a_setBy, a_setAt, a_isSet, a_rto, a_smooth, a_spread, a_timed, a_since, a_retry, a_waits, a_rest, a_segSeq, a_segAck, a_segFlags, a_segWindow, a_segLength, a_segBytes, a_row, a_many, a_taken) (g_now, g_sent, b_seq, b_flags, b_acked, b_window, b_many, b_data, b_rows, b_state, b_error, b_iss, b_una, b_nxt, b_max, b_last, b_closed, b_written, b_irs, b_unread, b_bytes, b_held, b_rcv, b_finAt, b_marked, b_wnd, b_peak, b_half, b_rto, b_same, b_tries, b_smooth, b_spread, b_byNumber, b_byAck, b_sampled, b_told, b_retry, b_ackAt, b_waitAt, b_timedAt, b_timed)) (hk : k < m) (hR : ER e m sg (a_many e) (rg 16 e a_row)) (hS : ES m sg (a_taken e) (rg 16 e a_segSeq) (rg 16 e a_segAck) (rg 16 e a_segFlags) (rg 16 e a_segWindow) (rg 16 e a_segLength) (rg 128 e a_segBytes) (rg 16 e b_seq) (rg 16 e b_flags) (rg 16 e b_acked) (rg 16 e b_window) (rg 16 e b_many) (rg 128 e b_data))
    (h0 : Dl k m (rg 16 e a_row) (rg 16 e c_row)) (h1 : Dl k m (rg 16 e b_seq) (rg 16 e c_seq)) (h2 : Dl k m (rg 16 e b_flags) (rg 16 e c_flags)) (h3 : Dl k m (rg 16 e b_acked) (rg 16 e c_acked)) (h4 : Dl k m (rg 16 e b_window) (rg 16 e c_window)) (h5 : Dl k m (rg 16 e b_many) (rg 16 e c_many)) (h6 : Dd k m (rg 128 e b_data) (rg 128 e c_data)) :
    ON e L now nr nw ns (f_now, f_sent, a_state, a_error, a_tries, a_iss, a_una, a_nxt, a_max, a_last, a_closing, a_kept, a_rcv, a_first, a_held, a_fin, a_unread, a_came, a_ended, a_wnd, a_peak, a_half, a_same, a_setBy, a_setAt, a_isSet, a_rto, a_smooth, a_spread, a_timed, a_since, a_retry, a_waits, a_rest, a_segSeq, a_segAck, a_segFlags, a_segWindow, a_segLength, a_segBytes, c_row, upd a_many e (zI ((m - 1 : Nat) : Int)), upd a_taken e (a_taken e &&& ((zI 1 <<< (zI (sg k) &&& zI 31)) ^^^ zI (-1)))) (g_now, g_sent, c_seq, c_flags, c_acked, c_window, c_many, c_data, upd b_rows e (zI ((m - 1 : Nat) : Int)), b_state, b_error, b_iss, b_una, b_nxt, b_max, b_last, b_closed, b_written, b_irs, b_unread, b_bytes, b_held, b_rcv, b_finAt, b_marked, b_wnd, b_peak, b_half, b_rto, b_same, b_tries, b_smooth, b_spread, b_byNumber, b_byAck, b_sampled, b_told, b_retry, b_ackAt, b_waitAt, b_timedAt, b_timed) := by
  refine ON_el h ?_
  intro st er tr iss una nxt mx la cl irs rcv fi un fst wnd pk hf rto sa smo tm si rt wt rs R I2
  exact ON_i (RE_del he R hk hR hS h0 h1 h2 h3 h4 h5 h6) I2
theorem ON_v {u u' : SX} {v v' : SY} (h : ON e L now nr nw ns u v) (hx : vX e u' = vX e u) (hy : vY e v' = vY e v) : ON e L now nr nw ns u' v' := by
  refine ON_el h ?_
  intro st er tr iss una nxt mx la cl irs rcv fi un fst wnd pk hf rto sa smo tm si rt wt rs R I2
  have R' : RE e L now st er tr iss una nxt mx la cl irs rcv fi un fst wnd pk hf rto sa smo tm si rt wt rs nr nw ns u' v' := by
    unfold RE at R ⊢
    rw [hx, hy]
    exact R
  exact ON_i R' I2
theorem lk_drop {m k : Nat} {sg : Nat → Nat} (he : e < 2) (h : ON e L now (now + 1) (now + 1) (now + 1) (f_now, f_sent, a_state, a_error, a_tries, a_iss, a_una, a_nxt, a_max, a_last, a_closing, a_kept, a_rcv, a_first, a_held, a_fin, a_unread, a_came, a_ended, a_wnd, a_peak, a_half, a_same, a_setBy, a_setAt, a_isSet, a_rto, a_smooth, a_spread, a_timed, a_since, a_retry, a_waits, a_rest, a_segSeq, a_segAck, a_segFlags, a_segWindow, a_segLength, a_segBytes, a_row, a_many, a_taken) (g_now, g_sent, b_seq, b_flags, b_acked, b_window, b_many, b_data, b_rows, b_state, b_error, b_iss, b_una, b_nxt, b_max, b_last, b_closed, b_written, b_irs, b_unread, b_bytes, b_held, b_rcv, b_finAt, b_marked, b_wnd, b_peak, b_half, b_rto, b_same, b_tries, b_smooth, b_spread, b_byNumber, b_byAck, b_sampled, b_told, b_retry, b_ackAt, b_waitAt, b_timedAt, b_timed)) (ho : ON (1 - e) L now (now + 1) (now + 1) (now + 1) (f_now, f_sent, a_state, a_error, a_tries, a_iss, a_una, a_nxt, a_max, a_last, a_closing, a_kept, a_rcv, a_first, a_held, a_fin, a_unread, a_came, a_ended, a_wnd, a_peak, a_half, a_same, a_setBy, a_setAt, a_isSet, a_rto, a_smooth, a_spread, a_timed, a_since, a_retry, a_waits, a_rest, a_segSeq, a_segAck, a_segFlags, a_segWindow, a_segLength, a_segBytes, a_row, a_many, a_taken) (g_now, g_sent, b_seq, b_flags, b_acked, b_window, b_many, b_data, b_rows, b_state, b_error, b_iss, b_una, b_nxt, b_max, b_last, b_closed, b_written, b_irs, b_unread, b_bytes, b_held, b_rcv, b_finAt, b_marked, b_wnd, b_peak, b_half, b_rto, b_same, b_tries, b_smooth, b_spread, b_byNumber, b_byAck, b_sampled, b_told, b_retry, b_ackAt, b_waitAt, b_timedAt, b_timed)) (hk : k < m) (hr : b_rows e = zI m) (hR : ER e m sg (a_many e) (rg 16 e a_row)) (hS : ES m sg (a_taken e) (rg 16 e a_segSeq) (rg 16 e a_segAck) (rg 16 e a_segFlags) (rg 16 e a_segWindow) (rg 16 e a_segLength) (rg 128 e a_segBytes) (rg 16 e b_seq) (rg 16 e b_flags) (rg 16 e b_acked) (rg 16 e b_window) (rg 16 e b_many) (rg 128 e b_data)) :
    LK ap1 aq1 (fun p => wpX_drop p (f_now, f_sent, a_state, a_error, a_tries, a_iss, a_una, a_nxt, a_max, a_last, a_closing, a_kept, a_rcv, a_first, a_held, a_fin, a_unread, a_came, a_ended, a_wnd, a_peak, a_half, a_same, a_setBy, a_setAt, a_isSet, a_rto, a_smooth, a_spread, a_timed, a_since, a_retry, a_waits, a_rest, a_segSeq, a_segAck, a_segFlags, a_segWindow, a_segLength, a_segBytes, a_row, a_many, a_taken) (zI e) (zI k)) (fun p => wpY_drop p (g_now, g_sent, b_seq, b_flags, b_acked, b_window, b_many, b_data, b_rows, b_state, b_error, b_iss, b_una, b_nxt, b_max, b_last, b_closed, b_written, b_irs, b_unread, b_bytes, b_held, b_rcv, b_finAt, b_marked, b_wnd, b_peak, b_half, b_rto, b_same, b_tries, b_smooth, b_spread, b_byNumber, b_byAck, b_sampled, b_told, b_retry, b_ackAt, b_waitAt, b_timedAt, b_timed) (zI e) (zI k)) (QT L now) := by
  have hne : 1 - e ≠ e := by omega
  have hm := hS.1
  obtain ⟨c, c1, c2, c3⟩ := x_pull he hR hS.2.1 hm hk
  obtain ⟨zq, zf, za, zw, zn, zd, g1, g2, g3, g4, g5, g6, g7⟩ := y_take he hm hk hr
  unfold wpX_drop wpY_drop
  simp only [x_there he hR.1 hm hk, y_none_k he hr hm hk]
  refine LX_f (by decide) (LY_t (by trivial) ?_)
  refine LK_x (fun p h => c3 _ h) (LK_y (fun p h => g7 _ h) ?_)
  refine LK_x (fun p h => x_free he (hS.2.1 k hk) h) ?_
  refine LX_a (e_in he) (LY_a (e_in he) ?_)
  dsimp only
  rw [e_cl he, pk_us, pk_us]
  refine LK_r1 ⟨rfl, fun e' he' => ?_⟩
  by_cases c : e' = e
  · subst c
    exact ON_del he h hk hR hS c2 (Iv_D g1) (Iv_D g2) (Iv_D g3) (Iv_D g4) (Iv_D g5) (Id_D g6)
  · have : e' = 1 - e := by omega
    subst this
    refine ON_v ho ?_ ?_
    · simp only [vX, pk_un hne, c1]
    · simp only [vY, pk_un hne, g1.1, g2.1, g3.1, g4.1, g5.1, g6.1]
end
end
section
/-! deliver -/
section
variable {e : Nat} {L now : Int} {st er tr iss una nxt mx la cl irs rcv fi un fst wnd pk hf rto sa smo tm si rt wt rs nr nw ns : Int} {f_now f_sent : Int32} {a_state a_error a_tries a_iss a_una a_nxt a_max a_last a_closing a_kept a_rcv a_first a_held a_fin a_unread a_came a_ended a_wnd a_peak a_half a_same a_setBy a_setAt a_isSet a_rto a_smooth a_spread a_timed a_since a_retry a_waits a_rest a_segSeq a_segAck a_segFlags a_segWindow a_segLength a_segBytes a_row a_many a_taken : Nat → Int32} {g_now g_sent : Int32} {b_seq b_flags b_acked b_window b_many b_data b_rows b_state b_error b_iss : Nat → Int32} {b_una b_nxt b_max b_last : Nat → Int64} {b_closed b_written b_irs b_unread b_bytes b_held : Nat → Int32} {b_rcv b_finAt : Nat → Int64} {b_marked b_wnd b_peak b_half b_rto b_same b_tries b_smooth b_spread b_byNumber b_byAck b_sampled b_told b_retry b_ackAt b_waitAt b_timedAt : Nat → Int32} {b_timed : Nat → Int64} {u0 : SX} {v0 : SY}
theorem ON_elB {L0 : Int} {P : Prop} {u : SX} {v : SY} (h : ON e L0 now nr nw ns u v) (h1 : L0 + 100 ≤ L) (h2 : L ≤ 1099511627776) (k : ∀ st er tr iss una nxt mx la cl irs rcv fi un fst wnd pk hf rto sa smo tm si rt wt rs : Int, rcv + 25 ≤ L → la + 8 ≤ L → RE e L now st er tr iss una nxt mx la cl irs rcv fi un fst wnd pk hf rto sa smo tm si rt wt rs nr nw ns u v → E2 L st iss una nxt mx la cl tm → P) : P := by
  refine ON_el h ?_
  intro st er tr iss una nxt mx la cl irs rcv fi un fst wnd pk hf rto sa smo tm si rt wt rs R I2
  obtain ⟨xnow, ynow, xst, xer, xtr, xiss, xuna, xnxt, xmx, xla, xcl, xrcv, xfst, xfi, xun, xen, xwnd, xpk, xhf, xrto, xsm, xsb, xsa, xis, xsmo, xspr, xtm, xsi, xrt, xwt, xrs, yst, yer, ytr, yiss, yuna, ynxt, ymx, yla, ycl, yirs, yrcv, yfi, yun, ywnd, ypk, yhf, yrto, ysa, ysmo, ytm, ysi, yrt, ywt, yrs, I1, I3, I4, I5, K, C, H, W⟩ := RE_el R
  refine k st er tr iss una nxt mx la cl irs rcv fi un fst wnd pk hf rto sa smo tm si rt wt rs ?_ ?_ (RE_in ⟨xnow, ynow, xst, xer, xtr, xiss, xuna, xnxt, xmx, xla, xcl, xrcv, xfst, xfi, xun, xen, xwnd, xpk, xhf, xrto, xsm, xsb, xsa, xis, xsmo, xspr, xtm, xsi, xrt, xwt, xrs, yst, yer, ytr, yiss, yuna, ynxt, ymx, yla, ycl, yirs, yrcv, yfi, yun, ywnd, ypk, yhf, yrto, ysa, ysmo, ytm, ysi, yrt, ywt, yrs, I1, ?_, I4, I5, K, C, H, W⟩) ?_
  · have := I3.2.1; omega
  · have := I2.2.1; omega
  · obtain ⟨a1, a2, a3, a4, a5, a6, a7⟩ := I3
    exact ⟨a1, by omega, a3, a4, a5, a6, a7⟩
  · obtain ⟨a1, a2, a3, a4, a5, a6, a7, a8, a9⟩ := I2
    exact ⟨a1, by omega, a3, a4, a5, a6, a7, a8, a9⟩
theorem lk_deliver {L0 : Int} {j m k : Nat} {sg : Nat → Nat} (hj : j < 2) (he : e = 1 - j) (hL : L0 + 100 ≤ L ∧ L ≤ 1099511627776) (h : ON j L now (now + 1) (now + 1) (now + 1) (f_now, f_sent, a_state, a_error, a_tries, a_iss, a_una, a_nxt, a_max, a_last, a_closing, a_kept, a_rcv, a_first, a_held, a_fin, a_unread, a_came, a_ended, a_wnd, a_peak, a_half, a_same, a_setBy, a_setAt, a_isSet, a_rto, a_smooth, a_spread, a_timed, a_since, a_retry, a_waits, a_rest, a_segSeq, a_segAck, a_segFlags, a_segWindow, a_segLength, a_segBytes, a_row, a_many, a_taken) (g_now, g_sent, b_seq, b_flags, b_acked, b_window, b_many, b_data, b_rows, b_state, b_error, b_iss, b_una, b_nxt, b_max, b_last, b_closed, b_written, b_irs, b_unread, b_bytes, b_held, b_rcv, b_finAt, b_marked, b_wnd, b_peak, b_half, b_rto, b_same, b_tries, b_smooth, b_spread, b_byNumber, b_byAck, b_sampled, b_told, b_retry, b_ackAt, b_waitAt, b_timedAt, b_timed)) (ho : ON e L0 now (now + 1) (now + 1) (now + 1) (f_now, f_sent, a_state, a_error, a_tries, a_iss, a_una, a_nxt, a_max, a_last, a_closing, a_kept, a_rcv, a_first, a_held, a_fin, a_unread, a_came, a_ended, a_wnd, a_peak, a_half, a_same, a_setBy, a_setAt, a_isSet, a_rto, a_smooth, a_spread, a_timed, a_since, a_retry, a_waits, a_rest, a_segSeq, a_segAck, a_segFlags, a_segWindow, a_segLength, a_segBytes, a_row, a_many, a_taken) (g_now, g_sent, b_seq, b_flags, b_acked, b_window, b_many, b_data, b_rows, b_state, b_error, b_iss, b_una, b_nxt, b_max, b_last, b_closed, b_written, b_irs, b_unread, b_bytes, b_held, b_rcv, b_finAt, b_marked, b_wnd, b_peak, b_half, b_rto, b_same, b_tries, b_smooth, b_spread, b_byNumber, b_byAck, b_sampled, b_told, b_retry, b_ackAt, b_waitAt, b_timedAt, b_timed)) (hk : k < m) (hr : b_rows j = zI m) (hR : ER j m sg (a_many j) (rg 16 j a_row)) (hS : ES m sg (a_taken j) (rg 16 j a_segSeq) (rg 16 j a_segAck) (rg 16 j a_segFlags) (rg 16 j a_segWindow) (rg 16 j a_segLength) (rg 128 j a_segBytes) (rg 16 j b_seq) (rg 16 j b_flags) (rg 16 j b_acked) (rg 16 j b_window) (rg 16 j b_many) (rg 128 j b_data)) :
    LK ap1 aq1 (fun p => wpX_deliver p (f_now, f_sent, a_state, a_error, a_tries, a_iss, a_una, a_nxt, a_max, a_last, a_closing, a_kept, a_rcv, a_first, a_held, a_fin, a_unread, a_came, a_ended, a_wnd, a_peak, a_half, a_same, a_setBy, a_setAt, a_isSet, a_rto, a_smooth, a_spread, a_timed, a_since, a_retry, a_waits, a_rest, a_segSeq, a_segAck, a_segFlags, a_segWindow, a_segLength, a_segBytes, a_row, a_many, a_taken) (zI j) (zI k)) (fun p => wpY_deliver p (g_now, g_sent, b_seq, b_flags, b_acked, b_window, b_many, b_data, b_rows, b_state, b_error, b_iss, b_una, b_nxt, b_max, b_last, b_closed, b_written, b_irs, b_unread, b_bytes, b_held, b_rcv, b_finAt, b_marked, b_wnd, b_peak, b_half, b_rto, b_same, b_tries, b_smooth, b_spread, b_byNumber, b_byAck, b_sampled, b_told, b_retry, b_ackAt, b_waitAt, b_timedAt, b_timed) (zI j) (zI k)) (QT L now) := by
  have he2 : e < 2 := by omega
  have hej : 1 - e = j := by omega
  have hne : 1 - j ≠ j := by omega
  have hm := hS.1
  obtain ⟨c, c1, c2, c3⟩ := x_pull hj hR hS.2.1 hm hk
  unfold wpX_deliver wpY_deliver
  simp only [x_there hj hR.1 hm hk, y_none_k hj hr hm hk]
  refine LX_f (by decide) (LY_t (by trivial) ?_)
  refine LK_x (fun p h => c3 _ h) ?_
  have v1 : (1 : Int32) - zI j = zI e := by rw [zl_1, zI_sub]; congr 1; omega
  have v2 : (16 : Int32) * zI j + zI k = zI (16 * j + k) := by rw [zl_16, zI_mul, zI_add]
  dsimp only
  rw [v1, v2]
  have hs := hS.2.1 k hk
  obtain ⟨q, f, a, w, n, hsg⟩ := hS.2.2.2.2 k hk
  have ho1 : ON e L0 now (now + 1) (now + 1) (now + 1) (f_now, 0, a_state, a_error, a_tries, a_iss, a_una, a_nxt, a_max, a_last, a_closing, a_kept, a_rcv, a_first, a_held, a_fin, a_unread, a_came, a_ended, a_wnd, a_peak, a_half, a_same, a_setBy, a_setAt, a_isSet, a_rto, a_smooth, a_spread, a_timed, a_since, a_retry, a_waits, a_rest, a_segSeq, a_segAck, a_segFlags, a_segWindow, a_segLength, a_segBytes, c, upd a_many j (zI ((m - 1 : Nat) : Int)), a_taken) (g_now, 0, b_seq, b_flags, b_acked, b_window, b_many, b_data, b_rows, b_state, b_error, b_iss, b_una, b_nxt, b_max, b_last, b_closed, b_written, b_irs, b_unread, b_bytes, b_held, b_rcv, b_finAt, b_marked, b_wnd, b_peak, b_half, b_rto, b_same, b_tries, b_smooth, b_spread, b_byNumber, b_byAck, b_sampled, b_told, b_retry, b_ackAt, b_waitAt, b_timedAt, b_timed) := by
    subst he
    refine ON_v ho ?_ rfl
    simp only [vX, pk_un hne, c1]
  have S0 : SU e (16 * j + sg k) (16 * j + k) q f a w n (f_now, 0, a_state, a_error, a_tries, a_iss, a_una, a_nxt, a_max, a_last, a_closing, a_kept, a_rcv, a_first, a_held, a_fin, a_unread, a_came, a_ended, a_wnd, a_peak, a_half, a_same, a_setBy, a_setAt, a_isSet, a_rto, a_smooth, a_spread, a_timed, a_since, a_retry, a_waits, a_rest, a_segSeq, a_segAck, a_segFlags, a_segWindow, a_segLength, a_segBytes, c, upd a_many j (zI ((m - 1 : Nat) : Int)), a_taken) (g_now, 0, b_seq, b_flags, b_acked, b_window, b_many, b_data, b_rows, b_state, b_error, b_iss, b_una, b_nxt, b_max, b_last, b_closed, b_written, b_irs, b_unread, b_bytes, b_held, b_rcv, b_finAt, b_marked, b_wnd, b_peak, b_half, b_rto, b_same, b_tries, b_smooth, b_spread, b_byNumber, b_byAck, b_sampled, b_told, b_retry, b_ackAt, b_waitAt, b_timedAt, b_timed) := by
    refine ⟨sg k, k, ⟨by rw [hej], by omega, by omega⟩, ⟨by rw [hej], by omega, by omega⟩, ?_⟩
    rw [hej]
    exact hsg
  refine ON_elB ho1 hL.1 hL.2 ?_
  intro st er tr iss una nxt mx la cl irs rcv fi un fst wnd pk hf rto sa smo tm si rt wt rs hB _ R I2
  refine LK_b (lk_arrive he2 hB S0 I2 ⟨R, FR_r⟩) ?_
  intro f_now2 f_sent2 a_state2 a_error2 a_tries2 a_iss2 a_una2 a_nxt2 a_max2 a_last2 a_closing2 a_kept2 a_rcv2 a_first2 a_held2 a_fin2 a_unread2 a_came2 a_ended2 a_wnd2 a_peak2 a_half2 a_same2 a_setBy2 a_setAt2 a_isSet2 a_rto2 a_smooth2 a_spread2 a_timed2 a_since2 a_retry2 a_waits2 a_rest2 a_segSeq2 a_segAck2 a_segFlags2 a_segWindow2 a_segLength2 a_segBytes2 a_row2 a_many2 a_taken2 g_now2 g_sent2 b_seq2 b_flags2 b_acked2 b_window2 b_many2 b_data2 b_rows2 b_state2 b_error2 b_iss2 b_una2 b_nxt2 b_max2 b_last2 b_closed2 b_written2 b_irs2 b_unread2 b_bytes2 b_held2 b_rcv2 b_finAt2 b_marked2 b_wnd2 b_peak2 b_half2 b_rto2 b_same2 b_tries2 b_smooth2 b_spread2 b_byNumber2 b_byAck2 b_sampled2 b_told2 b_retry2 b_ackAt2 b_waitAt2 b_timedAt2 b_timed2 Z2
  have A2 := OK_on Z2
  have F2 := OK_fr Z2
  obtain ⟨f1, f2, f3⟩ := F2
  rw [hej] at f1 f2
  simp only [vX, vY, Prod.mk.injEq] at f1 f2
  have hr2 : b_rows2 j = zI m := by simp only [f2]; exact hr
  obtain ⟨zq, zf, za, zw, zn, zd, g1, g2, g3, g4, g5, g6, g7⟩ := y_take (b_rows := b_rows2) (b_seq := b_seq2) (b_flags := b_flags2) (b_acked := b_acked2) (b_window := b_window2) (b_many := b_many2) (b_data := b_data2) hj hm hk hr2
  refine LK_x (fun p h => x_free hj hs h) (LK_y (fun p h => g7 _ h) ?_)
  refine LK_r1 ⟨(sd_0 f3 rfl).symm, fun e' he' => ?_⟩
  by_cases ce : e' = j
  · subst ce
    have D1 := Iv_D g1
    have D2 := Iv_D g2
    have D3 := Iv_D g3
    have D4 := Iv_D g4
    have D5 := Iv_D g5
    have D6 := Id_D g6
    simp only [f2] at D1 D2 D3 D4 D5 D6
    refine ON_v (ON_del hj h hk hR hS c2 D1 D2 D3 D4 D5 D6) ?_ ?_
    · simp only [vX, f1, pk_us]
    · simp only [vY, f2, pk_us]
  · have : e' = 1 - j := by omega
    subst this
    subst he
    refine ON_v A2 ?_ ?_
    · simp only [vX, pk_un hne]
    · simp only [vY, pk_un hne, g1.1, g2.1, g3.1, g4.1, g5.1, g6.1]
theorem i_vc_drop {k : Nat} {u : SX} {v : SY} (I : i_Rel k u v) (hk : k + 8 ≤ 4096) (v1 : Int32) (v2 : Int32) : wpX_drop (fun r u' => wpY_drop (fun r' v' => r' = r ∧ i_Rel (k + 8) u' v') v v1 v2) u v1 v2 := by
  have J := i_up I
  obtain ⟨now, hn, hr⟩ := I (by omega)
  obtain ⟨f_now, f_sent, a_state, a_error, a_tries, a_iss, a_una, a_nxt, a_max, a_last, a_closing, a_kept, a_rcv, a_first, a_held, a_fin, a_unread, a_came, a_ended, a_wnd, a_peak, a_half, a_same, a_setBy, a_setAt, a_isSet, a_rto, a_smooth, a_spread, a_timed, a_since, a_retry, a_waits, a_rest, a_segSeq, a_segAck, a_segFlags, a_segWindow, a_segLength, a_segBytes, a_row, a_many, a_taken⟩ := u
  obtain ⟨g_now, g_sent, b_seq, b_flags, b_acked, b_window, b_many, b_data, b_rows, b_state, b_error, b_iss, b_una, b_nxt, b_max, b_last, b_closed, b_written, b_irs, b_unread, b_bytes, b_held, b_rcv, b_finAt, b_marked, b_wnd, b_peak, b_half, b_rto, b_same, b_tries, b_smooth, b_spread, b_byNumber, b_byAck, b_sampled, b_told, b_retry, b_ackAt, b_waitAt, b_timedAt, b_timed⟩ := v
  rcases end_c v1 with ⟨e, he, rfl⟩ | hne
  · have h0 := ON_L (L' := 1000 + 100 * ((k + 8 : Nat) : Int)) (hr e he) (by omega) (by omega)
    have h1 := ON_L (L' := 1000 + 100 * ((k + 8 : Nat) : Int)) (hr (1 - e) (by omega)) (by omega) (by omega)
    obtain ⟨m, sg, hrw, hER, hES⟩ := ON_W h0
    rcases there_c v2 hES.1 with ⟨i, hi, rfl⟩ | hb
    · exact top1 (WX := fun p => wpX_drop p (f_now, f_sent, a_state, a_error, a_tries, a_iss, a_una, a_nxt, a_max, a_last, a_closing, a_kept, a_rcv, a_first, a_held, a_fin, a_unread, a_came, a_ended, a_wnd, a_peak, a_half, a_same, a_setBy, a_setAt, a_isSet, a_rto, a_smooth, a_spread, a_timed, a_since, a_retry, a_waits, a_rest, a_segSeq, a_segAck, a_segFlags, a_segWindow, a_segLength, a_segBytes, a_row, a_many, a_taken) (zI e) (zI i)) (WY := fun p => wpY_drop p (g_now, g_sent, b_seq, b_flags, b_acked, b_window, b_many, b_data, b_rows, b_state, b_error, b_iss, b_una, b_nxt, b_max, b_last, b_closed, b_written, b_irs, b_unread, b_bytes, b_held, b_rcv, b_finAt, b_marked, b_wnd, b_peak, b_half, b_rto, b_same, b_tries, b_smooth, b_spread, b_byNumber, b_byAck, b_sampled, b_told, b_retry, b_ackAt, b_waitAt, b_timedAt, b_timed) (zI e) (zI i)) (by omega) (lk_drop he h0 h1 hi hrw hER hES)
    · unfold wpX_drop wpY_drop
      simp only [x_there_n he hER.1 hb, y_none_n he hrw hES.1 hb]
      exact br_t (by trivial) (br_f (by decide) ⟨by trivial, J⟩)
  · unfold wpX_drop wpY_drop
    simp only [x_there_e hne, y_none_e hne]
    exact br_t (by trivial) (br_f (by decide) ⟨by trivial, J⟩)
theorem i_vc_deliver {k : Nat} {u : SX} {v : SY} (I : i_Rel k u v) (hk : k + 8 ≤ 4096) (v1 : Int32) (v2 : Int32) : wpX_deliver (fun r u' => wpY_deliver (fun r' v' => r' = r ∧ i_Rel (k + 8) u' v') v v1 v2) u v1 v2 := by
  have J := i_up I
  obtain ⟨now, hn, hr⟩ := I (by omega)
  obtain ⟨f_now, f_sent, a_state, a_error, a_tries, a_iss, a_una, a_nxt, a_max, a_last, a_closing, a_kept, a_rcv, a_first, a_held, a_fin, a_unread, a_came, a_ended, a_wnd, a_peak, a_half, a_same, a_setBy, a_setAt, a_isSet, a_rto, a_smooth, a_spread, a_timed, a_since, a_retry, a_waits, a_rest, a_segSeq, a_segAck, a_segFlags, a_segWindow, a_segLength, a_segBytes, a_row, a_many, a_taken⟩ := u
  obtain ⟨g_now, g_sent, b_seq, b_flags, b_acked, b_window, b_many, b_data, b_rows, b_state, b_error, b_iss, b_una, b_nxt, b_max, b_last, b_closed, b_written, b_irs, b_unread, b_bytes, b_held, b_rcv, b_finAt, b_marked, b_wnd, b_peak, b_half, b_rto, b_same, b_tries, b_smooth, b_spread, b_byNumber, b_byAck, b_sampled, b_told, b_retry, b_ackAt, b_waitAt, b_timedAt, b_timed⟩ := v
  rcases end_c v1 with ⟨e, he, rfl⟩ | hne
  · have h0 := ON_L (L' := 1000 + 100 * ((k + 8 : Nat) : Int)) (hr e he) (by omega) (by omega)
    obtain ⟨m, sg, hrw, hER, hES⟩ := ON_W h0
    rcases there_c v2 hES.1 with ⟨i, hi, rfl⟩ | hb
    · exact top1 (WX := fun p => wpX_deliver p (f_now, f_sent, a_state, a_error, a_tries, a_iss, a_una, a_nxt, a_max, a_last, a_closing, a_kept, a_rcv, a_first, a_held, a_fin, a_unread, a_came, a_ended, a_wnd, a_peak, a_half, a_same, a_setBy, a_setAt, a_isSet, a_rto, a_smooth, a_spread, a_timed, a_since, a_retry, a_waits, a_rest, a_segSeq, a_segAck, a_segFlags, a_segWindow, a_segLength, a_segBytes, a_row, a_many, a_taken) (zI e) (zI i)) (WY := fun p => wpY_deliver p (g_now, g_sent, b_seq, b_flags, b_acked, b_window, b_many, b_data, b_rows, b_state, b_error, b_iss, b_una, b_nxt, b_max, b_last, b_closed, b_written, b_irs, b_unread, b_bytes, b_held, b_rcv, b_finAt, b_marked, b_wnd, b_peak, b_half, b_rto, b_same, b_tries, b_smooth, b_spread, b_byNumber, b_byAck, b_sampled, b_told, b_retry, b_ackAt, b_waitAt, b_timedAt, b_timed) (zI e) (zI i)) (by omega) (lk_deliver he rfl (by omega) h0 (hr (1 - e) (by omega)) hi hrw hER hES)
    · unfold wpX_deliver wpY_deliver
      simp only [x_there_n he hER.1 hb, y_none_n he hrw hES.1 hb]
      exact br_t (by trivial) (br_f (by decide) ⟨by trivial, J⟩)
  · unfold wpX_deliver wpY_deliver
    simp only [x_there_e hne, y_none_e hne]
    exact br_t (by trivial) (br_f (by decide) ⟨by trivial, J⟩)
end
end
section
/-! wipe and first; the beginning; the call that begins -/
section
variable {e : Nat} {L now : Int} {st er tr iss una nxt mx la cl irs rcv fi un fst wnd pk hf rto sa smo tm si rt wt rs nr nw ns : Int} {f_now f_sent : Int32} {a_state a_error a_tries a_iss a_una a_nxt a_max a_last a_closing a_kept a_rcv a_first a_held a_fin a_unread a_came a_ended a_wnd a_peak a_half a_same a_setBy a_setAt a_isSet a_rto a_smooth a_spread a_timed a_since a_retry a_waits a_rest a_segSeq a_segAck a_segFlags a_segWindow a_segLength a_segBytes a_row a_many a_taken : Nat → Int32} {g_now g_sent : Int32} {b_seq b_flags b_acked b_window b_many b_data b_rows b_state b_error b_iss : Nat → Int32} {b_una b_nxt b_max b_last : Nat → Int64} {b_closed b_written b_irs b_unread b_bytes b_held : Nat → Int32} {b_rcv b_finAt : Nat → Int64} {b_marked b_wnd b_peak b_half b_rto b_same b_tries b_smooth b_spread b_byNumber b_byAck b_sampled b_told b_retry b_ackAt b_waitAt b_timedAt : Nat → Int32} {b_timed : Nat → Int64} {u0 : SX} {v0 : SY}
theorem x_wipe {post : SX → Prop} (he : e < 2) (K : post (f_now, f_sent, upd a_state e (zI 0), upd a_error e (zI 0), upd a_tries e (zI 0), a_iss, a_una, a_nxt, a_max, a_last, upd a_closing e (zI 0), a_kept, upd a_rcv e (zI 0), a_first, upd a_held e (zI 0), upd a_fin e (zI (-1)), upd a_unread e (zI 0), a_came, upd a_ended e (zI 0), upd a_wnd e (zI 0), upd a_peak e (zI 16), upd a_half e (zI 64), upd a_same e (zI 0), a_setBy, a_setAt, upd a_isSet e (zI 0), upd a_rto e (zI 8), upd a_smooth e (zI (-1)), a_spread, upd a_timed e (zI (-1)), a_since, upd a_retry e (zI (-1)), upd a_waits e (zI (-1)), upd a_rest e (zI (-1)), a_segSeq, a_segAck, a_segFlags, a_segWindow, a_segLength, a_segBytes, a_row, a_many, a_taken)) : wpX_wipe post (f_now, f_sent, a_state, a_error, a_tries, a_iss, a_una, a_nxt, a_max, a_last, a_closing, a_kept, a_rcv, a_first, a_held, a_fin, a_unread, a_came, a_ended, a_wnd, a_peak, a_half, a_same, a_setBy, a_setAt, a_isSet, a_rto, a_smooth, a_spread, a_timed, a_since, a_retry, a_waits, a_rest, a_segSeq, a_segAck, a_segFlags, a_segWindow, a_segLength, a_segBytes, a_row, a_many, a_taken) (zI e) := by
  unfold wpX_wipe
  refine x_quiet he ?_
  dsimp only
  simp (disch := omega) only [e_in he, e_cl he, zl_0, zl_1, zl_8, zl_16, zl_64, zI_neg, zI_n8, zI_nb0, true_and, and_true, true_implies, false_implies, forall_eq, not_true_eq_false, not_false_eq_true, implies_true, forall_const]
  exact K
theorem y_first {i : Int} (he : e < 2) : ∃ mk, rg 64 (1 - e) mk = rg 64 (1 - e) b_marked ∧ (∀ z : Int, rg 64 e mk z = zI 0) ∧
    ∀ {g_now g_sent : Int32} {b_seq b_flags b_acked b_window b_many b_data b_rows b_state b_error b_iss : Nat → Int32} {b_una b_nxt b_max b_last : Nat → Int64} {b_closed b_written b_irs b_unread b_bytes b_held : Nat → Int32} {b_rcv b_finAt : Nat → Int64} {b_wnd b_peak b_half b_rto b_same b_tries b_smooth b_spread b_byNumber b_byAck b_sampled b_told b_retry b_ackAt b_waitAt b_timedAt : Nat → Int32} {b_timed : Nat → Int64} (post : SY → Prop), post (g_now, g_sent, b_seq, b_flags, b_acked, b_window, b_many, b_data, b_rows, upd b_state e (zI 0), upd b_error e (zI 0), upd b_iss e (zI i), vp_updL b_una e (zL 0), vp_updL b_nxt e (zL 0), vp_updL b_max e (zL 0), vp_updL b_last e (zL 1), upd b_closed e (zI 0), b_written, upd b_irs e (zI 0), upd b_unread e (zI 0), b_bytes, b_held, vp_updL b_rcv e (zL 0), vp_updL b_finAt e (zL (-1)), mk, upd b_wnd e (zI 0), upd b_peak e (zI 16), upd b_half e (zI 64), upd b_rto e (zI 8), upd b_same e (zI 0), upd b_tries e (zI 0), upd b_smooth e (zI 0), upd b_spread e (zI 0), b_byNumber, b_byAck, upd b_sampled e (zI 0), upd b_told e (zI 0), upd b_retry e (zI (-1)), upd b_ackAt e (zI (-1)), upd b_waitAt e (zI (-1)), b_timedAt, vp_updL b_timed e (zL (-1))) → wpY_first post (g_now, g_sent, b_seq, b_flags, b_acked, b_window, b_many, b_data, b_rows, b_state, b_error, b_iss, b_una, b_nxt, b_max, b_last, b_closed, b_written, b_irs, b_unread, b_bytes, b_held, b_rcv, b_finAt, b_marked, b_wnd, b_peak, b_half, b_rto, b_same, b_tries, b_smooth, b_spread, b_byNumber, b_byAck, b_sampled, b_told, b_retry, b_ackAt, b_waitAt, b_timedAt, b_timed) (zI e) (zI i) := by
  obtain ⟨mk, c1, c2, c3⟩ := y_quiet (b_marked := b_marked) he
  refine ⟨mk, c1, c2, ?_⟩
  intro g_now g_sent b_seq b_flags b_acked b_window b_many b_data b_rows b_state b_error b_iss b_una b_nxt b_max b_last b_closed b_written b_irs b_unread b_bytes b_held b_rcv b_finAt b_wnd b_peak b_half b_rto b_same b_tries b_smooth b_spread b_byNumber b_byAck b_sampled b_told b_retry b_ackAt b_waitAt b_timedAt b_timed post K
  unfold wpY_first
  simp only [e_in he, e_cl he, zl_0, zl_8, zl_16, zl_64, zk_0, zI_nb0, true_and, and_true, true_implies, false_implies, forall_eq, not_true_eq_false, not_false_eq_true, implies_true, forall_const]
  exact c3 _ K
theorem RE_w {i s : Int} {mk as_ ai al au an am bs : Nat → Int32} (he : e < 2) (hs : 0 ≤ s ∧ s ≤ 2) (hi : 0 ≤ i ∧ i ≤ 65535) (hL : 1 ≤ L) (hn : 0 ≤ now ∧ now ≤ 33554432) (hmk : ∀ z : Int, rg 64 e mk z = zI 0) (h1 : as_ e = zI s) (h2 : ai e = zI i) (h3 : 1 ≤ s → al e = zI ((i + 1) % 65536)) (h4 : 2 ≤ s → au e = zI ((i + 0) % 65536)) (h5 : 2 ≤ s → an e = zI ((i + 0) % 65536)) (h6 : 2 ≤ s → am e = zI ((i + 0) % 65536)) (h7 : bs e = zI s)
    (xfst : a_first e = zI fst) (hf : 0 ≤ fst ∧ fst ≤ 65535) (xsb : a_setBy e = b_byNumber e) (xsa : a_setAt e = b_byAck e) (xsi : a_since e = zI si) (ysi : b_timedAt e = zI si) (hsi : 0 ≤ si ∧ si ≤ now)
    (W : EW e (rg 16 e a_segSeq) (rg 16 e a_segAck) (rg 16 e a_segFlags) (rg 16 e a_segWindow) (rg 16 e a_segLength) (rg 128 e a_segBytes) (rg 16 e a_row) (a_many e) (a_taken e) (rg 16 e b_seq) (rg 16 e b_flags) (rg 16 e b_acked) (rg 16 e b_window) (rg 16 e b_many) (rg 128 e b_data) (b_rows e)) :
    RE e L now s 0 0 i 0 0 0 1 0 0 0 (-1) 0 fst 0 16 64 8 0 0 (-1) si (-1) (-1) (-1) (now + 1) (now + 1) (now + 1) (zI now, f_sent, as_, upd a_error e (zI 0), upd a_tries e (zI 0), ai, au, an, am, al, upd a_closing e (zI 0), a_kept, upd a_rcv e (zI 0), a_first, upd a_held e (zI 0), upd a_fin e (zI (-1)), upd a_unread e (zI 0), a_came, upd a_ended e (zI 0), upd a_wnd e (zI 0), upd a_peak e (zI 16), upd a_half e (zI 64), upd a_same e (zI 0), a_setBy, a_setAt, upd a_isSet e (zI 0), upd a_rto e (zI 8), upd a_smooth e (zI (-1)), a_spread, upd a_timed e (zI (-1)), a_since, upd a_retry e (zI (-1)), upd a_waits e (zI (-1)), upd a_rest e (zI (-1)), a_segSeq, a_segAck, a_segFlags, a_segWindow, a_segLength, a_segBytes, a_row, a_many, a_taken) (zI now, g_sent, b_seq, b_flags, b_acked, b_window, b_many, b_data, b_rows, bs, upd b_error e (zI 0), upd b_iss e (zI i), vp_updL b_una e (zL 0), vp_updL b_nxt e (zL 0), vp_updL b_max e (zL 0), vp_updL b_last e (zL 1), upd b_closed e (zI 0), b_written, upd b_irs e (zI 0), upd b_unread e (zI 0), b_bytes, b_held, vp_updL b_rcv e (zL 0), vp_updL b_finAt e (zL (-1)), mk, upd b_wnd e (zI 0), upd b_peak e (zI 16), upd b_half e (zI 64), upd b_rto e (zI 8), upd b_same e (zI 0), upd b_tries e (zI 0), upd b_smooth e (zI 0), upd b_spread e (zI 0), b_byNumber, b_byAck, upd b_sampled e (zI 0), upd b_told e (zI 0), upd b_retry e (zI (-1)), upd b_ackAt e (zI (-1)), upd b_waitAt e (zI (-1)), b_timedAt, vp_updL b_timed e (zL (-1))) := by
  refine RE_in ⟨rfl, rfl, h1, pk_us, fun _ => pk_us, h2, h4, h5, h6, h3, fun _ => pk_us, fun _ => pk_us, xfst, pk_us, pk_us, ?_, pk_us, pk_us, pk_us, pk_us, fun _ => pk_us.trans pk_us.symm, xsb, xsa, pk_us.trans pk_us.symm, pk_us, fun z => absurd rfl z, pk_us, xsi, pk_us, pk_us, pk_us, h7, pk_us, pk_us, pk_us, pk_uLs, pk_uLs, pk_uLs, pk_uLs, pk_us, pk_us, pk_uLs, pk_uLs, pk_us, pk_us, pk_us, pk_us, pk_us, pk_us, pk_us, pk_uLs, ysi, pk_us, pk_us, pk_us, ?_, ?_, ?_, ?_, ?_, ?_, ?_, W⟩
  · intro _
    rw [if_neg (by omega)]
    exact pk_us
  · unfold E1; omega
  · unfold E3; omega
  · unfold E4; omega
  · unfold E5; omega
  · intro p h1 h2 h3; omega
  · intro j h1 h2; omega
  · rw [pk_us]; exact EH_fin hmk
theorem E2_w0 {i s : Int} (hs : 0 ≤ s ∧ s ≤ 1) (hi : 0 ≤ i ∧ i ≤ 65535) (hL : 1 ≤ L ∧ L ≤ 1099511627776) : E2 L s i 0 0 0 1 0 (-1) := by unfold E2; omega
theorem EW_0 {sq sa' sf sw sl sb rw_ yq yf ya yw yl yd : Int → Int32} : EW e sq sa' sf sw sl sb rw_ (zI 0) (zI 0) yq yf ya yw yl yd (zI 0) := by
  refine ⟨0, fun _ => 0, rfl, ⟨rfl, fun i hi => by omega⟩, by omega, fun i hi => by omega, fun i j hi => by omega, fun k => ?_, fun i hi => by omega⟩
  rw [show bt (zI 0) k = false from b_0 k]
  constructor
  · intro h; cases h
  · rintro ⟨i, hi, _⟩; omega
theorem i_vc0 : wpX_init (fun u => wpY_init (fun v => i_Rel 0 u v)) := by
  unfold wpX_init wpY_init
  refine x_wipe (e := 0) (by decide) ?_
  refine x_wipe (e := 1) (by decide) ?_
  obtain ⟨mk0, c1, c2, c3⟩ := y_first (e := 0) (i := 0) (b_marked := fun _ => 0) (by decide)
  obtain ⟨mk1, d1, d2, d3⟩ := y_first (e := 1) (i := 0) (b_marked := mk0) (by decide)
  refine c3 _ ?_
  refine d3 _ ?_
  intro _
  refine ⟨0, by decide, fun e he => ?_⟩
  have hc : e = 0 ∨ e = 1 := by omega
  rcases hc with rfl | rfl
  · have R := RE_w (e := 0) (L := 1000) (now := 0) (i := 0) (s := 0) (fst := 0) (si := 0) (mk := mk0) (as_ := upd (fun _ => 0) 0 (zI 0)) (ai := fun _ => 0) (al := fun _ => 0) (au := fun _ => 0) (an := fun _ => 0) (am := fun _ => 0) (bs := upd (fun _ => 0) 0 (zI 0)) (f_sent := 0) (g_sent := 0) (a_error := fun _ => 0) (a_tries := fun _ => 0) (a_closing := fun _ => 0) (a_kept := fun _ => 0) (a_rcv := fun _ => 0) (a_first := fun _ => 0) (a_held := fun _ => 0) (a_fin := fun _ => 0) (a_unread := fun _ => 0) (a_came := fun _ => 0) (a_ended := fun _ => 0) (a_wnd := fun _ => 0) (a_peak := fun _ => 0) (a_half := fun _ => 0) (a_same := fun _ => 0) (a_setBy := fun _ => 0) (a_setAt := fun _ => 0) (a_isSet := fun _ => 0) (a_rto := fun _ => 0) (a_smooth := fun _ => 0) (a_spread := fun _ => 0) (a_timed := fun _ => 0) (a_since := fun _ => 0) (a_retry := fun _ => 0) (a_waits := fun _ => 0) (a_rest := fun _ => 0) (a_segSeq := fun _ => 0) (a_segAck := fun _ => 0) (a_segFlags := fun _ => 0) (a_segWindow := fun _ => 0) (a_segLength := fun _ => 0) (a_segBytes := fun _ => 0) (a_row := fun _ => 0) (a_many := fun _ => 0) (a_taken := fun _ => 0) (b_seq := fun _ => 0) (b_flags := fun _ => 0) (b_acked := fun _ => 0) (b_window := fun _ => 0) (b_many := fun _ => 0) (b_data := fun _ => 0) (b_rows := fun _ => 0) (b_error := fun _ => 0) (b_iss := fun _ => 0) (b_una := fun _ => 0) (b_nxt := fun _ => 0) (b_max := fun _ => 0) (b_last := fun _ => 0) (b_closed := fun _ => 0) (b_written := fun _ => 0) (b_irs := fun _ => 0) (b_unread := fun _ => 0) (b_bytes := fun _ => 0) (b_held := fun _ => 0) (b_rcv := fun _ => 0) (b_finAt := fun _ => 0) (b_wnd := fun _ => 0) (b_peak := fun _ => 0) (b_half := fun _ => 0) (b_rto := fun _ => 0) (b_same := fun _ => 0) (b_tries := fun _ => 0) (b_smooth := fun _ => 0) (b_spread := fun _ => 0) (b_byNumber := fun _ => 0) (b_byAck := fun _ => 0) (b_sampled := fun _ => 0) (b_told := fun _ => 0) (b_retry := fun _ => 0) (b_ackAt := fun _ => 0) (b_waitAt := fun _ => 0) (b_timedAt := fun _ => 0) (b_timed := fun _ => 0) (by decide) (by decide) (by decide) (by decide) (by decide) c2 rfl rfl (fun z => absurd z (by decide)) (fun z => absurd z (by decide)) (fun z => absurd z (by decide)) (fun z => absurd z (by decide)) rfl rfl (by decide) rfl rfl rfl rfl (by decide) EW_0
    refine ON_v (ON_i R (E2_w0 (by decide) (by decide) (by decide))) ?_ ?_
    · simp only [vX, pk_un (show (0 : Nat) ≠ 1 by decide)]
      rfl
    · simp only [vY, pk_un (show (0 : Nat) ≠ 1 by decide), pk_uLn (show (0 : Nat) ≠ 1 by decide)]
      rw [show rg 64 0 mk1 = rg 64 0 mk0 from d1]
      rfl
  · exact ON_i (RE_w (e := 1) (fst := 0) (si := 0) (s := 0) (by decide) (by decide) (by decide) (by decide) (by decide) d2 rfl rfl (fun z => absurd z (by decide)) (fun z => absurd z (by decide)) (fun z => absurd z (by decide)) (fun z => absurd z (by decide)) rfl rfl (by decide) rfl rfl rfl rfl (by decide) EW_0) (E2_w0 (by decide) (by decide) (by decide))
theorem lk_open {i : Int} {act : Int32} (he : e < 2) (hi : 0 ≤ i ∧ i ≤ 65535) (hL : L ≤ 1099511627776) (h : ON e L now (now + 1) (now + 1) (now + 1) (f_now, f_sent, a_state, a_error, a_tries, a_iss, a_una, a_nxt, a_max, a_last, a_closing, a_kept, a_rcv, a_first, a_held, a_fin, a_unread, a_came, a_ended, a_wnd, a_peak, a_half, a_same, a_setBy, a_setAt, a_isSet, a_rto, a_smooth, a_spread, a_timed, a_since, a_retry, a_waits, a_rest, a_segSeq, a_segAck, a_segFlags, a_segWindow, a_segLength, a_segBytes, a_row, a_many, a_taken) (g_now, g_sent, b_seq, b_flags, b_acked, b_window, b_many, b_data, b_rows, b_state, b_error, b_iss, b_una, b_nxt, b_max, b_last, b_closed, b_written, b_irs, b_unread, b_bytes, b_held, b_rcv, b_finAt, b_marked, b_wnd, b_peak, b_half, b_rto, b_same, b_tries, b_smooth, b_spread, b_byNumber, b_byAck, b_sampled, b_told, b_retry, b_ackAt, b_waitAt, b_timedAt, b_timed)) (ho : ON (1 - e) L now (now + 1) (now + 1) (now + 1) (f_now, f_sent, a_state, a_error, a_tries, a_iss, a_una, a_nxt, a_max, a_last, a_closing, a_kept, a_rcv, a_first, a_held, a_fin, a_unread, a_came, a_ended, a_wnd, a_peak, a_half, a_same, a_setBy, a_setAt, a_isSet, a_rto, a_smooth, a_spread, a_timed, a_since, a_retry, a_waits, a_rest, a_segSeq, a_segAck, a_segFlags, a_segWindow, a_segLength, a_segBytes, a_row, a_many, a_taken) (g_now, g_sent, b_seq, b_flags, b_acked, b_window, b_many, b_data, b_rows, b_state, b_error, b_iss, b_una, b_nxt, b_max, b_last, b_closed, b_written, b_irs, b_unread, b_bytes, b_held, b_rcv, b_finAt, b_marked, b_wnd, b_peak, b_half, b_rto, b_same, b_tries, b_smooth, b_spread, b_byNumber, b_byAck, b_sampled, b_told, b_retry, b_ackAt, b_waitAt, b_timedAt, b_timed)) (h0 : a_state e = zI 0) :
    LK ap1 aq1 (fun p => wpX_open p (f_now, f_sent, a_state, a_error, a_tries, a_iss, a_una, a_nxt, a_max, a_last, a_closing, a_kept, a_rcv, a_first, a_held, a_fin, a_unread, a_came, a_ended, a_wnd, a_peak, a_half, a_same, a_setBy, a_setAt, a_isSet, a_rto, a_smooth, a_spread, a_timed, a_since, a_retry, a_waits, a_rest, a_segSeq, a_segAck, a_segFlags, a_segWindow, a_segLength, a_segBytes, a_row, a_many, a_taken) (zI e) act (zI i)) (fun p => wpY_open p (g_now, g_sent, b_seq, b_flags, b_acked, b_window, b_many, b_data, b_rows, b_state, b_error, b_iss, b_una, b_nxt, b_max, b_last, b_closed, b_written, b_irs, b_unread, b_bytes, b_held, b_rcv, b_finAt, b_marked, b_wnd, b_peak, b_half, b_rto, b_same, b_tries, b_smooth, b_spread, b_byNumber, b_byAck, b_sampled, b_told, b_retry, b_ackAt, b_waitAt, b_timedAt, b_timed) (zI e) act (zI i)) (QT L now) := by
  have hne : 1 - e ≠ e := by omega
  refine ON_el h ?_
  intro st er tr iss una nxt mx la cl irs rcv fi un fst wnd pk hf rto sa smo tm si rt wt rs R I2
  obtain ⟨rfl, rfl, xst, xer, xtr, xiss, xuna, xnxt, xmx, xla, xcl, xrcv, xfst, xfi, xun, xen, xwnd, xpk, xhf, xrto, xsm, xsb, xsa, xis, xsmo, xspr, xtm, xsi, xrt, xwt, xrs, yst, yer, ytr, yiss, yuna, ynxt, ymx, yla, ycl, yirs, yrcv, yfi, yun, ywnd, ypk, yhf, yrto, ysa, ysmo, ytm, ysi, yrt, ywt, yrs, I1, I3, I4, I5, K, C, H, W⟩ := RE_el R
  have b1 := I1
  unfold E1 at b1
  have hst : st = 0 := by rw [h0, zI_eq (by omega)] at xst; omega
  subst hst
  have b2 := I2.2.1
  have b3 := I3.2.2.2.1
  have b5 := E5_b I5
  obtain ⟨mk, c1, c2, c3⟩ := y_first (e := e) (i := i) (b_marked := b_marked) he
  have hout : ¬ (zI i < 0 ∨ ¬ zI i ≤ 65535) := by rw [zl_0, zl_65535, zI_lt (by omega), zI_le (by omega)]; omega
  have hl1 : (zI i + 1) &&& 65535 = zI ((i + 1) % 65536) := by rw [zl_1, zl_65535, zI_add, zI_m16]
  unfold wpX_open wpY_open
  simp only [x_isEnd he, y_end he, x_out, y_out, if_neg hout]
  refine LX_f (by decide) (LX_a (e_in he) ?_)
  refine LY_t (by trivial) (LY_a (e_in he) ?_)
  rw [e_cl he, xst, yst]
  refine LX_t rfl (LX_t (by trivial) (LY_t rfl (LY_t (by trivial) ?_)))
  refine LK_x (fun p h => x_wipe he h) (LK_y (fun p h => c3 _ h) ?_)
  dsimp only
  by_cases ha : act = 0
  · refine LX_t ha (LY_t ha ?_)
    unfold wX_open_47 wY_open_50
    refine LX_a (e_in he) (LY_a (e_in he) ?_)
    rw [e_cl he, hl1]
    refine LX_n (LX_a (e_in he) (LX_n (LX_a (e_in he) (LX_n (LX_t ha (LX_a (e_in he) ?_))))))
    refine LY_n (LY_t ha (LY_a (e_in he) ?_))
    rw [pk_us, pk_us]
    refine LK_r1 (QT_i he rfl (OK_i ⟨RE_w (s := 1) (i := i) he (by omega) hi (by omega) b5.1 c2 pk_us pk_us (fun _ => pk_us) (fun z => absurd z (by decide)) (fun z => absurd z (by decide)) (fun z => absurd z (by decide)) pk_us xfst b3 xsb xsa xsi ysi b5.2.2.1 W, ?_⟩ (E2_w0 (by omega) hi (by omega))) ho)
    refine ⟨?_, ?_, rfl⟩
    · simp only [vX, pk_un hne]
    · simp only [vY, pk_un hne, pk_uLn hne, c1]
  · refine LX_f ha (LY_f ha ?_)
    unfold wX_open_47 wY_open_50
    refine LX_a (e_in he) (LY_a (e_in he) ?_)
    rw [e_cl he, hl1]
    refine LX_n (LX_a (e_in he) (LX_n (LX_a (e_in he) (LX_n (LX_f ha ?_)))))
    refine LY_n (LY_f ha ?_)
    unfold wpX_begin
    refine LX_a (e_in he) (LX_a (e_in he) ?_)
    have heq : zI i = zI ((i + 0) % 65536) := by congr 1; omega
    rw [e_cl he, pk_us]
    refine LX_n (LX_a (e_in he) (LX_a (e_in he) (LX_n (LX_a (e_in he) (LX_a (e_in he) (LX_n (LX_a (e_in he) ?_)))))))
    have R2 := RE_w (s := 2) (i := i) (L := L) (as_ := upd (upd a_state e (zI 0)) e (vp_nar .byte (2 : Int32).toInt8.toInt32)) (ai := upd a_iss e (zI i)) (al := upd a_last e (zI ((i + 1) % 65536))) (au := upd a_una e (zI i)) (an := upd a_nxt e (zI i)) (am := upd a_max e (zI i)) (bs := upd (upd b_state e (zI 0)) e 2) (f_sent := f_sent) (g_sent := g_sent) (mk := mk) (a_error := a_error) (a_tries := a_tries) (a_closing := a_closing) (a_kept := a_kept) (a_rcv := a_rcv) (a_first := a_first) (a_held := a_held) (a_fin := a_fin) (a_unread := a_unread) (a_came := a_came) (a_ended := a_ended) (a_wnd := a_wnd) (a_peak := a_peak) (a_half := a_half) (a_same := a_same) (a_setBy := a_setBy) (a_setAt := a_setAt) (a_isSet := a_isSet) (a_rto := a_rto) (a_smooth := a_smooth) (a_spread := a_spread) (a_timed := a_timed) (a_since := a_since) (a_retry := a_retry) (a_waits := a_waits) (a_rest := a_rest) (a_segSeq := a_segSeq) (a_segAck := a_segAck) (a_segFlags := a_segFlags) (a_segWindow := a_segWindow) (a_segLength := a_segLength) (a_segBytes := a_segBytes) (a_row := a_row) (a_many := a_many) (a_taken := a_taken) (b_seq := b_seq) (b_flags := b_flags) (b_acked := b_acked) (b_window := b_window) (b_many := b_many) (b_data := b_data) (b_rows := b_rows) (b_error := b_error) (b_iss := b_iss) (b_una := b_una) (b_nxt := b_nxt) (b_max := b_max) (b_last := b_last) (b_closed := b_closed) (b_written := b_written) (b_irs := b_irs) (b_unread := b_unread) (b_bytes := b_bytes) (b_held := b_held) (b_rcv := b_rcv) (b_finAt := b_finAt) (b_wnd := b_wnd) (b_peak := b_peak) (b_half := b_half) (b_rto := b_rto) (b_same := b_same) (b_tries := b_tries) (b_smooth := b_smooth) (b_spread := b_spread) (b_byNumber := b_byNumber) (b_byAck := b_byAck) (b_sampled := b_sampled) (b_told := b_told) (b_retry := b_retry) (b_ackAt := b_ackAt) (b_waitAt := b_waitAt) (b_timedAt := b_timedAt) (b_timed := b_timed) he (by omega) hi (by omega) b5.1 c2 pk_us pk_us (fun _ => pk_us) (fun _ => pk_us.trans heq) (fun _ => pk_us.trans heq) (fun _ => pk_us.trans heq) pk_us xfst b3 xsb xsa xsi ysi b5.2.2.1 W
    have F2 : FR e (zI now, f_sent, a_state, a_error, a_tries, a_iss, a_una, a_nxt, a_max, a_last, a_closing, a_kept, a_rcv, a_first, a_held, a_fin, a_unread, a_came, a_ended, a_wnd, a_peak, a_half, a_same, a_setBy, a_setAt, a_isSet, a_rto, a_smooth, a_spread, a_timed, a_since, a_retry, a_waits, a_rest, a_segSeq, a_segAck, a_segFlags, a_segWindow, a_segLength, a_segBytes, a_row, a_many, a_taken) (zI now, g_sent, b_seq, b_flags, b_acked, b_window, b_many, b_data, b_rows, b_state, b_error, b_iss, b_una, b_nxt, b_max, b_last, b_closed, b_written, b_irs, b_unread, b_bytes, b_held, b_rcv, b_finAt, b_marked, b_wnd, b_peak, b_half, b_rto, b_same, b_tries, b_smooth, b_spread, b_byNumber, b_byAck, b_sampled, b_told, b_retry, b_ackAt, b_waitAt, b_timedAt, b_timed) (zI now, f_sent, upd (upd a_state e (zI 0)) e (vp_nar .byte (2 : Int32).toInt8.toInt32), upd a_error e (zI 0), upd a_tries e (zI 0), upd a_iss e (zI i), upd a_una e (zI i), upd a_nxt e (zI i), upd a_max e (zI i), upd a_last e (zI ((i + 1) % 65536)), upd a_closing e (zI 0), a_kept, upd a_rcv e (zI 0), a_first, upd a_held e (zI 0), upd a_fin e (zI (-1)), upd a_unread e (zI 0), a_came, upd a_ended e (zI 0), upd a_wnd e (zI 0), upd a_peak e (zI 16), upd a_half e (zI 64), upd a_same e (zI 0), a_setBy, a_setAt, upd a_isSet e (zI 0), upd a_rto e (zI 8), upd a_smooth e (zI (-1)), a_spread, upd a_timed e (zI (-1)), a_since, upd a_retry e (zI (-1)), upd a_waits e (zI (-1)), upd a_rest e (zI (-1)), a_segSeq, a_segAck, a_segFlags, a_segWindow, a_segLength, a_segBytes, a_row, a_many, a_taken) (zI now, g_sent, b_seq, b_flags, b_acked, b_window, b_many, b_data, b_rows, upd (upd b_state e (zI 0)) e 2, upd b_error e (zI 0), upd b_iss e (zI i), vp_updL b_una e (zL 0), vp_updL b_nxt e (zL 0), vp_updL b_max e (zL 0), vp_updL b_last e (zL 1), upd b_closed e (zI 0), b_written, upd b_irs e (zI 0), upd b_unread e (zI 0), b_bytes, b_held, vp_updL b_rcv e (zL 0), vp_updL b_finAt e (zL (-1)), mk, upd b_wnd e (zI 0), upd b_peak e (zI 16), upd b_half e (zI 64), upd b_rto e (zI 8), upd b_same e (zI 0), upd b_tries e (zI 0), upd b_smooth e (zI 0), upd b_spread e (zI 0), b_byNumber, b_byAck, upd b_sampled e (zI 0), upd b_told e (zI 0), upd b_retry e (zI (-1)), upd b_ackAt e (zI (-1)), upd b_waitAt e (zI (-1)), b_timedAt, vp_updL b_timed e (zL (-1))) := by
      refine ⟨?_, ?_, rfl⟩
      · simp only [vX, pk_un hne]
      · simp only [vY, pk_un hne, pk_uLn hne, c1]
    have M := lk_emit (p := 0) (fx := 1) (fy := 1) (ln := 1) (n := 0) he (by omega) hi (by omega) (by omega) (Or.inr ⟨rfl, rfl, rfl⟩) rfl (fun _ => by omega) (by omega) (fun z => absurd rfl z) ⟨R2, F2⟩
    rw [← heq] at M
    refine LK_b M ?_
    intro f_now1 f_sent1 a_state1 a_error1 a_tries1 a_iss1 a_una1 a_nxt1 a_max1 a_last1 a_closing1 a_kept1 a_rcv1 a_first1 a_held1 a_fin1 a_unread1 a_came1 a_ended1 a_wnd1 a_peak1 a_half1 a_same1 a_setBy1 a_setAt1 a_isSet1 a_rto1 a_smooth1 a_spread1 a_timed1 a_since1 a_retry1 a_waits1 a_rest1 a_segSeq1 a_segAck1 a_segFlags1 a_segWindow1 a_segLength1 a_segBytes1 a_row1 a_many1 a_taken1 g_now1 g_sent1 b_seq1 b_flags1 b_acked1 b_window1 b_many1 b_data1 b_rows1 b_state1 b_error1 b_iss1 b_una1 b_nxt1 b_max1 b_last1 b_closed1 b_written1 b_irs1 b_unread1 b_bytes1 b_held1 b_rcv1 b_finAt1 b_marked1 b_wnd1 b_peak1 b_half1 b_rto1 b_same1 b_tries1 b_smooth1 b_spread1 b_byNumber1 b_byAck1 b_sampled1 b_told1 b_retry1 b_ackAt1 b_waitAt1 b_timedAt1 b_timed1 R1
    obtain ⟨R1, F1⟩ := R1
    obtain ⟨rfl, rfl, xst1, xer1, xtr1, xiss1, xuna1, xnxt1, xmx1, xla1, xcl1, xrcv1, xfst1, xfi1, xun1, xen1, xwnd1, xpk1, xhf1, xrto1, xsm1, xsb1, xsa1, xis1, xsmo1, xspr1, xtm1, xsi1, xrt1, xwt1, xrs1, yst1, yer1, ytr1, yiss1, yuna1, ynxt1, ymx1, yla1, ycl1, yirs1, yrcv1, yfi1, yun1, ywnd1, ypk1, yhf1, yrto1, ysa1, ysmo1, ytm1, ysi1, yrt1, ywt1, yrs1, I11, I31, I41, I51, K1, C1, H1, W1⟩ := RE_el R1
    refine LX_a (e_in he) (LX_a (e_in he) (LY_a (e_in he) ?_))
    dsimp only
    rw [xiss1, hl1, zk_1]
    refine LX_n (LX_a (e_in he) (LY_n (LY_a (e_in he) ?_)))
    rw [xst1, yst1]
    refine LK_r1 (QT_i he rfl (OK_i ⟨RE_in ⟨rfl, rfl, xst1, xer1, xtr1, xiss1, xuna1, fun _ => pk_us, xmx1, xla1, xcl1, xrcv1, xfst1, xfi1, xun1, xen1, xwnd1, xpk1, xhf1, xrto1, xsm1, xsb1, xsa1, xis1, xsmo1, xspr1, xtm1, xsi1, xrt1, xwt1, xrs1, yst1, yer1, ytr1, yiss1, yuna1, pk_uLs, ymx1, yla1, ycl1, yirs1, yrcv1, yfi1, yun1, ywnd1, ypk1, yhf1, yrto1, ysa1, ysmo1, ytm1, ysi1, yrt1, ywt1, yrs1, I11, I31, I41, I51, K1, C1, H1, W1⟩, FR_s F1 ?_ ?_ rfl⟩ ?_) ho)
    · simp only [vX, pk_un hne]
    · simp only [vY, pk_uLn hne]
    · unfold E2; omega
theorem i_vc_open {k : Nat} {u : SX} {v : SY} (I : i_Rel k u v) (hk : k + 8 ≤ 4096) (v1 : Int32) (v2 : Int32) (v3 : Int32) : wpX_open (fun r u' => wpY_open (fun r' v' => r' = r ∧ i_Rel (k + 8) u' v') v v1 (lw_bz v2) v3) u v1 (lw_bz v2) v3 := by
  have J := i_up I
  obtain ⟨now, hn, hr⟩ := I (by omega)
  obtain ⟨f_now, f_sent, a_state, a_error, a_tries, a_iss, a_una, a_nxt, a_max, a_last, a_closing, a_kept, a_rcv, a_first, a_held, a_fin, a_unread, a_came, a_ended, a_wnd, a_peak, a_half, a_same, a_setBy, a_setAt, a_isSet, a_rto, a_smooth, a_spread, a_timed, a_since, a_retry, a_waits, a_rest, a_segSeq, a_segAck, a_segFlags, a_segWindow, a_segLength, a_segBytes, a_row, a_many, a_taken⟩ := u
  obtain ⟨g_now, g_sent, b_seq, b_flags, b_acked, b_window, b_many, b_data, b_rows, b_state, b_error, b_iss, b_una, b_nxt, b_max, b_last, b_closed, b_written, b_irs, b_unread, b_bytes, b_held, b_rcv, b_finAt, b_marked, b_wnd, b_peak, b_half, b_rto, b_same, b_tries, b_smooth, b_spread, b_byNumber, b_byAck, b_sampled, b_told, b_retry, b_ackAt, b_waitAt, b_timedAt, b_timed⟩ := v
  generalize lw_bz v2 = act
  rcases end_c v1 with ⟨e, he, rfl⟩ | hne
  · have h0 := ON_L (L' := 1000 + 100 * ((k + 8 : Nat) : Int)) (hr e he) (by omega) (by omega)
    have h1 := ON_L (L' := 1000 + 100 * ((k + 8 : Nat) : Int)) (hr (1 - e) (by omega)) (by omega) (by omega)
    have hst : a_state e = b_state e := by
      refine ON_el h0 ?_
      intro st er tr iss una nxt mx la cl irs rcv fi un fst wnd pk hf rto sa smo tm si rt wt rs R I2
      obtain ⟨xnow, ynow, xst, xer, xtr, xiss, xuna, xnxt, xmx, xla, xcl, xrcv, xfst, xfi, xun, xen, xwnd, xpk, xhf, xrto, xsm, xsb, xsa, xis, xsmo, xspr, xtm, xsi, xrt, xwt, xrs, yst, yer, ytr, yiss, yuna, ynxt, ymx, yla, ycl, yirs, yrcv, yfi, yun, ywnd, ypk, yhf, yrto, ysa, ysmo, ytm, ysi, yrt, ywt, yrs, I1, I3, I4, I5, K, C, H, W⟩ := RE_el R
      exact xst.trans yst.symm
    by_cases hs : a_state e = 0
    · by_cases hout : v3 < 0 ∨ ¬ v3 ≤ 65535
      · unfold wpX_open wpY_open
        simp only [x_isEnd he, y_end he, x_out, y_out, if_pos hout]
        refine br_f (by decide) ⟨e_in he, ?_⟩
        rw [e_cl he]
        exact br_t hs (br_f (by decide) (br_t (by trivial) ⟨e_in he, br_t (hst ▸ hs) (br_f (by decide) ⟨by trivial, J⟩)⟩))
      · obtain ⟨i, rfl, hi⟩ : ∃ i : Int, v3 = zI i ∧ 0 ≤ i ∧ i ≤ 65535 := by
          refine ⟨v3.toInt, (zI_self v3).symm, ?_⟩
          rw [Int32.lt_iff_toInt_lt, Int32.le_iff_toInt_le, show (0 : Int32).toInt = 0 from rfl, show (65535 : Int32).toInt = 65535 from rfl] at hout
          omega
        exact top1 (WX := fun p => wpX_open p (f_now, f_sent, a_state, a_error, a_tries, a_iss, a_una, a_nxt, a_max, a_last, a_closing, a_kept, a_rcv, a_first, a_held, a_fin, a_unread, a_came, a_ended, a_wnd, a_peak, a_half, a_same, a_setBy, a_setAt, a_isSet, a_rto, a_smooth, a_spread, a_timed, a_since, a_retry, a_waits, a_rest, a_segSeq, a_segAck, a_segFlags, a_segWindow, a_segLength, a_segBytes, a_row, a_many, a_taken) (zI e) act (zI i)) (WY := fun p => wpY_open p (g_now, g_sent, b_seq, b_flags, b_acked, b_window, b_many, b_data, b_rows, b_state, b_error, b_iss, b_una, b_nxt, b_max, b_last, b_closed, b_written, b_irs, b_unread, b_bytes, b_held, b_rcv, b_finAt, b_marked, b_wnd, b_peak, b_half, b_rto, b_same, b_tries, b_smooth, b_spread, b_byNumber, b_byAck, b_sampled, b_told, b_retry, b_ackAt, b_waitAt, b_timedAt, b_timed) (zI e) act (zI i)) (by omega) (lk_open he hi (by omega) h0 h1 hs)
    · unfold wpX_open wpY_open
      simp only [x_isEnd he, y_end he]
      refine br_f (by decide) ⟨e_in he, ?_⟩
      rw [e_cl he]
      refine br_f hs (br_t (by trivial) ⟨e_in he, ?_⟩)
      exact br_f (fun z => hs (hst.trans z)) ⟨by trivial, J⟩
  · unfold wpX_open wpY_open
    simp only [x_isEnd_n hne, y_end_n hne]
    exact br_t (by trivial) (br_f (by decide) ⟨by trivial, J⟩)
end
end
section
/-! close and abort -/
section
variable {e : Nat} {L now : Int} {st er tr iss una nxt mx la cl irs rcv fi un fst wnd pk hf rto sa smo tm si rt wt rs nr nw ns : Int} {f_now f_sent : Int32} {a_state a_error a_tries a_iss a_una a_nxt a_max a_last a_closing a_kept a_rcv a_first a_held a_fin a_unread a_came a_ended a_wnd a_peak a_half a_same a_setBy a_setAt a_isSet a_rto a_smooth a_spread a_timed a_since a_retry a_waits a_rest a_segSeq a_segAck a_segFlags a_segWindow a_segLength a_segBytes a_row a_many a_taken : Nat → Int32} {g_now g_sent : Int32} {b_seq b_flags b_acked b_window b_many b_data b_rows b_state b_error b_iss : Nat → Int32} {b_una b_nxt b_max b_last : Nat → Int64} {b_closed b_written b_irs b_unread b_bytes b_held : Nat → Int32} {b_rcv b_finAt : Nat → Int64} {b_marked b_wnd b_peak b_half b_rto b_same b_tries b_smooth b_spread b_byNumber b_byAck b_sampled b_told b_retry b_ackAt b_waitAt b_timedAt : Nat → Int32} {b_timed : Nat → Int64} {u0 : SX} {v0 : SY}
theorem E2_cl {s' : Int} (h : E2 L st iss una nxt mx la cl tm) (hs : st = 4 ∧ s' = 5 ∨ st = 7 ∧ s' = 9) (hc : 0 ≤ cl ∧ cl ≤ 1) : E2 L s' iss una nxt mx la 1 tm := by
  obtain ⟨a1, a2, a3, a4, a5, a6, a7, a8, a9⟩ := h
  have b5 := a5 (by omega)
  have b7 := a7 (by omega)
  refine ⟨a1, a2, fun z => by omega, fun z => by omega, fun _ => ⟨b5.1, b5.2.1, by omega, b5.2.2.2⟩, fun z => by omega, fun _ => b7, fun z => by omega, a9⟩
theorem lk_cl86 {s' : Int} (he : e < 2) (hs : st = 4 ∧ s' = 5 ∨ st = 7 ∧ s' = 9) (I2 : E2 L st iss una nxt mx la cl tm) (ho : ON (1 - e) L now (now + 1) (now + 1) (now + 1) u0 v0) (R : RZ e L now st er tr iss una nxt mx la cl irs rcv fi un fst wnd pk hf rto sa smo tm si rt wt rs (now + 1) (now + 1) (now + 1) u0 v0 (f_now, f_sent, a_state, a_error, a_tries, a_iss, a_una, a_nxt, a_max, a_last, a_closing, a_kept, a_rcv, a_first, a_held, a_fin, a_unread, a_came, a_ended, a_wnd, a_peak, a_half, a_same, a_setBy, a_setAt, a_isSet, a_rto, a_smooth, a_spread, a_timed, a_since, a_retry, a_waits, a_rest, a_segSeq, a_segAck, a_segFlags, a_segWindow, a_segLength, a_segBytes, a_row, a_many, a_taken) (g_now, g_sent, b_seq, b_flags, b_acked, b_window, b_many, b_data, b_rows, b_state, b_error, b_iss, b_una, b_nxt, b_max, b_last, b_closed, b_written, b_irs, b_unread, b_bytes, b_held, b_rcv, b_finAt, b_marked, b_wnd, b_peak, b_half, b_rto, b_same, b_tries, b_smooth, b_spread, b_byNumber, b_byAck, b_sampled, b_told, b_retry, b_ackAt, b_waitAt, b_timedAt, b_timed)) :
    LK ap1 aq1 (fun p => wX_close_86 p (zI e) (zI s') (zI e) f_now f_sent a_state a_error a_tries a_iss a_una a_nxt a_max a_last a_closing a_kept a_rcv a_first a_held a_fin a_unread a_came a_ended a_wnd a_peak a_half a_same a_setBy a_setAt a_isSet a_rto a_smooth a_spread a_timed a_since a_retry a_waits a_rest a_segSeq a_segAck a_segFlags a_segWindow a_segLength a_segBytes a_row a_many a_taken) (fun p => wY_close_67 p (zI e) (zI s') (zI e) g_now g_sent b_seq b_flags b_acked b_window b_many b_data b_rows b_state b_error b_iss b_una b_nxt b_max b_last b_closed b_written b_irs b_unread b_bytes b_held b_rcv b_finAt b_marked b_wnd b_peak b_half b_rto b_same b_tries b_smooth b_spread b_byNumber b_byAck b_sampled b_told b_retry b_ackAt b_waitAt b_timedAt b_timed) (QT L now) := by
  have hne : 1 - e ≠ e := by omega
  obtain ⟨R, F⟩ := R
  obtain ⟨rfl, rfl, xst, xer, xtr, xiss, xuna, xnxt, xmx, xla, xcl, xrcv, xfst, xfi, xun, xen, xwnd, xpk, xhf, xrto, xsm, xsb, xsa, xis, xsmo, xspr, xtm, xsi, xrt, xwt, xrs, yst, yer, ytr, yiss, yuna, ynxt, ymx, yla, ycl, yirs, yrcv, yfi, yun, ywnd, ypk, yhf, yrto, ysa, ysmo, ytm, ysi, yrt, ywt, yrs, I1, I3, I4, I5, K, C, H, W⟩ := RE_el R
  have b1 := I1
  unfold E1 at b1
  have hz : vp_nar .byte ((zI s').toInt8.toInt32) = zI s' := by rw [zI_8 (by omega), zI_n8 (by omega)]
  unfold wX_close_86 wY_close_67
  refine LX_a (e_in he) (LY_a (e_in he) ?_)
  rw [e_cl he, hz]
  refine LX_n (LX_a (e_in he) (LX_n (LY_n (LY_a (e_in he) (LY_n ?_)))))
  have h2 : 2 ≤ st := by omega
  have h1 : 1 ≤ st := by omega
  have hn0 : st ≠ 0 := by omega
  have xen' : a_ended e = zI (if 6 < s' then 1 else 0) := by
    rw [show (if 6 < s' then (1 : Int) else 0) = if 6 < st then 1 else 0 by rcases hs with ⟨rfl, rfl⟩ | ⟨rfl, rfl⟩ <;> rfl]
    exact xen hn0
  have J2 : E2 L s' iss una nxt mx la 1 tm := E2_cl I2 hs b1.2.2.2.1
  have Q1 : RZ e L now s' er tr iss una nxt mx la 1 irs rcv fi un fst wnd pk hf rto sa smo tm si rt wt rs (now + 1) (now + 1) (now + 1) u0 v0 (zI now, f_sent, upd a_state e (zI s'), a_error, a_tries, a_iss, a_una, a_nxt, a_max, a_last, upd a_closing e (vp_nar .boolean 1), a_kept, a_rcv, a_first, a_held, a_fin, a_unread, a_came, a_ended, a_wnd, a_peak, a_half, a_same, a_setBy, a_setAt, a_isSet, a_rto, a_smooth, a_spread, a_timed, a_since, a_retry, a_waits, a_rest, a_segSeq, a_segAck, a_segFlags, a_segWindow, a_segLength, a_segBytes, a_row, a_many, a_taken) (zI now, g_sent, b_seq, b_flags, b_acked, b_window, b_many, b_data, b_rows, upd b_state e (zI s'), b_error, b_iss, b_una, b_nxt, b_max, b_last, upd b_closed e (vp_nar .boolean 1), b_written, b_irs, b_unread, b_bytes, b_held, b_rcv, b_finAt, b_marked, b_wnd, b_peak, b_half, b_rto, b_same, b_tries, b_smooth, b_spread, b_byNumber, b_byAck, b_sampled, b_told, b_retry, b_ackAt, b_waitAt, b_timedAt, b_timed) := by
    refine ⟨RE_in ⟨rfl, rfl, pk_us, xer, fun _ => xtr hn0, xiss, fun _ => xuna h2, fun _ => xnxt h2, fun _ => xmx h2, fun _ => xla h1, fun _ => pk_us, fun _ => xrcv h1, xfst, xfi, xun, fun _ => xen', xwnd, xpk, xhf, xrto, fun _ => xsm hn0, xsb, xsa, xis, xsmo, xspr, xtm, xsi, xrt, xwt, xrs, pk_us, yer, ytr, yiss, yuna, ynxt, ymx, yla, pk_us, yirs, yrcv, yfi, yun, ywnd, ypk, yhf, yrto, ysa, ysmo, ytm, ysi, yrt, ywt, yrs, ?_, ?_, I4, ?_, K, C, ?_, W⟩, FR_s F ?_ ?_ rfl⟩
    · clear I3 I5
      rcases hs with ⟨rfl, rfl⟩ | ⟨rfl, rfl⟩ <;> exact ⟨by omega, by omega, by omega, by omega, fun z => by omega, fun _ => rfl⟩
    · obtain ⟨a1, a2, a3, a4, a5, a6, a7, a8⟩ := I3
      rcases hs with ⟨rfl, rfl⟩ | ⟨rfl, rfl⟩
      · exact ⟨a1, a2, a3, a4, by omega, fun _ => a6 (by omega), fun _ => a7 (by omega), fun z => by omega⟩
      · exact ⟨a1, a2, a3, a4, by omega, fun _ => a6 (by omega), fun z => by omega, fun z => by omega⟩
    · rcases hs with ⟨rfl, rfl⟩ | ⟨rfl, rfl⟩ <;> exact E5_st I5 (fun z => by omega) (fun z => by omega)
    · rcases hs with ⟨rfl, rfl⟩ | ⟨rfl, rfl⟩
      · exact ⟨H.1, H.2.1, H.2.2.1, fun z => by omega⟩
      · exact ⟨H.1, H.2.1, H.2.2.1, fun _ => H.2.2.2 (by omega)⟩
    · simp only [vX, pk_un hne]
    · simp only [vY, pk_un hne]
  refine LK_b (lk_flow he (by omega) J2 Q1) ?_
  intro f_now1 f_sent1 a_state1 a_error1 a_tries1 a_iss1 a_una1 a_nxt1 a_max1 a_last1 a_closing1 a_kept1 a_rcv1 a_first1 a_held1 a_fin1 a_unread1 a_came1 a_ended1 a_wnd1 a_peak1 a_half1 a_same1 a_setBy1 a_setAt1 a_isSet1 a_rto1 a_smooth1 a_spread1 a_timed1 a_since1 a_retry1 a_waits1 a_rest1 a_segSeq1 a_segAck1 a_segFlags1 a_segWindow1 a_segLength1 a_segBytes1 a_row1 a_many1 a_taken1 g_now1 g_sent1 b_seq1 b_flags1 b_acked1 b_window1 b_many1 b_data1 b_rows1 b_state1 b_error1 b_iss1 b_una1 b_nxt1 b_max1 b_last1 b_closed1 b_written1 b_irs1 b_unread1 b_bytes1 b_held1 b_rcv1 b_finAt1 b_marked1 b_wnd1 b_peak1 b_half1 b_rto1 b_same1 b_tries1 b_smooth1 b_spread1 b_byNumber1 b_byAck1 b_sampled1 b_told1 b_retry1 b_ackAt1 b_waitAt1 b_timedAt1 b_timed1 Z1
  obtain ⟨nxt1, mx1, tm1, si1, rt1, wt1, R1, J1⟩ := Z1
  have R10 := R1
  obtain ⟨R1, F1⟩ := R1
  obtain ⟨xnow1, ynow1, xst1, xer1, xtr1, xiss1, xuna1, xnxt1, xmx1, xla1, xcl1, xrcv1, xfst1, xfi1, xun1, xen1, xwnd1, xpk1, xhf1, xrto1, xsm1, xsb1, xsa1, xis1, xsmo1, xspr1, xtm1, xsi1, xrt1, xwt1, xrs1, yst1, yer1, ytr1, yiss1, yuna1, ynxt1, ymx1, yla1, ycl1, yirs1, yrcv1, yfi1, yun1, ywnd1, ypk1, yhf1, yrto1, ysa1, ysmo1, ytm1, ysi1, yrt1, ywt1, yrs1, I11, I31, I41, I51, K1, C1, H1, W1⟩ := RE_el R1
  refine LX_a (e_in he) (LY_a (e_in he) ?_)
  rw [xst1, yst1]
  exact LK_r1 (QT_i he rfl (OK_i R10 J1) ho)
theorem lk_cl56 (he : e < 2) (hs : 1 ≤ st) (I2 : E2 L st iss una nxt mx la cl tm) (ho : ON (1 - e) L now (now + 1) (now + 1) (now + 1) u0 v0) (R : RZ e L now st er tr iss una nxt mx la cl irs rcv fi un fst wnd pk hf rto sa smo tm si rt wt rs (now + 1) (now + 1) (now + 1) u0 v0 (f_now, f_sent, a_state, a_error, a_tries, a_iss, a_una, a_nxt, a_max, a_last, a_closing, a_kept, a_rcv, a_first, a_held, a_fin, a_unread, a_came, a_ended, a_wnd, a_peak, a_half, a_same, a_setBy, a_setAt, a_isSet, a_rto, a_smooth, a_spread, a_timed, a_since, a_retry, a_waits, a_rest, a_segSeq, a_segAck, a_segFlags, a_segWindow, a_segLength, a_segBytes, a_row, a_many, a_taken) (g_now, g_sent, b_seq, b_flags, b_acked, b_window, b_many, b_data, b_rows, b_state, b_error, b_iss, b_una, b_nxt, b_max, b_last, b_closed, b_written, b_irs, b_unread, b_bytes, b_held, b_rcv, b_finAt, b_marked, b_wnd, b_peak, b_half, b_rto, b_same, b_tries, b_smooth, b_spread, b_byNumber, b_byAck, b_sampled, b_told, b_retry, b_ackAt, b_waitAt, b_timedAt, b_timed)) :
    LK ap1 aq1 (fun p => wX_close_56 p (zI e) f_now f_sent a_state a_error a_tries a_iss a_una a_nxt a_max a_last a_closing a_kept a_rcv a_first a_held a_fin a_unread a_came a_ended a_wnd a_peak a_half a_same a_setBy a_setAt a_isSet a_rto a_smooth a_spread a_timed a_since a_retry a_waits a_rest a_segSeq a_segAck a_segFlags a_segWindow a_segLength a_segBytes a_row a_many a_taken) (fun p => wY_close_30 p (zI e) g_now g_sent b_seq b_flags b_acked b_window b_many b_data b_rows b_state b_error b_iss b_una b_nxt b_max b_last b_closed b_written b_irs b_unread b_bytes b_held b_rcv b_finAt b_marked b_wnd b_peak b_half b_rto b_same b_tries b_smooth b_spread b_byNumber b_byAck b_sampled b_told b_retry b_ackAt b_waitAt b_timedAt b_timed) (QT L now) := by
  have b1 := (RE_el R.1).2.2.2.2.2.2.2.2.2.2.2.2.2.2.2.2.2.2.2.2.2.2.2.2.2.2.2.2.2.2.2.2.2.2.2.2.2.2.2.2.2.2.2.2.2.2.2.2.2.2.2.2.2.2.2.1
  unfold E1 at b1
  have her : er = 0 := by omega
  subst her
  unfold wX_close_56 wY_close_30
  refine LK_b (lk_over (why := 0) (code := 0) he (by omega) rfl R) ?_
  intro f_now1 f_sent1 a_state1 a_error1 a_tries1 a_iss1 a_una1 a_nxt1 a_max1 a_last1 a_closing1 a_kept1 a_rcv1 a_first1 a_held1 a_fin1 a_unread1 a_came1 a_ended1 a_wnd1 a_peak1 a_half1 a_same1 a_setBy1 a_setAt1 a_isSet1 a_rto1 a_smooth1 a_spread1 a_timed1 a_since1 a_retry1 a_waits1 a_rest1 a_segSeq1 a_segAck1 a_segFlags1 a_segWindow1 a_segLength1 a_segBytes1 a_row1 a_many1 a_taken1 g_now1 g_sent1 b_seq1 b_flags1 b_acked1 b_window1 b_many1 b_data1 b_rows1 b_state1 b_error1 b_iss1 b_una1 b_nxt1 b_max1 b_last1 b_closed1 b_written1 b_irs1 b_unread1 b_bytes1 b_held1 b_rcv1 b_finAt1 b_marked1 b_wnd1 b_peak1 b_half1 b_rto1 b_same1 b_tries1 b_smooth1 b_spread1 b_byNumber1 b_byAck1 b_sampled1 b_told1 b_retry1 b_ackAt1 b_waitAt1 b_timedAt1 b_timed1 R1
  have R10 := R1
  obtain ⟨R1, F1⟩ := R1
  obtain ⟨xnow1, ynow1, xst1, xer1, xtr1, xiss1, xuna1, xnxt1, xmx1, xla1, xcl1, xrcv1, xfst1, xfi1, xun1, xen1, xwnd1, xpk1, xhf1, xrto1, xsm1, xsb1, xsa1, xis1, xsmo1, xspr1, xtm1, xsi1, xrt1, xwt1, xrs1, yst1, yer1, ytr1, yiss1, yuna1, ynxt1, ymx1, yla1, ycl1, yirs1, yrcv1, yfi1, yun1, ywnd1, ypk1, yhf1, yrto1, ysa1, ysmo1, ytm1, ysi1, yrt1, ywt1, yrs1, I11, I31, I41, I51, K1, C1, H1, W1⟩ := RE_el R1
  refine LX_a (e_in he) (LY_a (e_in he) ?_)
  rw [e_cl he, xst1, yst1]
  exact LK_r1 (QT_i he rfl (OK_i R10 (E2_0 I2)) ho)
theorem i_vc_close {k : Nat} {u : SX} {v : SY} (I : i_Rel k u v) (hk : k + 8 ≤ 4096) (v1 : Int32) : wpX_close (fun r u' => wpY_close (fun r' v' => r' = r ∧ i_Rel (k + 8) u' v') v v1) u v1 := by
  have J := i_up I
  obtain ⟨now, hn, hr⟩ := I (by omega)
  obtain ⟨f_now, f_sent, a_state, a_error, a_tries, a_iss, a_una, a_nxt, a_max, a_last, a_closing, a_kept, a_rcv, a_first, a_held, a_fin, a_unread, a_came, a_ended, a_wnd, a_peak, a_half, a_same, a_setBy, a_setAt, a_isSet, a_rto, a_smooth, a_spread, a_timed, a_since, a_retry, a_waits, a_rest, a_segSeq, a_segAck, a_segFlags, a_segWindow, a_segLength, a_segBytes, a_row, a_many, a_taken⟩ := u
  obtain ⟨g_now, g_sent, b_seq, b_flags, b_acked, b_window, b_many, b_data, b_rows, b_state, b_error, b_iss, b_una, b_nxt, b_max, b_last, b_closed, b_written, b_irs, b_unread, b_bytes, b_held, b_rcv, b_finAt, b_marked, b_wnd, b_peak, b_half, b_rto, b_same, b_tries, b_smooth, b_spread, b_byNumber, b_byAck, b_sampled, b_told, b_retry, b_ackAt, b_waitAt, b_timedAt, b_timed⟩ := v
  rcases end_c v1 with ⟨e, he, rfl⟩ | hne
  · have h0 := ON_L (L' := 1000 + 100 * ((k + 8 : Nat) : Int)) (hr e he) (by omega) (by omega)
    have h1 := ON_L (L' := 1000 + 100 * ((k + 8 : Nat) : Int)) (hr (1 - e) (by omega)) (by omega) (by omega)
    refine ON_el h0 ?_
    intro st er tr iss una nxt mx la cl irs rcv fi un fst wnd pk hf rto sa smo tm si rt wt rs R I2
    have R0 := R
    obtain ⟨xnow, ynow, xst, xer, xtr, xiss, xuna, xnxt, xmx, xla, xcl, xrcv, xfst, xfi, xun, xen, xwnd, xpk, xhf, xrto, xsm, xsb, xsa, xis, xsmo, xspr, xtm, xsi, xrt, xwt, xrs, yst, yer, ytr, yiss, yuna, ynxt, ymx, yla, ycl, yirs, yrcv, yfi, yun, ywnd, ypk, yhf, yrto, ysa, ysmo, ytm, ysi, yrt, ywt, yrs, I1, I3, I4, I5, K, C, H, W⟩ := RE_el R
    have hst := I1.1
    by_cases hc : st = 1 ∨ st = 2 ∨ st = 4 ∨ st = 7
    · refine top1 (WX := fun p => wpX_close p (f_now, f_sent, a_state, a_error, a_tries, a_iss, a_una, a_nxt, a_max, a_last, a_closing, a_kept, a_rcv, a_first, a_held, a_fin, a_unread, a_came, a_ended, a_wnd, a_peak, a_half, a_same, a_setBy, a_setAt, a_isSet, a_rto, a_smooth, a_spread, a_timed, a_since, a_retry, a_waits, a_rest, a_segSeq, a_segAck, a_segFlags, a_segWindow, a_segLength, a_segBytes, a_row, a_many, a_taken) (zI e)) (WY := fun p => wpY_close p (g_now, g_sent, b_seq, b_flags, b_acked, b_window, b_many, b_data, b_rows, b_state, b_error, b_iss, b_una, b_nxt, b_max, b_last, b_closed, b_written, b_irs, b_unread, b_bytes, b_held, b_rcv, b_finAt, b_marked, b_wnd, b_peak, b_half, b_rto, b_same, b_tries, b_smooth, b_spread, b_byNumber, b_byAck, b_sampled, b_told, b_retry, b_ackAt, b_waitAt, b_timedAt, b_timed) (zI e)) (k := k) (now := now) (by omega) ?_
      unfold wpX_close wpY_close wY_close_19
      simp only [x_isEnd he, y_end he]
      refine LX_f (by decide) (LX_a (e_in he) (LY_t (by trivial) (LY_a (e_in he) ?_)))
      rw [e_cl he, xst, yst]
      refine LX_n ?_
      rcases hc with rfl | rfl | rfl | rfl
      · refine LX_f (by decide) (LX_f (by decide) (LX_t rfl (LY_t rfl ?_)))
        exact lk_cl56 he (by omega) I2 h1 ⟨R0, FR_r⟩
      · refine LX_f (by decide) (LX_f (by decide) (LX_f (by decide) (LX_t rfl (LY_f (by decide) (LY_t rfl ?_)))))
        exact lk_cl56 he (by omega) I2 h1 ⟨R0, FR_r⟩
      · refine LX_f (by decide) (LX_f (by decide) (LX_f (by decide) (LX_f (by decide) (LX_f (by decide) (LX_t rfl ?_)))))
        refine LY_f (by decide) (LY_f (by decide) (LY_t rfl ?_))
        unfold wX_close_65 wY_close_50
        refine LX_a (e_in he) ?_
        rw [e_cl he, xst]
        exact LX_t rfl (LY_f (by decide) (lk_cl86 (s' := 5) he (by omega) I2 h1 ⟨R0, FR_r⟩))
      · refine LX_f (by decide) (LX_f (by decide) (LX_f (by decide) (LX_f (by decide) (LX_f (by decide) (LX_f (by decide) (LX_f (by decide) (LX_f (by decide) (LX_t rfl ?_))))))))
        refine LY_f (by decide) (LY_f (by decide) (LY_f (by decide) (LY_t rfl ?_)))
        unfold wX_close_65 wY_close_50
        refine LX_a (e_in he) ?_
        rw [e_cl he, xst]
        exact LX_f (by decide) (LY_t rfl (lk_cl86 (s' := 9) he (by omega) I2 h1 ⟨R0, FR_r⟩))
    · have hc2 : st = 0 ∨ st = 3 ∨ st = 5 ∨ st = 6 ∨ st = 8 ∨ st = 9 ∨ st = 10 := by omega
      unfold wpX_close wpY_close wY_close_19
      simp only [x_isEnd he, y_end he]
      refine br_f (by decide) ⟨e_in he, ?_⟩
      rw [e_cl he, xst, yst]
      refine nm_e ?_
      rcases hc2 with rfl | rfl | rfl | rfl | rfl | rfl | rfl
      · exact br_t (by decide) (br_t (by trivial) ⟨e_in he, br_f (by decide) (br_f (by decide) (br_f (by decide) (br_f (by decide) ⟨by trivial, J⟩)))⟩)
      · exact (br_f (by decide) (br_f (by decide) (br_f (by decide) (br_f (by decide) (br_t rfl (br_t (by trivial) ⟨e_in he, br_f (by decide) (br_f (by decide) (br_f (by decide) (br_f (by decide) ⟨by trivial, J⟩)))⟩))))))
      · exact (br_f (by decide) (br_f (by decide) (br_f (by decide) (br_f (by decide) (br_f (by decide) (br_f (by decide) (br_t rfl (br_t (by trivial) ⟨e_in he, br_f (by decide) (br_f (by decide) (br_f (by decide) (br_f (by decide) ⟨by trivial, J⟩)))⟩))))))))
      · exact (br_f (by decide) (br_f (by decide) (br_f (by decide) (br_f (by decide) (br_f (by decide) (br_f (by decide) (br_f (by decide) (br_t rfl (br_t (by trivial) ⟨e_in he, br_f (by decide) (br_f (by decide) (br_f (by decide) (br_f (by decide) ⟨by trivial, J⟩)))⟩)))))))))
      · exact (br_f (by decide) (br_t (by decide) (br_t (by trivial) ⟨e_in he, br_f (by decide) (br_f (by decide) (br_f (by decide) (br_f (by decide) ⟨by trivial, J⟩)))⟩)))
      · exact (br_f (by decide) (br_t (by decide) (br_t (by trivial) ⟨e_in he, br_f (by decide) (br_f (by decide) (br_f (by decide) (br_f (by decide) ⟨by trivial, J⟩)))⟩)))
      · exact (br_f (by decide) (br_t (by decide) (br_t (by trivial) ⟨e_in he, br_f (by decide) (br_f (by decide) (br_f (by decide) (br_f (by decide) ⟨by trivial, J⟩)))⟩)))
  · unfold wpX_close wpY_close wY_close_19
    simp only [x_isEnd_n hne, y_end_n hne]
    refine br_t (by trivial) (br_f (by decide) ?_)
    exact br_f (by decide) (br_f (by decide) (br_f (by decide) (br_f (by decide) ⟨by trivial, J⟩)))
theorem lk_ab61 {x2 : Int32} (he : e < 2) (hs : 1 ≤ st) (I2 : E2 L st iss una nxt mx la cl tm) (ho : ON (1 - e) L now (now + 1) (now + 1) (now + 1) u0 v0) (R : RZ e L now st er tr iss una nxt mx la cl irs rcv fi un fst wnd pk hf rto sa smo tm si rt wt rs (now + 1) (now + 1) (now + 1) u0 v0 (f_now, f_sent, a_state, a_error, a_tries, a_iss, a_una, a_nxt, a_max, a_last, a_closing, a_kept, a_rcv, a_first, a_held, a_fin, a_unread, a_came, a_ended, a_wnd, a_peak, a_half, a_same, a_setBy, a_setAt, a_isSet, a_rto, a_smooth, a_spread, a_timed, a_since, a_retry, a_waits, a_rest, a_segSeq, a_segAck, a_segFlags, a_segWindow, a_segLength, a_segBytes, a_row, a_many, a_taken) (g_now, g_sent, b_seq, b_flags, b_acked, b_window, b_many, b_data, b_rows, b_state, b_error, b_iss, b_una, b_nxt, b_max, b_last, b_closed, b_written, b_irs, b_unread, b_bytes, b_held, b_rcv, b_finAt, b_marked, b_wnd, b_peak, b_half, b_rto, b_same, b_tries, b_smooth, b_spread, b_byNumber, b_byAck, b_sampled, b_told, b_retry, b_ackAt, b_waitAt, b_timedAt, b_timed)) :
    LK ap1 aq1 (fun p => wX_abort_61 p (zI e) x2 f_now f_sent a_state a_error a_tries a_iss a_una a_nxt a_max a_last a_closing a_kept a_rcv a_first a_held a_fin a_unread a_came a_ended a_wnd a_peak a_half a_same a_setBy a_setAt a_isSet a_rto a_smooth a_spread a_timed a_since a_retry a_waits a_rest a_segSeq a_segAck a_segFlags a_segWindow a_segLength a_segBytes a_row a_many a_taken) (fun p => wY_abort_56 p (zI e) x2 g_now g_sent b_seq b_flags b_acked b_window b_many b_data b_rows b_state b_error b_iss b_una b_nxt b_max b_last b_closed b_written b_irs b_unread b_bytes b_held b_rcv b_finAt b_marked b_wnd b_peak b_half b_rto b_same b_tries b_smooth b_spread b_byNumber b_byAck b_sampled b_told b_retry b_ackAt b_waitAt b_timedAt b_timed) (QT L now) := by
  have b1 := (RE_el R.1).2.2.2.2.2.2.2.2.2.2.2.2.2.2.2.2.2.2.2.2.2.2.2.2.2.2.2.2.2.2.2.2.2.2.2.2.2.2.2.2.2.2.2.2.2.2.2.2.2.2.2.2.2.2.2.1
  unfold E1 at b1
  have her : er = 0 := by omega
  subst her
  unfold wX_abort_61 wY_abort_56
  refine LK_b (lk_over (why := 0) (code := 0) he (by omega) rfl R) ?_
  intro f_now1 f_sent1 a_state1 a_error1 a_tries1 a_iss1 a_una1 a_nxt1 a_max1 a_last1 a_closing1 a_kept1 a_rcv1 a_first1 a_held1 a_fin1 a_unread1 a_came1 a_ended1 a_wnd1 a_peak1 a_half1 a_same1 a_setBy1 a_setAt1 a_isSet1 a_rto1 a_smooth1 a_spread1 a_timed1 a_since1 a_retry1 a_waits1 a_rest1 a_segSeq1 a_segAck1 a_segFlags1 a_segWindow1 a_segLength1 a_segBytes1 a_row1 a_many1 a_taken1 g_now1 g_sent1 b_seq1 b_flags1 b_acked1 b_window1 b_many1 b_data1 b_rows1 b_state1 b_error1 b_iss1 b_una1 b_nxt1 b_max1 b_last1 b_closed1 b_written1 b_irs1 b_unread1 b_bytes1 b_held1 b_rcv1 b_finAt1 b_marked1 b_wnd1 b_peak1 b_half1 b_rto1 b_same1 b_tries1 b_smooth1 b_spread1 b_byNumber1 b_byAck1 b_sampled1 b_told1 b_retry1 b_ackAt1 b_waitAt1 b_timedAt1 b_timed1 R1
  exact LK_r1 (QT_i he rfl (OK_i R1 (E2_0 I2)) ho)
theorem lk_abort (he : e < 2) (hs : st ≠ 0) (I2 : E2 L st iss una nxt mx la cl tm) (ho : ON (1 - e) L now (now + 1) (now + 1) (now + 1) u0 v0) (R : RZ e L now st er tr iss una nxt mx la cl irs rcv fi un fst wnd pk hf rto sa smo tm si rt wt rs (now + 1) (now + 1) (now + 1) u0 v0 (f_now, f_sent, a_state, a_error, a_tries, a_iss, a_una, a_nxt, a_max, a_last, a_closing, a_kept, a_rcv, a_first, a_held, a_fin, a_unread, a_came, a_ended, a_wnd, a_peak, a_half, a_same, a_setBy, a_setAt, a_isSet, a_rto, a_smooth, a_spread, a_timed, a_since, a_retry, a_waits, a_rest, a_segSeq, a_segAck, a_segFlags, a_segWindow, a_segLength, a_segBytes, a_row, a_many, a_taken) (g_now, g_sent, b_seq, b_flags, b_acked, b_window, b_many, b_data, b_rows, b_state, b_error, b_iss, b_una, b_nxt, b_max, b_last, b_closed, b_written, b_irs, b_unread, b_bytes, b_held, b_rcv, b_finAt, b_marked, b_wnd, b_peak, b_half, b_rto, b_same, b_tries, b_smooth, b_spread, b_byNumber, b_byAck, b_sampled, b_told, b_retry, b_ackAt, b_waitAt, b_timedAt, b_timed)) :
    LK ap1 aq1 (fun p => wpX_abort p (f_now, f_sent, a_state, a_error, a_tries, a_iss, a_una, a_nxt, a_max, a_last, a_closing, a_kept, a_rcv, a_first, a_held, a_fin, a_unread, a_came, a_ended, a_wnd, a_peak, a_half, a_same, a_setBy, a_setAt, a_isSet, a_rto, a_smooth, a_spread, a_timed, a_since, a_retry, a_waits, a_rest, a_segSeq, a_segAck, a_segFlags, a_segWindow, a_segLength, a_segBytes, a_row, a_many, a_taken) (zI e)) (fun p => wpY_abort p (g_now, g_sent, b_seq, b_flags, b_acked, b_window, b_many, b_data, b_rows, b_state, b_error, b_iss, b_una, b_nxt, b_max, b_last, b_closed, b_written, b_irs, b_unread, b_bytes, b_held, b_rcv, b_finAt, b_marked, b_wnd, b_peak, b_half, b_rto, b_same, b_tries, b_smooth, b_spread, b_byNumber, b_byAck, b_sampled, b_told, b_retry, b_ackAt, b_waitAt, b_timedAt, b_timed) (zI e)) (QT L now) := by
  have R0 := R
  obtain ⟨R, F⟩ := R
  obtain ⟨xnow, ynow, xst, xer, xtr, xiss, xuna, xnxt, xmx, xla, xcl, xrcv, xfst, xfi, xun, xen, xwnd, xpk, xhf, xrto, xsm, xsb, xsa, xis, xsmo, xspr, xtm, xsi, xrt, xwt, xrs, yst, yer, ytr, yiss, yuna, ynxt, ymx, yla, ycl, yirs, yrcv, yfi, yun, ywnd, ypk, yhf, yrto, ysa, ysmo, ytm, ysi, yrt, ywt, yrs, I1, I3, I4, I5, K, C, H, W⟩ := RE_el R
  have b1 := I1
  unfold E1 at b1
  have c0 : ¬ zI st = 0 := by rw [zl_0, zI_eq (by omega)]; exact hs
  have c2 : zI st ≤ 2 ↔ st ≤ 2 := by rw [zl_2, zI_le (by omega)]
  have c10 : 10 ≤ zI st ↔ 10 ≤ st := by rw [zl_10, zI_le (by omega)]
  unfold wpX_abort wpY_abort
  simp only [x_isEnd he, y_end he]
  refine LX_f (by decide) (LX_a (e_in he) (LY_t (by trivial) (LY_a (e_in he) ?_)))
  rw [e_cl he, xst, yst]
  refine LX_f c0 (LX_a (e_in he) (LX_n (LY_f c0 (LY_a (e_in he) (LY_n ?_)))))
  by_cases h2 : st ≤ 2
  · exact LX_t (c2.mpr h2) (LY_t (c2.mpr h2) (lk_ab61 he (by omega) I2 ho R0))
  · refine LX_f (fun z => h2 (c2.mp z)) (LY_f (fun z => h2 (c2.mp z)) ?_)
    by_cases h10 : 10 ≤ st
    · exact LX_t (c10.mpr h10) (LY_t (c10.mpr h10) (lk_ab61 he (by omega) I2 ho R0))
    · refine LX_f (fun z => h10 (c10.mp z)) (LY_f (fun z => h10 (c10.mp z)) (LY_a (e_in he) ?_))
      have b2 := E2_b I2 (by omega)
      rw [ynxt]
      simp only [y_number he yiss b2.1]
      obtain ⟨m, sg, hrw, hER, hES⟩ := W
      have hm16 := hES.1
      by_cases hm : m = 16
      · subst hm
        have hr : zI (-1) < 0 := by decide
        refine LK_x (fun p h => x_slot_f he hER.1 (br_t hr h)) ?_
        unfold wpY_refuse
        refine LK_y (fun p h => y_post_f he hrw h) ?_
        exact lk_ab61 he (by omega) I2 ho (RZ_full R0)
      · obtain ⟨k, hk, hb1, hb2⟩ := sl_free hES (by omega)
        have hc1 : ¬ zI (16 * e + k) < 0 := by rw [zl_0, zI_lt (by omega)]; omega
        have hc3 : 0 ≤ 16 * (e : Int) + k ∧ 16 * (e : Int) + k < 32 := by omega
        have hmm : m < 16 := by omega
        have xnx := xnxt (by omega)
        have K1 := RZ_put0 (sq := (iss + nxt) % 65536) (fx := 8) (ak := 0) (wn := 0) he R0 hmm hER hES hk hb1 (by omega) (by omega) (by omega) (by omega) (fun _ => rfl)
        apply LK_x
        · intro p h
          refine x_slot he hER.1 hmm hk hb1 hb2 ?_
          refine br_f hc1 ⟨e_in he, ?_⟩
          dsimp only
          rw [xnx]
          exact x_stamp (q := (iss + nxt) % 65536) (f := 8) (a := 0) (w := 0) hc3 (by decide) (by decide) h
        unfold wpY_refuse
        apply LK_y
        · intro p h
          exact y_post he hrw hmm h
        exact lk_ab61 he (by omega) I2 ho K1
theorem i_vc_abort {k : Nat} {u : SX} {v : SY} (I : i_Rel k u v) (hk : k + 8 ≤ 4096) (v1 : Int32) : wpX_abort (fun r u' => wpY_abort (fun r' v' => r' = r ∧ i_Rel (k + 8) u' v') v v1) u v1 := by
  have J := i_up I
  obtain ⟨now, hn, hr⟩ := I (by omega)
  obtain ⟨f_now, f_sent, a_state, a_error, a_tries, a_iss, a_una, a_nxt, a_max, a_last, a_closing, a_kept, a_rcv, a_first, a_held, a_fin, a_unread, a_came, a_ended, a_wnd, a_peak, a_half, a_same, a_setBy, a_setAt, a_isSet, a_rto, a_smooth, a_spread, a_timed, a_since, a_retry, a_waits, a_rest, a_segSeq, a_segAck, a_segFlags, a_segWindow, a_segLength, a_segBytes, a_row, a_many, a_taken⟩ := u
  obtain ⟨g_now, g_sent, b_seq, b_flags, b_acked, b_window, b_many, b_data, b_rows, b_state, b_error, b_iss, b_una, b_nxt, b_max, b_last, b_closed, b_written, b_irs, b_unread, b_bytes, b_held, b_rcv, b_finAt, b_marked, b_wnd, b_peak, b_half, b_rto, b_same, b_tries, b_smooth, b_spread, b_byNumber, b_byAck, b_sampled, b_told, b_retry, b_ackAt, b_waitAt, b_timedAt, b_timed⟩ := v
  rcases end_c v1 with ⟨e, he, rfl⟩ | hne
  · have h0 := ON_L (L' := 1000 + 100 * ((k + 8 : Nat) : Int)) (hr e he) (by omega) (by omega)
    have h1 := ON_L (L' := 1000 + 100 * ((k + 8 : Nat) : Int)) (hr (1 - e) (by omega)) (by omega) (by omega)
    refine ON_el h0 ?_
    intro st er tr iss una nxt mx la cl irs rcv fi un fst wnd pk hf rto sa smo tm si rt wt rs R I2
    by_cases hs : st = 0
    · subst hs
      obtain ⟨xnow, ynow, xst, xer, xtr, xiss, xuna, xnxt, xmx, xla, xcl, xrcv, xfst, xfi, xun, xen, xwnd, xpk, xhf, xrto, xsm, xsb, xsa, xis, xsmo, xspr, xtm, xsi, xrt, xwt, xrs, yst, yer, ytr, yiss, yuna, ynxt, ymx, yla, ycl, yirs, yrcv, yfi, yun, ywnd, ypk, yhf, yrto, ysa, ysmo, ytm, ysi, yrt, ywt, yrs, I1, I3, I4, I5, K, C, H, W⟩ := RE_el R
      unfold wpX_abort wpY_abort
      simp only [x_isEnd he, y_end he]
      refine br_f (by decide) ⟨e_in he, ?_⟩
      rw [e_cl he, xst, yst]
      exact br_t rfl (br_t (by trivial) ⟨e_in he, br_t rfl ⟨by trivial, J⟩⟩)
    · exact top1 (WX := fun p => wpX_abort p (f_now, f_sent, a_state, a_error, a_tries, a_iss, a_una, a_nxt, a_max, a_last, a_closing, a_kept, a_rcv, a_first, a_held, a_fin, a_unread, a_came, a_ended, a_wnd, a_peak, a_half, a_same, a_setBy, a_setAt, a_isSet, a_rto, a_smooth, a_spread, a_timed, a_since, a_retry, a_waits, a_rest, a_segSeq, a_segAck, a_segFlags, a_segWindow, a_segLength, a_segBytes, a_row, a_many, a_taken) (zI e)) (WY := fun p => wpY_abort p (g_now, g_sent, b_seq, b_flags, b_acked, b_window, b_many, b_data, b_rows, b_state, b_error, b_iss, b_una, b_nxt, b_max, b_last, b_closed, b_written, b_irs, b_unread, b_bytes, b_held, b_rcv, b_finAt, b_marked, b_wnd, b_peak, b_half, b_rto, b_same, b_tries, b_smooth, b_spread, b_byNumber, b_byAck, b_sampled, b_told, b_retry, b_ackAt, b_waitAt, b_timedAt, b_timed) (zI e)) (by omega) (lk_abort he hs I2 h1 ⟨R, FR_r⟩)
  · unfold wpX_abort wpY_abort
    simp only [x_isEnd_n hne, y_end_n hne]
    exact br_t (by trivial) (br_f (by decide) ⟨by trivial, J⟩)
end
end
section
/-! bytes that are kept -/
def kb (st una la : Int) : Int := if st < 2 then 0 else if una = 0 then la - 1 else if una ≤ la then la - una else 0
section
variable {e : Nat} {L now : Int} {st er tr iss una nxt mx la cl irs rcv fi un fst wnd pk hf rto sa smo tm si rt wt rs nr nw ns : Int} {f_now f_sent : Int32} {a_state a_error a_tries a_iss a_una a_nxt a_max a_last a_closing a_kept a_rcv a_first a_held a_fin a_unread a_came a_ended a_wnd a_peak a_half a_same a_setBy a_setAt a_isSet a_rto a_smooth a_spread a_timed a_since a_retry a_waits a_rest a_segSeq a_segAck a_segFlags a_segWindow a_segLength a_segBytes a_row a_many a_taken : Nat → Int32} {g_now g_sent : Int32} {b_seq b_flags b_acked b_window b_many b_data b_rows b_state b_error b_iss : Nat → Int32} {b_una b_nxt b_max b_last : Nat → Int64} {b_closed b_written b_irs b_unread b_bytes b_held : Nat → Int32} {b_rcv b_finAt : Nat → Int64} {b_marked b_wnd b_peak b_half b_rto b_same b_tries b_smooth b_spread b_byNumber b_byAck b_sampled b_told b_retry b_ackAt b_waitAt b_timedAt : Nat → Int32} {b_timed : Nat → Int64} {u0 : SX} {v0 : SY}
theorem kb_r (h : E2 L st iss una nxt mx la cl tm) : 0 ≤ kb st una la ∧ kb st una la ≤ 32 := by
  obtain ⟨a1, a2, a3, a4, a5, a6, a7, a8, a9⟩ := h
  unfold kb
  by_cases c : st < 2
  · rw [if_pos c]; omega
  · have := a5 (by omega)
    rw [if_neg c]
    by_cases c2 : una = 0
    · rw [if_pos c2]; omega
    · rw [if_neg c2]
      by_cases c3 : una ≤ la
      · rw [if_pos c3]; omega
      · rw [if_neg c3]; omega
theorem x_kept {post : Int32 → Prop} (he : e < 2) (hst : 0 ≤ st ∧ st ≤ 10) (hcl : 0 ≤ cl ∧ cl ≤ 1) (xst : a_state e = zI st) (xiss : a_iss e = zI iss) (xuna : 2 ≤ st → a_una e = zI ((iss + una) % 65536)) (xla : 1 ≤ st → a_last e = zI ((iss + la) % 65536)) (I2 : E2 L st iss una nxt mx la cl tm) (K : post (zI (kb st una la))) : wpX_keptBytes post (f_now, f_sent, a_state, a_error, a_tries, a_iss, a_una, a_nxt, a_max, a_last, a_closing, a_kept, a_rcv, a_first, a_held, a_fin, a_unread, a_came, a_ended, a_wnd, a_peak, a_half, a_same, a_setBy, a_setAt, a_isSet, a_rto, a_smooth, a_spread, a_timed, a_since, a_retry, a_waits, a_rest, a_segSeq, a_segAck, a_segFlags, a_segWindow, a_segLength, a_segBytes, a_row, a_many, a_taken) (zI e) := by
  unfold wpX_keptBytes
  simp only [x_joined he xst hst]
  by_cases c : st ≤ 1
  · have hk : kb st una la = 0 := by unfold kb; rw [if_pos (by omega)]
    rw [hk] at K
    simp only [if_pos c]
    exact br_t (by trivial) K
  · simp only [if_neg c]
    refine br_f (by decide) ?_
    have b2 := E2_b I2 (by omega)
    have b26 := I2.2.2.2.2.2.1
    have b27 := I2.2.2.2.2.2.2.1
    have c4 : 4 ≤ zI st ↔ 4 ≤ st := by rw [zl_4, zI_le (by omega)]
    have hiu : zI ((iss + una) % 65536) = zI iss ↔ una % 65536 = 0 := by rw [zI_eq (by omega)]; omega
    have E : ∀ b : Int, (b = if una = 0 then 1 else una) → wpX_bytesFrom (fun r => post r) (f_now, f_sent, a_state, a_error, a_tries, a_iss, a_una, a_nxt, a_max, a_last, a_closing, a_kept, a_rcv, a_first, a_held, a_fin, a_unread, a_came, a_ended, a_wnd, a_peak, a_half, a_same, a_setBy, a_setAt, a_isSet, a_rto, a_smooth, a_spread, a_timed, a_since, a_retry, a_waits, a_rest, a_segSeq, a_segAck, a_segFlags, a_segWindow, a_segLength, a_segBytes, a_row, a_many, a_taken) (zI e) (zI ((iss + b) % 65536)) := by
      intro b hb
      have hb2 : -32768 ≤ la - b ∧ la - b < 32768 := by by_cases z : una = 0 <;> simp only [z, if_true, if_false] at hb <;> omega
      rw [x_bytesFrom he (xla (by omega)) hb2]
      have : (if b ≤ la then la - b else 0) = kb st una la := by
        unfold kb
        rw [if_neg (show ¬ st < 2 by omega)]
        by_cases z : una = 0
        · rw [if_pos z] at hb
          rw [if_pos z, hb, if_pos (by omega)]
        · rw [if_neg z] at hb
          rw [if_neg z, hb]
      rw [this]; exact K
    unfold wpX_bottom
    refine ⟨e_in he, e_in he, ?_⟩
    rw [e_cl he, xst, xiss, xuna (by omega)]
    by_cases h4 : 4 ≤ st
    · have hu0 : ¬ una = 0 := by have := b27 h4; omega
      have E' := E una (by rw [if_neg hu0])
      by_cases z : una % 65536 = 0
      · exact br_t (hiu.mpr z) ⟨e_in he, br_t (c4.mpr h4) ⟨e_in he, E'⟩⟩
      · exact br_f (fun y => z (hiu.mp y)) ⟨e_in he, E'⟩
    · have hu0 : una = 0 := (b26 (by omega)).1
      have E' := E 1 (by rw [if_pos hu0])
      refine br_t (hiu.mpr (by omega)) ⟨e_in he, br_f (fun y => h4 (c4.mp y)) ⟨e_in he, ?_⟩⟩
      rw [hu0, show (zI ((iss + 0) % 65536) + 1) &&& 65535 = zI ((iss + 1) % 65536) by rw [zl_1, zl_65535, zI_add, zI_m16, zm_add]; rfl]
      exact E'
theorem y_kept {post : Int32 → Prop} (he : e < 2) (hst : 0 ≤ st ∧ st ≤ 10) (hcl : 0 ≤ cl ∧ cl ≤ 1) (yuna : b_una e = zL una) (yla : b_last e = zL la) (I2 : E2 L st iss una nxt mx la cl tm) (K : post (zI (kb st una la))) : wpY_kept post (g_now, g_sent, b_seq, b_flags, b_acked, b_window, b_many, b_data, b_rows, b_state, b_error, b_iss, b_una, b_nxt, b_max, b_last, b_closed, b_written, b_irs, b_unread, b_bytes, b_held, b_rcv, b_finAt, b_marked, b_wnd, b_peak, b_half, b_rto, b_same, b_tries, b_smooth, b_spread, b_byNumber, b_byAck, b_sampled, b_told, b_retry, b_ackAt, b_waitAt, b_timedAt, b_timed) (zI e) := by
  obtain ⟨a1, a2, a3, a4, a5, a6, a7, a8, a9⟩ := I2
  have hb : una ≤ 2199023255552 := by
    by_cases c : st < 2
    · have := a4 c; omega
    · have := a5 (by omega); omega
  have c0 : zL una = 0 ↔ una = 0 := by rw [zk_0, zL_eq (by omega)]
  have c1 : zL la ≤ zL 1 ↔ la ≤ 1 := zL_le (by omega)
  have c2 : zL la ≤ zL una ↔ la ≤ una := zL_le (by omega)
  unfold wpY_kept wY_kept_21
  refine ⟨e_in he, ?_⟩
  rw [e_cl he, yuna, yla, zk_1, zL_sub, zL_sub, zI_i, zI_i]
  by_cases z : una = 0
  · refine br_t (c0.mpr z) ⟨e_in he, ?_⟩
    by_cases y : la ≤ 1
    · have : kb st una la = 0 := by unfold kb; by_cases c : st < 2 <;> simp only [c, z, if_true, if_false] <;> omega
      rw [this] at K
      exact br_t (c1.mpr y) K
    · have hs : ¬ st < 2 := fun c => y (by have := (a4 c).1; omega)
      have : kb st una la = la - 1 := by unfold kb; rw [if_neg hs, if_pos z]
      rw [this] at K
      exact br_f (fun x => y (c1.mp x)) ⟨e_in he, K⟩
  · refine br_f (fun x => z (c0.mp x)) ⟨e_in he, e_in he, ?_⟩
    by_cases y : la ≤ una
    · have : kb st una la = 0 := by
        unfold kb
        by_cases c : st < 2
        · rw [if_pos c]
        · rw [if_neg c, if_neg z]
          by_cases c3 : una ≤ la
          · rw [if_pos c3]; omega
          · rw [if_neg c3]
      rw [this] at K
      exact br_t (c2.mpr y) K
    · have hs : ¬ st < 2 := fun c => y (by have := a4 c; omega)
      have : kb st una la = la - una := by unfold kb; rw [if_neg hs, if_neg z, if_pos (by omega)]
      rw [this] at K
      exact br_f (fun x => y (c2.mp x)) ⟨e_in he, K⟩
end
end
section
/-! info -/
section
variable {e : Nat} {L now : Int} {st er tr iss una nxt mx la cl irs rcv fi un fst wnd pk hf rto sa smo tm si rt wt rs nr nw ns : Int} {f_now f_sent : Int32} {a_state a_error a_tries a_iss a_una a_nxt a_max a_last a_closing a_kept a_rcv a_first a_held a_fin a_unread a_came a_ended a_wnd a_peak a_half a_same a_setBy a_setAt a_isSet a_rto a_smooth a_spread a_timed a_since a_retry a_waits a_rest a_segSeq a_segAck a_segFlags a_segWindow a_segLength a_segBytes a_row a_many a_taken : Nat → Int32} {g_now g_sent : Int32} {b_seq b_flags b_acked b_window b_many b_data b_rows b_state b_error b_iss : Nat → Int32} {b_una b_nxt b_max b_last : Nat → Int64} {b_closed b_written b_irs b_unread b_bytes b_held : Nat → Int32} {b_rcv b_finAt : Nat → Int64} {b_marked b_wnd b_peak b_half b_rto b_same b_tries b_smooth b_spread b_byNumber b_byAck b_sampled b_told b_retry b_ackAt b_waitAt b_timedAt : Nat → Int32} {b_timed : Nat → Int64} {u0 : SX} {v0 : SY}
theorem i_vc_info {k : Nat} {u : SX} {v : SY} (I : i_Rel k u v) (hk : k + 8 ≤ 4096) (v1 : Int32) (v2 : Int32) : wpX_info (fun r => wpY_info (fun r' => r' = r ∧ i_Rel (k + 8) u v) v v1 v2) u v1 v2 := by
  have J := i_up I
  obtain ⟨now, hn, hr⟩ := I (by omega)
  obtain ⟨f_now, f_sent, a_state, a_error, a_tries, a_iss, a_una, a_nxt, a_max, a_last, a_closing, a_kept, a_rcv, a_first, a_held, a_fin, a_unread, a_came, a_ended, a_wnd, a_peak, a_half, a_same, a_setBy, a_setAt, a_isSet, a_rto, a_smooth, a_spread, a_timed, a_since, a_retry, a_waits, a_rest, a_segSeq, a_segAck, a_segFlags, a_segWindow, a_segLength, a_segBytes, a_row, a_many, a_taken⟩ := u
  obtain ⟨g_now, g_sent, b_seq, b_flags, b_acked, b_window, b_many, b_data, b_rows, b_state, b_error, b_iss, b_una, b_nxt, b_max, b_last, b_closed, b_written, b_irs, b_unread, b_bytes, b_held, b_rcv, b_finAt, b_marked, b_wnd, b_peak, b_half, b_rto, b_same, b_tries, b_smooth, b_spread, b_byNumber, b_byAck, b_sampled, b_told, b_retry, b_ackAt, b_waitAt, b_timedAt, b_timed⟩ := v
  rcases end_c v1 with ⟨e, he, rfl⟩ | hne
  · by_cases hout : v2 < 0 ∨ ¬ v2 ≤ 13
    · unfold wpX_info wpY_info
      simp only [x_isEnd he, y_end he, x_out, y_out, if_pos hout]
      exact br_f (by decide) (br_f (by decide) (br_t (by trivial) (br_f (by decide) ⟨by trivial, J⟩)))
    · obtain ⟨w, rfl, hw⟩ : ∃ w : Int, v2 = zI w ∧ 0 ≤ w ∧ w ≤ 13 := by
        refine ⟨v2.toInt, (zI_self v2).symm, ?_⟩
        rw [Int32.lt_iff_toInt_lt, Int32.le_iff_toInt_le, show (0 : Int32).toInt = 0 from rfl, show (13 : Int32).toInt = 13 from rfl] at hout
        omega
      refine ON_el (hr e he) ?_
      intro st er tr iss una nxt mx la cl irs rcv fi un fst wnd pk hf rto sa smo tm si rt wt rs R I2
      obtain ⟨xnow, ynow, xst, xer, xtr, xiss, xuna, xnxt, xmx, xla, xcl, xrcv, xfst, xfi, xun, xen, xwnd, xpk, xhf, xrto, xsm, xsb, xsa, xis, xsmo, xspr, xtm, xsi, xrt, xwt, xrs, yst, yer, ytr, yiss, yuna, ynxt, ymx, yla, ycl, yirs, yrcv, yfi, yun, ywnd, ypk, yhf, yrto, ysa, ysmo, ytm, ysi, yrt, ywt, yrs, I1, I3, I4, I5, K, C, H, W⟩ := RE_el R
      have hst := I1.1
      have hcl := I1.2.2.2.1
      have b5 := E5_b I5
      have b3 := I3.2.1
      have b31 := I3.1
      have hL : (1000 + 100 * (k : Int)) ≤ 1099511627776 := I2.2.1.2.2.2
      have hfi : -1 ≤ fi ∧ fi ≤ 2199023255552 := by have := I3.2.2.2.2.1; have := I3.2.2.1; omega
      obtain ⟨r, hr', kr⟩ := y_holds (b_marked := b_marked) (b_finAt := b_finAt) he H yfi hfi
      have nfr := nf_r irs fi
      have hcf : zI (nf irs fi) < 0 ↔ fi < 0 := by rw [zl_0, zI_lt (by omega), nf_s]
      have hcr : zI r = 0 ↔ r = 0 := by rw [zl_0, zI_eq (by omega)]
      have hrt : 0 ≤ zI rt ↔ 0 ≤ rt := by rw [zl_0, zI_le (by omega)]
      have hwt : 0 ≤ zI wt ↔ 0 ≤ wt := by rw [zl_0, zI_le (by omega)]
      have h2 : 2 ≤ zI st ↔ 2 ≤ st := by rw [zl_2, zI_le (by omega)]
      have hi : 0 ≤ iss ∧ iss ≤ 65535 := I2.1
      unfold wpX_info wpY_info wX_info_44
      simp only [x_isEnd he, y_end he, x_out, y_out, if_neg hout, x_joined he xst hst, e_cl he]
      refine br_f (by decide) (br_t (by trivial) ?_)
      clear hout
      have hw14 : w = 0 ∨ w = 1 ∨ w = 2 ∨ w = 3 ∨ w = 4 ∨ w = 5 ∨ w = 6 ∨ w = 7 ∨ w = 8 ∨ w = 9 ∨ w = 10 ∨ w = 11 ∨ w = 12 ∨ w = 13 := by omega
      clear hw
      rcases hw14 with rfl | rfl | rfl | rfl | rfl | rfl | rfl | rfl | rfl | rfl | rfl | rfl | rfl | rfl
      · exact br_t (by decide) (br_f (by decide) (br_f (by decide) (br_t rfl ⟨e_in he, br_t (by trivial) (br_t (by trivial) (br_t rfl ⟨e_in he, ⟨(by exact yer.trans xer.symm), J⟩⟩))⟩)))
      · refine br_t (by decide) (br_f (by decide) (br_f (by decide) (br_f (by decide) (br_t rfl ?_))))
        refine x_kept he hst hcl xst xiss xuna xla I2 ?_
        refine br_t (by trivial) (br_t (by trivial) (br_f (by decide) (br_t rfl ?_)))
        exact y_kept he hst hcl yuna yla I2 ⟨by trivial, J⟩
      · exact br_t (by decide) (br_f (by decide) (br_f (by decide) (br_f (by decide) (br_f (by decide) (br_t rfl ⟨e_in he, br_t (by trivial) (br_t (by trivial) (br_f (by decide) (br_f (by decide) (br_t rfl ⟨e_in he, ⟨(by exact yun.trans xun.symm), J⟩⟩))))⟩)))))
      · refine br_f (by decide) ?_
        by_cases hj : st ≤ 1
        · simp only [if_pos hj]
          refine br_t (by trivial) ?_
          refine br_f (by decide) (br_t (by trivial) (br_t (by trivial) (br_f (by decide) (br_f (by decide) (br_f (by decide) (⟨e_in he, ?_⟩))))))
          rw [yst]
          exact br_f (fun z => by have := h2.mp z; omega) (br_f (by decide) ⟨by trivial, J⟩)
        · simp only [if_neg hj]
          refine br_f (by decide) ?_
          refine br_f (by decide) (br_f (by decide) (br_f (by decide) (br_f (by decide) (br_f (by decide) (br_t rfl ⟨e_in he, ?_⟩)))))
          rw [xuna (by omega)]
          refine br_t (by trivial) (br_t (by trivial) (br_f (by decide) (br_f (by decide) (br_f (by decide) (⟨e_in he, ?_⟩)))))
          rw [yst]
          refine br_t (h2.mpr (by omega)) (br_f (by decide) (br_f (by decide) (br_t rfl (⟨e_in he, ?_⟩))))
          rw [yuna]
          rw [y_number he yiss hi]
          exact ⟨by trivial, J⟩
      · refine br_f (by decide) ?_
        by_cases hj : st ≤ 1
        · simp only [if_pos hj]
          refine br_t (by trivial) ?_
          refine br_f (by decide) (br_t (by trivial) (br_t (by trivial) (br_f (by decide) (br_f (by decide) (br_f (by decide) (⟨e_in he, ?_⟩))))))
          rw [yst]
          exact br_f (fun z => by have := h2.mp z; omega) (br_f (by decide) ⟨by trivial, J⟩)
        · simp only [if_neg hj]
          refine br_f (by decide) ?_
          refine br_f (by decide) (br_f (by decide) (br_f (by decide) (br_f (by decide) (br_f (by decide) (br_f (by decide) (br_t rfl ⟨e_in he, ?_⟩))))))
          rw [xnxt (by omega)]
          refine br_t (by trivial) (br_t (by trivial) (br_f (by decide) (br_f (by decide) (br_f (by decide) (⟨e_in he, ?_⟩)))))
          rw [yst]
          refine br_t (h2.mpr (by omega)) (br_f (by decide) (br_f (by decide) (br_f (by decide) (br_t rfl (⟨e_in he, ?_⟩)))))
          rw [ynxt]
          rw [y_number he yiss hi]
          exact ⟨by trivial, J⟩
      · refine br_f (by decide) ?_
        by_cases hj : st ≤ 1
        · simp only [if_pos hj]
          refine br_t (by trivial) ?_
          refine br_f (by decide) (br_t (by trivial) (br_t (by trivial) (br_f (by decide) (br_f (by decide) (br_f (by decide) (⟨e_in he, ?_⟩))))))
          rw [yst]
          exact br_f (fun z => by have := h2.mp z; omega) (br_f (by decide) ⟨by trivial, J⟩)
        · simp only [if_neg hj]
          refine br_f (by decide) ?_
          refine br_f (by decide) (br_f (by decide) (br_f (by decide) (br_f (by decide) (br_f (by decide) (br_f (by decide) (br_f (by decide) (br_t rfl ⟨e_in he, ?_⟩)))))))
          rw [xrcv (by omega)]
          refine br_t (by trivial) (br_t (by trivial) (br_f (by decide) (br_f (by decide) (br_f (by decide) (⟨e_in he, ?_⟩)))))
          rw [yst]
          refine br_t (h2.mpr (by omega)) (br_f (by decide) (br_f (by decide) (br_f (by decide) (br_f (by decide) (br_t rfl (?_))))))
          rw [y_due he yirs yrcv b31]
          exact ⟨by trivial, J⟩
      · refine br_f (by decide) ?_
        by_cases hj : st ≤ 1
        · simp only [if_pos hj]
          refine br_t (by trivial) ?_
          refine br_f (by decide) (br_t (by trivial) (br_t (by trivial) (br_f (by decide) (br_f (by decide) (br_f (by decide) (⟨e_in he, ?_⟩))))))
          rw [yst]
          exact br_f (fun z => by have := h2.mp z; omega) (br_f (by decide) ⟨by trivial, J⟩)
        · simp only [if_neg hj]
          refine br_f (by decide) ?_
          refine br_f (by decide) (br_f (by decide) (br_f (by decide) (br_f (by decide) (br_f (by decide) (br_f (by decide) (br_f (by decide) (br_f (by decide) (br_t rfl ⟨e_in he, ?_⟩))))))))
          refine br_t (by trivial) (br_t (by trivial) (br_f (by decide) (br_f (by decide) (br_f (by decide) (⟨e_in he, ?_⟩)))))
          rw [yst]
          exact br_t (h2.mpr (by omega)) (br_f (by decide) (br_f (by decide) (br_f (by decide) (br_f (by decide) (br_f (by decide) (br_t rfl (⟨e_in he, (by exact (ywnd).trans (xwnd).symm), J⟩)))))))
      · refine br_f (by decide) ?_
        by_cases hj : st ≤ 1
        · simp only [if_pos hj]
          refine br_t (by trivial) ?_
          refine br_f (by decide) (br_t (by trivial) (br_t (by trivial) (br_f (by decide) (br_f (by decide) (br_f (by decide) (⟨e_in he, ?_⟩))))))
          rw [yst]
          exact br_f (fun z => by have := h2.mp z; omega) (br_f (by decide) ⟨by trivial, J⟩)
        · simp only [if_neg hj]
          refine br_f (by decide) ?_
          refine br_f (by decide) (br_f (by decide) (br_f (by decide) (br_f (by decide) (br_f (by decide) (br_f (by decide) (br_f (by decide) (br_f (by decide) (br_f (by decide) (br_t rfl ⟨e_in he, ?_⟩)))))))))
          refine br_t (by trivial) (br_t (by trivial) (br_f (by decide) (br_f (by decide) (br_f (by decide) (⟨e_in he, ?_⟩)))))
          rw [yst]
          exact br_t (h2.mpr (by omega)) (br_f (by decide) (br_f (by decide) (br_f (by decide) (br_f (by decide) (br_f (by decide) (br_f (by decide) (br_t rfl (⟨e_in he, (by exact (ypk).trans (xpk).symm), J⟩))))))))
      · refine br_f (by decide) ?_
        by_cases hj : st ≤ 1
        · simp only [if_pos hj]
          refine br_t (by trivial) ?_
          refine br_f (by decide) (br_t (by trivial) (br_t (by trivial) (br_f (by decide) (br_f (by decide) (br_f (by decide) (⟨e_in he, ?_⟩))))))
          rw [yst]
          exact br_f (fun z => by have := h2.mp z; omega) (br_f (by decide) ⟨by trivial, J⟩)
        · simp only [if_neg hj]
          refine br_f (by decide) ?_
          refine br_f (by decide) (br_f (by decide) (br_f (by decide) (br_f (by decide) (br_f (by decide) (br_f (by decide) (br_f (by decide) (br_f (by decide) (br_f (by decide) (br_f (by decide) (br_t rfl ⟨e_in he, ?_⟩))))))))))
          refine br_t (by trivial) (br_t (by trivial) (br_f (by decide) (br_f (by decide) (br_f (by decide) (⟨e_in he, ?_⟩)))))
          rw [yst]
          exact br_t (h2.mpr (by omega)) (br_f (by decide) (br_f (by decide) (br_f (by decide) (br_f (by decide) (br_f (by decide) (br_f (by decide) (br_f (by decide) (br_t rfl (⟨e_in he, (by exact (yhf).trans (xhf).symm), J⟩)))))))))
      · refine br_f (by decide) ?_
        by_cases hj : st ≤ 1
        · simp only [if_pos hj]
          refine br_t (by trivial) ?_
          refine br_f (by decide) (br_t (by trivial) (br_t (by trivial) (br_f (by decide) (br_f (by decide) (br_f (by decide) (⟨e_in he, ?_⟩))))))
          rw [yst]
          exact br_f (fun z => by have := h2.mp z; omega) (br_f (by decide) ⟨by trivial, J⟩)
        · simp only [if_neg hj]
          refine br_f (by decide) ?_
          refine br_f (by decide) (br_f (by decide) (br_f (by decide) (br_f (by decide) (br_f (by decide) (br_f (by decide) (br_f (by decide) (br_f (by decide) (br_f (by decide) (br_f (by decide) (br_f (by decide) (br_t rfl ⟨e_in he, ?_⟩)))))))))))
          refine br_t (by trivial) (br_t (by trivial) (br_f (by decide) (br_f (by decide) (br_f (by decide) (⟨e_in he, ?_⟩)))))
          rw [yst]
          exact br_t (h2.mpr (by omega)) (br_f (by decide) (br_f (by decide) (br_f (by decide) (br_f (by decide) (br_f (by decide) (br_f (by decide) (br_f (by decide) (br_f (by decide) (br_t rfl (⟨e_in he, (by exact (yrto).trans (xrto).symm), J⟩))))))))))
      · refine br_f (by decide) ?_
        by_cases hj : st ≤ 1
        · simp only [if_pos hj]
          refine br_t (by trivial) ?_
          refine br_t rfl (br_t (by trivial) (br_t (by trivial) (br_f (by decide) (br_f (by decide) (br_f (by decide) (⟨e_in he, ?_⟩))))))
          rw [yst]
          exact br_f (fun z => by have := h2.mp z; omega) (br_t rfl ⟨by trivial, J⟩)
        · simp only [if_neg hj]
          refine br_f (by decide) ?_
          refine br_f (by decide) (br_f (by decide) (br_f (by decide) (br_f (by decide) (br_f (by decide) (br_f (by decide) (br_f (by decide) (br_f (by decide) (br_f (by decide) (br_f (by decide) (br_f (by decide) (br_f (by decide) (br_t rfl ⟨e_in he, ?_⟩))))))))))))
          rw [xrt]
          by_cases g : 0 ≤ rt
          · refine br_t (hrt.mpr g) ⟨e_in he, ?_⟩
            refine br_t (by trivial) (br_t (by trivial) (br_f (by decide) (br_f (by decide) (br_f (by decide) (⟨e_in he, ?_⟩)))))
            rw [yst]
            refine br_t (h2.mpr (by omega)) (br_f (by decide) (br_f (by decide) (br_f (by decide) (br_f (by decide) (br_f (by decide) (br_f (by decide) (br_f (by decide) (br_f (by decide) (br_f (by decide) (br_t rfl (⟨e_in he, ?_⟩)))))))))))
            rw [yrt]
            exact br_t (hrt.mpr g) ⟨e_in he, (by rw [xnow, ynow]), J⟩
          · refine br_f (fun z => g (hrt.mp z)) ?_
            refine br_t (by trivial) (br_t (by trivial) (br_f (by decide) (br_f (by decide) (br_f (by decide) (⟨e_in he, ?_⟩)))))
            rw [yst]
            refine br_t (h2.mpr (by omega)) (br_f (by decide) (br_f (by decide) (br_f (by decide) (br_f (by decide) (br_f (by decide) (br_f (by decide) (br_f (by decide) (br_f (by decide) (br_f (by decide) (br_t rfl (⟨e_in he, ?_⟩)))))))))))
            rw [yrt]
            exact br_f (fun z => g (hrt.mp z)) ⟨by trivial, J⟩
      · refine br_f (by decide) ?_
        by_cases hj : st ≤ 1
        · simp only [if_pos hj]
          refine br_t (by trivial) ?_
          refine br_f (by decide) (br_t (by trivial) (br_t (by trivial) (br_f (by decide) (br_f (by decide) (br_f (by decide) (⟨e_in he, ?_⟩))))))
          rw [yst]
          exact br_f (fun z => by have := h2.mp z; omega) (br_f (by decide) ⟨by trivial, J⟩)
        · simp only [if_neg hj]
          refine br_f (by decide) ?_
          refine br_f (by decide) (br_f (by decide) (br_f (by decide) (br_f (by decide) (br_f (by decide) (br_f (by decide) (br_f (by decide) (br_f (by decide) (br_f (by decide) (br_f (by decide) (br_f (by decide) (br_f (by decide) (br_f (by decide) (br_t rfl ⟨e_in he, ?_⟩)))))))))))))
          rw [xwt]
          by_cases g : 0 ≤ wt
          · refine br_t (hwt.mpr g) ?_
            refine br_t (by trivial) (br_t (by trivial) (br_f (by decide) (br_f (by decide) (br_f (by decide) (⟨e_in he, ?_⟩)))))
            rw [yst]
            refine br_t (h2.mpr (by omega)) (br_f (by decide) (br_f (by decide) (br_f (by decide) (br_f (by decide) (br_f (by decide) (br_f (by decide) (br_f (by decide) (br_f (by decide) (br_f (by decide) (br_f (by decide) (br_t rfl (⟨e_in he, ?_⟩))))))))))))
            rw [ywt]
            exact br_t (hwt.mpr g) ⟨by trivial, J⟩
          · refine br_f (fun z => g (hwt.mp z)) ?_
            refine br_t (by trivial) (br_t (by trivial) (br_f (by decide) (br_f (by decide) (br_f (by decide) (⟨e_in he, ?_⟩)))))
            rw [yst]
            refine br_t (h2.mpr (by omega)) (br_f (by decide) (br_f (by decide) (br_f (by decide) (br_f (by decide) (br_f (by decide) (br_f (by decide) (br_f (by decide) (br_f (by decide) (br_f (by decide) (br_f (by decide) (br_t rfl (⟨e_in he, ?_⟩))))))))))))
            rw [ywt]
            exact br_f (fun z => g (hwt.mp z)) ⟨by trivial, J⟩
      · refine br_f (by decide) ?_
        by_cases hj : st ≤ 1
        · simp only [if_pos hj]
          refine br_t (by trivial) ?_
          refine br_f (by decide) (br_t (by trivial) (br_t (by trivial) (br_f (by decide) (br_f (by decide) (br_f (by decide) (⟨e_in he, ?_⟩))))))
          rw [yst]
          exact br_f (fun z => by have := h2.mp z; omega) (br_f (by decide) ⟨by trivial, J⟩)
        · simp only [if_neg hj]
          refine br_f (by decide) ?_
          refine br_f (by decide) (br_f (by decide) (br_f (by decide) (br_f (by decide) (br_f (by decide) (br_f (by decide) (br_f (by decide) (br_f (by decide) (br_f (by decide) (br_f (by decide) (br_f (by decide) (br_f (by decide) (br_f (by decide) (br_f (by decide) (br_t rfl ⟨e_in he, ?_⟩))))))))))))))
          refine br_t (by trivial) (br_t (by trivial) (br_f (by decide) (br_f (by decide) (br_f (by decide) (⟨e_in he, ?_⟩)))))
          rw [yst]
          exact br_t (h2.mpr (by omega)) (br_f (by decide) (br_f (by decide) (br_f (by decide) (br_f (by decide) (br_f (by decide) (br_f (by decide) (br_f (by decide) (br_f (by decide) (br_f (by decide) (br_f (by decide) (br_f (by decide) (br_t rfl (⟨e_in he, (by exact (ytr).trans (xtr (by omega)).symm), J⟩)))))))))))))
      · refine br_f (by decide) ?_
        by_cases hj : st ≤ 1
        · simp only [if_pos hj]
          refine br_t (by trivial) ?_
          refine br_f (by decide) (br_t (by trivial) (br_t (by trivial) (br_f (by decide) (br_f (by decide) (br_f (by decide) (⟨e_in he, ?_⟩))))))
          rw [yst]
          exact br_f (fun z => by have := h2.mp z; omega) (br_f (by decide) ⟨by trivial, J⟩)
        · simp only [if_neg hj]
          refine br_f (by decide) ?_
          refine br_f (by decide) (br_t (by decide) ⟨e_in he, ?_⟩)
          rw [xfi]
          by_cases g1 : a_held e = 0
          · refine br_t g1 ⟨e_in he, ?_⟩
            by_cases g2 : fi < 0
            · refine br_t (hcf.mpr g2) ?_
              refine br_t (by trivial) (br_t (by trivial) (br_f (by decide) (br_f (by decide) (br_f (by decide) (⟨e_in he, ?_⟩)))))
              rw [yst]
              refine br_t (h2.mpr (by omega)) (br_f (by decide) (br_t (by decide) ?_))
              refine kr _ ?_
              have : r = 0 := by
                rcases hr' with ⟨h1, _⟩ | ⟨_, h2 | h2⟩
                · exact h1
                · exact absurd g1 h2
                · exact absurd g2 (Int.not_lt.mpr h2)
              exact br_t (hcr.mpr this) ⟨by trivial, J⟩
            · refine br_f (fun z => g2 (hcf.mp z)) ?_
              refine br_t (by trivial) (br_t (by trivial) (br_f (by decide) (br_f (by decide) (br_f (by decide) (⟨e_in he, ?_⟩)))))
              rw [yst]
              refine br_t (h2.mpr (by omega)) (br_f (by decide) (br_t (by decide) ?_))
              refine kr _ ?_
              have : ¬ r = 0 := by
                rcases hr' with ⟨_, _, h1⟩ | ⟨h1, _⟩
                · exact absurd h1 g2
                · rw [h1]; decide
              exact br_f (fun z => this (hcr.mp z)) ⟨by trivial, J⟩
          · refine br_f g1 ?_
            refine br_t (by trivial) (br_t (by trivial) (br_f (by decide) (br_f (by decide) (br_f (by decide) (⟨e_in he, ?_⟩)))))
            rw [yst]
            refine br_t (h2.mpr (by omega)) (br_f (by decide) (br_t (by decide) ?_))
            refine kr _ ?_
            have : ¬ r = 0 := by
              rcases hr' with ⟨_, h1, _⟩ | ⟨h1, _⟩
              · exact absurd h1 g1
              · rw [h1]; decide
            exact br_f (fun z => this (hcr.mp z)) ⟨by trivial, J⟩
  · unfold wpX_info wpY_info
    simp only [x_isEnd_n hne, y_end_n hne]
    exact br_t (by trivial) (br_f (by decide) ⟨by trivial, J⟩)
end
end
section
/-! wire -/
section
variable {e : Nat} {L now : Int} {st er tr iss una nxt mx la cl irs rcv fi un fst wnd pk hf rto sa smo tm si rt wt rs nr nw ns : Int} {f_now f_sent : Int32} {a_state a_error a_tries a_iss a_una a_nxt a_max a_last a_closing a_kept a_rcv a_first a_held a_fin a_unread a_came a_ended a_wnd a_peak a_half a_same a_setBy a_setAt a_isSet a_rto a_smooth a_spread a_timed a_since a_retry a_waits a_rest a_segSeq a_segAck a_segFlags a_segWindow a_segLength a_segBytes a_row a_many a_taken : Nat → Int32} {g_now g_sent : Int32} {b_seq b_flags b_acked b_window b_many b_data b_rows b_state b_error b_iss : Nat → Int32} {b_una b_nxt b_max b_last : Nat → Int64} {b_closed b_written b_irs b_unread b_bytes b_held : Nat → Int32} {b_rcv b_finAt : Nat → Int64} {b_marked b_wnd b_peak b_half b_rto b_same b_tries b_smooth b_spread b_byNumber b_byAck b_sampled b_told b_retry b_ackAt b_waitAt b_timedAt : Nat → Int32} {b_timed : Nat → Int64} {u0 : SX} {v0 : SY}
theorem i_vc_wire {k : Nat} {u : SX} {v : SY} (I : i_Rel k u v) (hk : k + 8 ≤ 4096) (v1 : Int32) (v2 : Int32) (v3 : Int32) : wpX_wire (fun r => wpY_wire (fun r' => r' = r ∧ i_Rel (k + 8) u v) v v1 v2 v3) u v1 v2 v3 := by
  have J := i_up I
  obtain ⟨now, hn, hr⟩ := I (by omega)
  obtain ⟨f_now, f_sent, a_state, a_error, a_tries, a_iss, a_una, a_nxt, a_max, a_last, a_closing, a_kept, a_rcv, a_first, a_held, a_fin, a_unread, a_came, a_ended, a_wnd, a_peak, a_half, a_same, a_setBy, a_setAt, a_isSet, a_rto, a_smooth, a_spread, a_timed, a_since, a_retry, a_waits, a_rest, a_segSeq, a_segAck, a_segFlags, a_segWindow, a_segLength, a_segBytes, a_row, a_many, a_taken⟩ := u
  obtain ⟨g_now, g_sent, b_seq, b_flags, b_acked, b_window, b_many, b_data, b_rows, b_state, b_error, b_iss, b_una, b_nxt, b_max, b_last, b_closed, b_written, b_irs, b_unread, b_bytes, b_held, b_rcv, b_finAt, b_marked, b_wnd, b_peak, b_half, b_rto, b_same, b_tries, b_smooth, b_spread, b_byNumber, b_byAck, b_sampled, b_told, b_retry, b_ackAt, b_waitAt, b_timedAt, b_timed⟩ := v
  rcases end_c v1 with ⟨e, he, rfl⟩ | hne
  · obtain ⟨m, sg, hrw, hER, hES⟩ := ON_W (hr e he)
    have hm := hES.1
    by_cases hm1 : v3 = -1
    · unfold wpX_wire wpY_wire
      simp only [x_isEnd he, y_end he, e_cl he]
      refine br_f (by decide) (br_t hm1 ⟨e_in he, ?_⟩)
      exact br_t hm1 (br_t (by trivial) ⟨e_in he, hrw.trans hER.1.symm, J⟩)
    · unfold wpX_wire wpY_wire wX_wire_19
      simp only [x_isEnd he, y_end he, e_cl he]
      refine br_f (by decide) (br_f hm1 ?_)
      rcases there_c v2 hm with ⟨i, hi, rfl⟩ | hb
      · simp only [x_there he hER.1 hm hi, y_none_k he hrw hm hi, x_out, y_out]
        refine br_f (by decide) ?_
        by_cases hout : v3 < 0 ∨ ¬ v3 ≤ 12
        · simp only [if_pos hout]
          exact br_f (by decide) (br_f hm1 (br_t (by trivial) (br_f (by decide) ⟨by trivial, J⟩)))
        · simp only [if_neg hout]
          obtain ⟨w, rfl, hw⟩ : ∃ w : Int, v3 = zI w ∧ 0 ≤ w ∧ w ≤ 12 := by
            refine ⟨v3.toInt, (zI_self v3).symm, ?_⟩
            rw [Int32.lt_iff_toInt_lt, Int32.le_iff_toInt_le, show (0 : Int32).toInt = 0 from rfl, show (12 : Int32).toInt = 12 from rfl] at hout
            omega
          obtain ⟨q, f, a, wn, n, hsg⟩ := hES.2.2.2.2 i hi
          have hs := hES.2.1 i hi
          have hee : 1 - (1 - e) = e := by omega
          have S0 : SU (1 - e) (16 * e + sg i) (16 * e + i) q f a wn n (f_now, f_sent, a_state, a_error, a_tries, a_iss, a_una, a_nxt, a_max, a_last, a_closing, a_kept, a_rcv, a_first, a_held, a_fin, a_unread, a_came, a_ended, a_wnd, a_peak, a_half, a_same, a_setBy, a_setAt, a_isSet, a_rto, a_smooth, a_spread, a_timed, a_since, a_retry, a_waits, a_rest, a_segSeq, a_segAck, a_segFlags, a_segWindow, a_segLength, a_segBytes, a_row, a_many, a_taken) (g_now, g_sent, b_seq, b_flags, b_acked, b_window, b_many, b_data, b_rows, b_state, b_error, b_iss, b_una, b_nxt, b_max, b_last, b_closed, b_written, b_irs, b_unread, b_bytes, b_held, b_rcv, b_finAt, b_marked, b_wnd, b_peak, b_half, b_rto, b_same, b_tries, b_smooth, b_spread, b_byNumber, b_byAck, b_sampled, b_told, b_retry, b_ackAt, b_waitAt, b_timedAt, b_timed) := by
            refine ⟨sg i, i, ⟨by rw [hee], by omega, by omega⟩, ⟨by rw [hee], by omega, by omega⟩, ?_⟩
            rw [hee]
            exact hsg
          obtain ⟨s1, s2, sq, sf, sa', sw, sn, xq, xa, xf, xw, xn, yq, ya, yf, yw, yn, ybs⟩ := SU_el (by omega) S0
          have hrow : a_row (16 * (e : Int) + i).toNat = zI (16 * e + sg i) := by
            rw [← hER.2 i hi]; unfold rg
            rw [Int.emod_eq_of_lt (by omega) (by omega)]
          have a1 : (16 : Int32) * zI e + zI i = zI (16 * e + i) := by rw [zl_16, zI_mul, zI_add]
          have a2 : vp_in (zI (16 * (e : Int) + i)) 32 := zI_in (by omega)
          have a3 : (zI (16 * (e : Int) + i)).toNatClampNeg = (16 * (e : Int) + i).toNat := zI_cl (by omega)
          have a4 : vp_in (zI (16 * (e : Int) + sg i)) 32 := zI_in (by omega)
          have a5 : (zI (16 * (e : Int) + sg i)).toNatClampNeg = (16 * (e : Int) + sg i).toNat := zI_cl (by omega)
          refine br_t (by trivial) ?_
          rw [a1]
          refine ⟨a2, ?_⟩
          rw [a3, hrow]
          refine nm_e ?_
          rw [a5, xq, xf, xa, xw, xn]
          have hn0 : ¬ zI w < 0 := by rw [zl_0, zI_lt (by omega)]; omega
          refine br_f hn0 ?_
          by_cases h5 : 4 < w
          · have c4 : 4 < zI w := by rw [zl_4, zI_lt (by omega)]; exact h5
            refine br_t c4 ⟨a4, ?_⟩
            have b1 : (8 : Int32) * zI (16 * e + sg i) + zI w - 5 = zI (8 * (16 * e + sg i) + (w - 5)) := by rw [zl_8, zl_5, zI_mul, zI_add, zI_sub]; congr 1; omega
            have b2 : (8 : Int32) * zI (16 * e + i) + zI w - 5 = zI (8 * (16 * e + i) + (w - 5)) := by rw [zl_8, zl_5, zI_mul, zI_add, zI_sub]; congr 1; omega
            have b3 : vp_in (zI (8 * (16 * (e : Int) + sg i) + (w - 5))) 256 := zI_in (by omega)
            have b4 : vp_in (zI (8 * (16 * (e : Int) + i) + (w - 5))) 256 := zI_in (by omega)
            have b5 : (zI (8 * (16 * (e : Int) + sg i) + (w - 5))).toNatClampNeg = (8 * (16 * (e : Int) + sg i) + (w - 5)).toNat := zI_cl (by omega)
            have b6 : (zI (8 * (16 * (e : Int) + i) + (w - 5))).toNatClampNeg = (8 * (16 * (e : Int) + i) + (w - 5)).toNat := zI_cl (by omega)
            have b7 : zI n ≤ zI w - 5 ↔ n ≤ w - 5 := by rw [zl_5, zI_sub, zI_le (by omega)]
            by_cases hl : n ≤ w - 5
            · refine br_t (b7.mpr hl) (br_f hm1 (br_t (by trivial) (br_t (by trivial) ?_)))
              refine nm_e (br_f hn0 (br_t c4 ⟨a2, ?_⟩))
              rw [a3, yn]
              exact br_t (b7.mpr hl) ⟨by trivial, J⟩
            · refine br_f (fun z => hl (b7.mp z)) ?_
              rw [b1]
              refine ⟨b3, ?_⟩
              rw [b5]
              refine br_f hm1 (br_t (by trivial) (br_t (by trivial) ?_))
              refine nm_e (br_f hn0 (br_t c4 ⟨a2, ?_⟩))
              rw [a3, yn]
              refine br_f (fun z => hl (b7.mp z)) ?_
              rw [b2]
              refine ⟨b4, ?_⟩
              rw [b6]
              exact ⟨ybs (w - 5) (by omega) (by omega), J⟩
          · have c4 : ¬ 4 < zI w := by rw [zl_4, zI_lt (by omega)]; exact h5
            refine br_f c4 ?_
            have hw5 : w = 0 ∨ w = 1 ∨ w = 2 ∨ w = 3 ∨ w = 4 := by omega
            clear hw hout h5
            rcases hw5 with rfl | rfl | rfl | rfl | rfl
            · refine br_t rfl ⟨a4, br_f hm1 (br_t (by trivial) (br_t (by trivial) ?_))⟩
              exact nm_e (br_f hn0 (br_f c4 (br_t rfl ⟨a2, (by rw [a3]; exact yq), J⟩)))
            · refine br_f (by decide) (br_t rfl ⟨a4, br_f hm1 (br_t (by trivial) (br_t (by trivial) ?_))⟩)
              exact nm_e (br_f hn0 (br_f c4 (br_f (by decide) (br_t rfl ⟨a2, (by rw [a3]; exact yf), J⟩))))
            · refine br_f (by decide) (br_f (by decide) (br_t rfl ⟨a4, br_f hm1 (br_t (by trivial) (br_t (by trivial) ?_))⟩))
              exact nm_e (br_f hn0 (br_f c4 (br_f (by decide) (br_f (by decide) (br_t rfl ⟨a2, (by rw [a3]; exact ya), J⟩)))))
            · refine br_f (by decide) (br_f (by decide) (br_f (by decide) (br_t rfl ⟨a4, br_f hm1 (br_t (by trivial) (br_t (by trivial) ?_))⟩)))
              exact nm_e (br_f hn0 (br_f c4 (br_f (by decide) (br_f (by decide) (br_f (by decide) (br_t rfl ⟨a2, (by rw [a3]; exact yw), J⟩))))))
            · refine br_f (by decide) (br_f (by decide) (br_f (by decide) (br_f (by decide) (br_t rfl ⟨a4, br_f hm1 (br_t (by trivial) (br_t (by trivial) ?_))⟩))))
              exact nm_e (br_f hn0 (br_f c4 (br_f (by decide) (br_f (by decide) (br_f (by decide) (br_f (by decide) (br_t rfl ⟨a2, (by rw [a3]; exact yn), J⟩)))))))
      · simp only [x_there_n he hER.1 hb, y_none_n he hrw hm hb]
        exact br_t (by trivial) (br_f hm1 (br_f (by decide) ⟨by trivial, J⟩))
  · unfold wpX_wire wpY_wire wX_wire_19
    simp only [x_isEnd_n hne, y_end_n hne, x_there_e hne, y_none_e hne]
    refine br_t (by trivial) (br_t (by trivial) ?_)
    by_cases hm1 : v3 = -1
    · exact br_t hm1 (br_f (by decide) ⟨by trivial, J⟩)
    · exact br_f hm1 (br_f (by decide) ⟨by trivial, J⟩)
end
end
section
/-! twice -/
section
variable {e : Nat} {L now : Int} {st er tr iss una nxt mx la cl irs rcv fi un fst wnd pk hf rto sa smo tm si rt wt rs nr nw ns : Int} {f_now f_sent : Int32} {a_state a_error a_tries a_iss a_una a_nxt a_max a_last a_closing a_kept a_rcv a_first a_held a_fin a_unread a_came a_ended a_wnd a_peak a_half a_same a_setBy a_setAt a_isSet a_rto a_smooth a_spread a_timed a_since a_retry a_waits a_rest a_segSeq a_segAck a_segFlags a_segWindow a_segLength a_segBytes a_row a_many a_taken : Nat → Int32} {g_now g_sent : Int32} {b_seq b_flags b_acked b_window b_many b_data b_rows b_state b_error b_iss : Nat → Int32} {b_una b_nxt b_max b_last : Nat → Int64} {b_closed b_written b_irs b_unread b_bytes b_held : Nat → Int32} {b_rcv b_finAt : Nat → Int64} {b_marked b_wnd b_peak b_half b_rto b_same b_tries b_smooth b_spread b_byNumber b_byAck b_sampled b_told b_retry b_ackAt b_waitAt b_timedAt : Nat → Int32} {b_timed : Nat → Int64} {u0 : SX} {v0 : SY}
theorem x_twice_l {s t : Nat} (he : e < 2) (hs : s < 16) (ht : t < 16) (hst : s ≠ t) : ∀ (d i : Nat) (sb : Nat → Int32), i + d = 8 → ch 128 e (8 * t) 8 a_segBytes sb → (∀ y : Int, 0 ≤ y → y < i → rg 128 e sb (8 * t + y) = vp_nar .byte (rg 128 e a_segBytes (8 * s + y))) →
    ∃ sb', ch 128 e (8 * t) 8 a_segBytes sb' ∧ (∀ y : Int, 0 ≤ y → y < 8 → rg 128 e sb' (8 * t + y) = vp_nar .byte (rg 128 e a_segBytes (8 * s + y))) ∧ ∀ {f_now f_sent : Int32} {a_state a_error a_tries a_iss a_una a_nxt a_max a_last a_closing a_kept a_rcv a_first a_held a_fin a_unread a_came a_ended a_wnd a_peak a_half a_same a_setBy a_setAt a_isSet a_rto a_smooth a_spread a_timed a_since a_retry a_waits a_rest a_segSeq a_segAck a_segFlags a_segWindow a_segLength a_row a_many a_taken : Nat → Int32} (post : Int32 → SX → Prop) (fuel : Nat), d < fuel → post (a_many e) (f_now, f_sent, a_state, a_error, a_tries, a_iss, a_una, a_nxt, a_max, a_last, a_closing, a_kept, a_rcv, a_first, a_held, a_fin, a_unread, a_came, a_ended, a_wnd, a_peak, a_half, a_same, a_setBy, a_setAt, a_isSet, a_rto, a_smooth, a_spread, a_timed, a_since, a_retry, a_waits, a_rest, a_segSeq, a_segAck, a_segFlags, a_segWindow, a_segLength, sb', a_row, a_many, a_taken) → wX_twice_84 post (zI e) (zI (16 * e + s)) (zI (16 * e + t)) f_now f_sent fuel (zI i) a_state a_error a_tries a_iss a_una a_nxt a_max a_last a_closing a_kept a_rcv a_first a_held a_fin a_unread a_came a_ended a_wnd a_peak a_half a_same a_setBy a_setAt a_isSet a_rto a_smooth a_spread a_timed a_since a_retry a_waits a_rest a_segSeq a_segAck a_segFlags a_segWindow a_segLength sb a_row a_many a_taken := by
  intro d
  induction d with
  | zero =>
    intro i sb hi h1 h2
    refine ⟨sb, h1, fun y y0 y1 => h2 y y0 (by omega), ?_⟩
    intro f_now f_sent a_state a_error a_tries a_iss a_una a_nxt a_max a_last a_closing a_kept a_rcv a_first a_held a_fin a_unread a_came a_ended a_wnd a_peak a_half a_same a_setBy a_setAt a_isSet a_rto a_smooth a_spread a_timed a_since a_retry a_waits a_rest a_segSeq a_segAck a_segFlags a_segWindow a_segLength a_row a_many a_taken post fuel hf K
    obtain ⟨fuel, rfl⟩ : ∃ n', fuel = n' + 1 := ⟨fuel - 1, by omega⟩
    have hc : (8 : Int32) ≤ zI i := by rw [zl_8, zI_le (by omega)]; omega
    rw [wX_twice_84]
    refine br_t hc ⟨e_in he, ?_⟩
    rw [e_cl he]
    exact K
  | succ d ih =>
    intro i sb hi h1 h2
    have hidx : (8 * (16 * (e : Int) + t) + i).toNat = (128 * (e : Int) + (8 * t + i)).toNat := by omega
    have hval : sb (8 * (16 * (e : Int) + s) + i).toNat = rg 128 e a_segBytes (8 * s + i) := by
      rw [← h1.2 (8 * s + i) (by omega) (by omega) (by omega)]
      unfold rg
      rw [Int.emod_eq_of_lt (by omega) (by omega)]
      congr 1; omega
    obtain ⟨sb', c1, c2, c3⟩ := ih (i + 1) (upd sb ((128 * (e : Int) + (8 * t + i)).toNat) (vp_nar .byte (rg 128 e a_segBytes (8 * s + i)))) (by omega) (ch_u (by decide) he (by omega) h1) (fun y y0 y1 => by
      rw [rg_in (by decide) (by omega)]
      by_cases z : y = i
      · subst z; rw [if_pos (by omega)]
      · rw [if_neg (by omega)]; exact h2 y y0 (by omega))
    refine ⟨sb', c1, c2, ?_⟩
    intro f_now f_sent a_state a_error a_tries a_iss a_una a_nxt a_max a_last a_closing a_kept a_rcv a_first a_held a_fin a_unread a_came a_ended a_wnd a_peak a_half a_same a_setBy a_setAt a_isSet a_rto a_smooth a_spread a_timed a_since a_retry a_waits a_rest a_segSeq a_segAck a_segFlags a_segWindow a_segLength a_row a_many a_taken post fuel hf K
    obtain ⟨fuel, rfl⟩ : ∃ n', fuel = n' + 1 := ⟨fuel - 1, by omega⟩
    have hc : ¬ (8 : Int32) ≤ zI i := by rw [zl_8, zI_le (by omega)]; omega
    have a1 : (8 : Int32) * zI (16 * e + s) + zI i = zI (8 * (16 * e + s) + i) := by rw [zl_8, zI_mul, zI_add]
    have a2 : (8 : Int32) * zI (16 * e + t) + zI i = zI (8 * (16 * e + t) + i) := by rw [zl_8, zI_mul, zI_add]
    have a3 : vp_in (zI (8 * (16 * (e : Int) + s) + i)) 256 := zI_in (by omega)
    have a4 : vp_in (zI (8 * (16 * (e : Int) + t) + i)) 256 := zI_in (by omega)
    have a5 : (zI (8 * (16 * (e : Int) + s) + i)).toNatClampNeg = (8 * (16 * (e : Int) + s) + i).toNat := zI_cl (by omega)
    have a6 : (zI (8 * (16 * (e : Int) + t) + i)).toNatClampNeg = (8 * (16 * (e : Int) + t) + i).toNat := zI_cl (by omega)
    rw [wX_twice_84]
    refine br_f hc ?_
    rw [a1, a2]
    refine ⟨a3, a4, ?_⟩
    rw [a5, a6, hval, hidx]
    exact nm_e (nm_r (e' := zI ((i + 1 : Nat) : Int)) (zI_add i 1) (c3 post fuel (by omega) K))
theorem x_forge_l {t nn : Nat} {b : Int32} (he : e < 2) (ht : t < 16) (hn : nn ≤ 8) : ∀ (d i : Nat) (sb : Nat → Int32), i + d = nn → ch 128 e (8 * t) 8 a_segBytes sb → (∀ y : Int, 0 ≤ y → y < i → rg 128 e sb (8 * t + y) = (b + zI y).toInt8.toInt32) →
    ∃ sb', ch 128 e (8 * t) 8 a_segBytes sb' ∧ (∀ y : Int, 0 ≤ y → y < nn → rg 128 e sb' (8 * t + y) = (b + zI y).toInt8.toInt32) ∧ ∀ {f_now f_sent : Int32} {a_state a_error a_tries a_iss a_una a_nxt a_max a_last a_closing a_kept a_rcv a_first a_held a_fin a_unread a_came a_ended a_wnd a_peak a_half a_same a_setBy a_setAt a_isSet a_rto a_smooth a_spread a_timed a_since a_retry a_waits a_rest a_segSeq a_segAck a_segFlags a_segWindow a_segLength a_row a_many a_taken : Nat → Int32} (post : Int32 → SX → Prop) (fuel : Nat), d < fuel → post (a_many e) (f_now, f_sent, a_state, a_error, a_tries, a_iss, a_una, a_nxt, a_max, a_last, a_closing, a_kept, a_rcv, a_first, a_held, a_fin, a_unread, a_came, a_ended, a_wnd, a_peak, a_half, a_same, a_setBy, a_setAt, a_isSet, a_rto, a_smooth, a_spread, a_timed, a_since, a_retry, a_waits, a_rest, a_segSeq, a_segAck, a_segFlags, a_segWindow, a_segLength, sb', a_row, a_many, a_taken) → wX_forge_102 post (zI e) (zI nn) b (zI (16 * e + t)) f_now f_sent fuel (zI i) a_state a_error a_tries a_iss a_una a_nxt a_max a_last a_closing a_kept a_rcv a_first a_held a_fin a_unread a_came a_ended a_wnd a_peak a_half a_same a_setBy a_setAt a_isSet a_rto a_smooth a_spread a_timed a_since a_retry a_waits a_rest a_segSeq a_segAck a_segFlags a_segWindow a_segLength sb a_row a_many a_taken := by
  intro d
  induction d with
  | zero =>
    intro i sb hi h1 h2
    refine ⟨sb, h1, fun y y0 y1 => h2 y y0 (by omega), ?_⟩
    intro f_now f_sent a_state a_error a_tries a_iss a_una a_nxt a_max a_last a_closing a_kept a_rcv a_first a_held a_fin a_unread a_came a_ended a_wnd a_peak a_half a_same a_setBy a_setAt a_isSet a_rto a_smooth a_spread a_timed a_since a_retry a_waits a_rest a_segSeq a_segAck a_segFlags a_segWindow a_segLength a_row a_many a_taken post fuel hf K
    obtain ⟨fuel, rfl⟩ : ∃ n', fuel = n' + 1 := ⟨fuel - 1, by omega⟩
    have hc : zI (nn : Int) ≤ zI i := by rw [zI_le (by omega)]; omega
    rw [wX_forge_102]
    refine br_t hc ⟨e_in he, ?_⟩
    rw [e_cl he]
    exact K
  | succ d ih =>
    intro i sb hi h1 h2
    have hidx : (8 * (16 * (e : Int) + t) + i).toNat = (128 * (e : Int) + (8 * t + i)).toNat := by omega
    obtain ⟨sb', c1, c2, c3⟩ := ih (i + 1) (upd sb ((128 * (e : Int) + (8 * t + i)).toNat) ((b + zI i).toInt8.toInt32)) (by omega) (ch_u (by decide) he (by omega) h1) (fun y y0 y1 => by
      rw [rg_in (by decide) (by omega)]
      by_cases z : y = i
      · subst z; rw [if_pos (by omega)]
      · rw [if_neg (by omega)]; exact h2 y y0 (by omega))
    refine ⟨sb', c1, c2, ?_⟩
    intro f_now f_sent a_state a_error a_tries a_iss a_una a_nxt a_max a_last a_closing a_kept a_rcv a_first a_held a_fin a_unread a_came a_ended a_wnd a_peak a_half a_same a_setBy a_setAt a_isSet a_rto a_smooth a_spread a_timed a_since a_retry a_waits a_rest a_segSeq a_segAck a_segFlags a_segWindow a_segLength a_row a_many a_taken post fuel hf K
    obtain ⟨fuel, rfl⟩ : ∃ n', fuel = n' + 1 := ⟨fuel - 1, by omega⟩
    have hc : ¬ zI (nn : Int) ≤ zI i := by rw [zI_le (by omega)]; omega
    have a2 : (8 : Int32) * zI (16 * e + t) + zI i = zI (8 * (16 * e + t) + i) := by rw [zl_8, zI_mul, zI_add]
    have a4 : vp_in (zI (8 * (16 * (e : Int) + t) + i)) 256 := zI_in (by omega)
    have a6 : (zI (8 * (16 * (e : Int) + t) + i)).toNatClampNeg = (8 * (16 * (e : Int) + t) + i).toNat := zI_cl (by omega)
    rw [wX_forge_102]
    refine br_f hc ?_
    rw [a2]
    refine ⟨a4, ?_⟩
    rw [a6, hidx, pk_vb]
    exact nm_e (nm_r (e' := zI ((i + 1 : Nat) : Int)) (zI_add i 1) (c3 post fuel (by omega) K))
theorem y_forge_l {t nn : Nat} {b : Int32} (he : e < 2) (ht : t < 16) (hn : nn ≤ 8) : ∀ (d i : Nat) (dt : Nat → Int32), i + d = nn → ch 128 e (8 * t) 8 b_data dt → (∀ y : Int, 0 ≤ y → y < i → rg 128 e dt (8 * t + y) = (b + zI y) &&& 255) →
    ∃ dt', ch 128 e (8 * t) 8 b_data dt' ∧ (∀ y : Int, 0 ≤ y → y < nn → rg 128 e dt' (8 * t + y) = (b + zI y) &&& 255) ∧ ∀ {g_now g_sent : Int32} {b_seq b_flags b_acked b_window b_many b_rows b_state b_error b_iss : Nat → Int32} {b_una b_nxt b_max b_last : Nat → Int64} {b_closed b_written b_irs b_unread b_bytes b_held : Nat → Int32} {b_rcv b_finAt : Nat → Int64} {b_marked b_wnd b_peak b_half b_rto b_same b_tries b_smooth b_spread b_byNumber b_byAck b_sampled b_told b_retry b_ackAt b_waitAt b_timedAt : Nat → Int32} {b_timed : Nat → Int64} (post : Int32 → SY → Prop) (fuel : Nat), d < fuel → post (b_rows e) (g_now, g_sent, b_seq, b_flags, b_acked, b_window, b_many, dt', b_rows, b_state, b_error, b_iss, b_una, b_nxt, b_max, b_last, b_closed, b_written, b_irs, b_unread, b_bytes, b_held, b_rcv, b_finAt, b_marked, b_wnd, b_peak, b_half, b_rto, b_same, b_tries, b_smooth, b_spread, b_byNumber, b_byAck, b_sampled, b_told, b_retry, b_ackAt, b_waitAt, b_timedAt, b_timed) → wY_forge_125 post (zI e) (zI nn) b (zI (16 * e + t)) g_now g_sent fuel (zI i) b_seq b_flags b_acked b_window b_many dt b_rows b_state b_error b_iss b_una b_nxt b_max b_last b_closed b_written b_irs b_unread b_bytes b_held b_rcv b_finAt b_marked b_wnd b_peak b_half b_rto b_same b_tries b_smooth b_spread b_byNumber b_byAck b_sampled b_told b_retry b_ackAt b_waitAt b_timedAt b_timed := by
  intro d
  induction d with
  | zero =>
    intro i sb hi h1 h2
    refine ⟨sb, h1, fun y y0 y1 => h2 y y0 (by omega), ?_⟩
    intro g_now g_sent b_seq b_flags b_acked b_window b_many b_rows b_state b_error b_iss b_una b_nxt b_max b_last b_closed b_written b_irs b_unread b_bytes b_held b_rcv b_finAt b_marked b_wnd b_peak b_half b_rto b_same b_tries b_smooth b_spread b_byNumber b_byAck b_sampled b_told b_retry b_ackAt b_waitAt b_timedAt b_timed post fuel hf K
    obtain ⟨fuel, rfl⟩ : ∃ n', fuel = n' + 1 := ⟨fuel - 1, by omega⟩
    have hc : zI (nn : Int) ≤ zI i := by rw [zI_le (by omega)]; omega
    rw [wY_forge_125]
    refine br_t hc ⟨e_in he, ?_⟩
    rw [e_cl he]
    exact K
  | succ d ih =>
    intro i sb hi h1 h2
    have hidx : (8 * (16 * (e : Int) + t) + i).toNat = (128 * (e : Int) + (8 * t + i)).toNat := by omega
    obtain ⟨sb', c1, c2, c3⟩ := ih (i + 1) (upd sb ((128 * (e : Int) + (8 * t + i)).toNat) ((b + zI i) &&& 255)) (by omega) (ch_u (by decide) he (by omega) h1) (fun y y0 y1 => by
      rw [rg_in (by decide) (by omega)]
      by_cases z : y = i
      · subst z; rw [if_pos (by omega)]
      · rw [if_neg (by omega)]; exact h2 y y0 (by omega))
    refine ⟨sb', c1, c2, ?_⟩
    intro g_now g_sent b_seq b_flags b_acked b_window b_many b_rows b_state b_error b_iss b_una b_nxt b_max b_last b_closed b_written b_irs b_unread b_bytes b_held b_rcv b_finAt b_marked b_wnd b_peak b_half b_rto b_same b_tries b_smooth b_spread b_byNumber b_byAck b_sampled b_told b_retry b_ackAt b_waitAt b_timedAt b_timed post fuel hf K
    obtain ⟨fuel, rfl⟩ : ∃ n', fuel = n' + 1 := ⟨fuel - 1, by omega⟩
    have hc : ¬ zI (nn : Int) ≤ zI i := by rw [zI_le (by omega)]; omega
    have a2 : (8 : Int32) * zI (16 * e + t) + zI i = zI (8 * (16 * e + t) + i) := by rw [zl_8, zI_mul, zI_add]
    have a4 : vp_in (zI (8 * (16 * (e : Int) + t) + i)) 256 := zI_in (by omega)
    have a6 : (zI (8 * (16 * (e : Int) + t) + i)).toNatClampNeg = (8 * (16 * (e : Int) + t) + i).toNat := zI_cl (by omega)
    rw [wY_forge_125]
    refine br_f hc ?_
    rw [a2]
    refine ⟨a4, ?_⟩
    rw [a6, hidx]
    exact nm_e (nm_r (e' := zI ((i + 1 : Nat) : Int)) (zI_add i 1) (c3 post fuel (by omega) K))
end
end
section
/-! twice and forge -/
section
variable {e : Nat} {L now : Int} {st er tr iss una nxt mx la cl irs rcv fi un fst wnd pk hf rto sa smo tm si rt wt rs nr nw ns : Int} {f_now f_sent : Int32} {a_state a_error a_tries a_iss a_una a_nxt a_max a_last a_closing a_kept a_rcv a_first a_held a_fin a_unread a_came a_ended a_wnd a_peak a_half a_same a_setBy a_setAt a_isSet a_rto a_smooth a_spread a_timed a_since a_retry a_waits a_rest a_segSeq a_segAck a_segFlags a_segWindow a_segLength a_segBytes a_row a_many a_taken : Nat → Int32} {g_now g_sent : Int32} {b_seq b_flags b_acked b_window b_many b_data b_rows b_state b_error b_iss : Nat → Int32} {b_una b_nxt b_max b_last : Nat → Int64} {b_closed b_written b_irs b_unread b_bytes b_held : Nat → Int32} {b_rcv b_finAt : Nat → Int64} {b_marked b_wnd b_peak b_half b_rto b_same b_tries b_smooth b_spread b_byNumber b_byAck b_sampled b_told b_retry b_ackAt b_waitAt b_timedAt : Nat → Int32} {b_timed : Nat → Int64} {u0 : SX} {v0 : SY}
theorem ON_put {m k : Nat} {sg : Nat → Nat} {q f a w n : Int} {c_segSeq c_segAck c_segFlags c_segWindow c_segLength c_segBytes d_seq d_flags d_acked d_window d_many d_data : Nat → Int32}
    (he : e < 2) (h : ON e L now nr nw ns (f_now, f_sent, a_state, a_error, a_tries, a_iss, a_una, a_nxt, a_max, a_last, a_closing, a_kept, a_rcv, a_first, a_held, a_fin, a_unread, a_came, a_ended, a_wnd, a_peak, a_half, a_same, a_setBy, a_setAt, a_isSet, a_rto, a_smooth, a_spread, a_timed, a_since, a_retry, a_waits, a_rest, a_segSeq, a_segAck, a_segFlags, a_segWindow, a_segLength, a_segBytes, a_row, a_many, a_taken) (g_now, g_sent, b_seq, b_flags, b_acked, b_window, b_many, b_data, b_rows, b_state, b_error, b_iss, b_una, b_nxt, b_max, b_last, b_closed, b_written, b_irs, b_unread, b_bytes, b_held, b_rcv, b_finAt, b_marked, b_wnd, b_peak, b_half, b_rto, b_same, b_tries, b_smooth, b_spread, b_byNumber, b_byAck, b_sampled, b_told, b_retry, b_ackAt, b_waitAt, b_timedAt, b_timed)) (hR : ER e m sg (a_many e) (rg 16 e a_row)) (hS : ES m sg (a_taken e) (rg 16 e a_segSeq) (rg 16 e a_segAck) (rg 16 e a_segFlags) (rg 16 e a_segWindow) (rg 16 e a_segLength) (rg 128 e a_segBytes) (rg 16 e b_seq) (rg 16 e b_flags) (rg 16 e b_acked) (rg 16 e b_window) (rg 16 e b_many) (rg 128 e b_data))
    (hm : m < 16) (hk : k < 16) (hb : bt (a_taken e) k = false)
    (x1 : ch 16 e k 1 a_segSeq c_segSeq) (x2 : ch 16 e k 1 a_segAck c_segAck) (x3 : ch 16 e k 1 a_segFlags c_segFlags) (x4 : ch 16 e k 1 a_segWindow c_segWindow) (x5 : ch 16 e k 1 a_segLength c_segLength) (x6 : ch 128 e (8 * k) 8 a_segBytes c_segBytes)
    (y1 : ch 16 e m 1 b_seq d_seq) (y2 : ch 16 e m 1 b_flags d_flags) (y3 : ch 16 e m 1 b_acked d_acked) (y4 : ch 16 e m 1 b_window d_window) (y5 : ch 16 e m 1 b_many d_many) (y6 : ch 128 e (8 * m) 8 b_data d_data)
    (g : SG q f a w n k m (rg 16 e c_segSeq) (rg 16 e c_segAck) (rg 16 e c_segFlags) (rg 16 e c_segWindow) (rg 16 e c_segLength) (rg 128 e c_segBytes) (rg 16 e d_seq) (rg 16 e d_flags) (rg 16 e d_acked) (rg 16 e d_window) (rg 16 e d_many) (rg 128 e d_data)) :
    ON e L now nr nw ns (f_now, f_sent, a_state, a_error, a_tries, a_iss, a_una, a_nxt, a_max, a_last, a_closing, a_kept, a_rcv, a_first, a_held, a_fin, a_unread, a_came, a_ended, a_wnd, a_peak, a_half, a_same, a_setBy, a_setAt, a_isSet, a_rto, a_smooth, a_spread, a_timed, a_since, a_retry, a_waits, a_rest, c_segSeq, c_segAck, c_segFlags, c_segWindow, c_segLength, c_segBytes, upd a_row ((16 * (e : Int) + m).toNat) (zI (16 * (e : Int) + k)), upd a_many e (zI (m + 1)), upd a_taken e (a_taken e ||| (zI 1 <<< (zI k &&& zI 31)))) (g_now, g_sent, d_seq, d_flags, d_acked, d_window, d_many, d_data, upd b_rows e (zI (m + 1)), b_state, b_error, b_iss, b_una, b_nxt, b_max, b_last, b_closed, b_written, b_irs, b_unread, b_bytes, b_held, b_rcv, b_finAt, b_marked, b_wnd, b_peak, b_half, b_rto, b_same, b_tries, b_smooth, b_spread, b_byNumber, b_byAck, b_sampled, b_told, b_retry, b_ackAt, b_waitAt, b_timedAt, b_timed) := by
  refine ON_el h ?_
  intro st er tr iss una nxt mx la cl irs rcv fi un fst wnd pk hf rto sa smo tm si rt wt rs R I2
  obtain ⟨xnow, ynow, xst, xer, xtr, xiss, xuna, xnxt, xmx, xla, xcl, xrcv, xfst, xfi, xun, xen, xwnd, xpk, xhf, xrto, xsm, xsb, xsa, xis, xsmo, xspr, xtm, xsi, xrt, xwt, xrs, yst, yer, ytr, yiss, yuna, ynxt, ymx, yla, ycl, yirs, yrcv, yfi, yun, ywnd, ypk, yhf, yrto, ysa, ysmo, ytm, ysi, yrt, ywt, yrs, I1, I3, I4, I5, K, C, H, W⟩ := RE_el R
  refine ON_i (RE_in ⟨xnow, ynow, xst, xer, xtr, xiss, xuna, xnxt, xmx, xla, xcl, xrcv, xfst, xfi, xun, xen, xwnd, xpk, xhf, xrto, xsm, xsb, xsa, xis, xsmo, xspr, xtm, xsi, xrt, xwt, xrs, yst, yer, ytr, yiss, yuna, ynxt, ymx, yla, ycl, yirs, yrcv, yfi, yun, ywnd, ypk, yhf, yrto, ysa, ysmo, ytm, ysi, yrt, ywt, yrs, I1, I3, I4, I5, K, C, H, ?_⟩) I2
  rw [pk_us, pk_us, pk_us]
  exact EW_put he hR hS hm hk hb (fun i => bb_set _ k (by omega) i) x1 x2 x3 x4 x5 x6 y1 y2 y3 y4 y5 y6 g
end
end
section
/-! twice -/
section
variable {e : Nat} {L now : Int} {st er tr iss una nxt mx la cl irs rcv fi un fst wnd pk hf rto sa smo tm si rt wt rs nr nw ns : Int} {f_now f_sent : Int32} {a_state a_error a_tries a_iss a_una a_nxt a_max a_last a_closing a_kept a_rcv a_first a_held a_fin a_unread a_came a_ended a_wnd a_peak a_half a_same a_setBy a_setAt a_isSet a_rto a_smooth a_spread a_timed a_since a_retry a_waits a_rest a_segSeq a_segAck a_segFlags a_segWindow a_segLength a_segBytes a_row a_many a_taken : Nat → Int32} {g_now g_sent : Int32} {b_seq b_flags b_acked b_window b_many b_data b_rows b_state b_error b_iss : Nat → Int32} {b_una b_nxt b_max b_last : Nat → Int64} {b_closed b_written b_irs b_unread b_bytes b_held : Nat → Int32} {b_rcv b_finAt : Nat → Int64} {b_marked b_wnd b_peak b_half b_rto b_same b_tries b_smooth b_spread b_byNumber b_byAck b_sampled b_told b_retry b_ackAt b_waitAt b_timedAt : Nat → Int32} {b_timed : Nat → Int64} {u0 : SX} {v0 : SY}
theorem lk_twice {m i : Nat} {sg : Nat → Nat} (he : e < 2) (h : ON e L now (now + 1) (now + 1) (now + 1) (f_now, f_sent, a_state, a_error, a_tries, a_iss, a_una, a_nxt, a_max, a_last, a_closing, a_kept, a_rcv, a_first, a_held, a_fin, a_unread, a_came, a_ended, a_wnd, a_peak, a_half, a_same, a_setBy, a_setAt, a_isSet, a_rto, a_smooth, a_spread, a_timed, a_since, a_retry, a_waits, a_rest, a_segSeq, a_segAck, a_segFlags, a_segWindow, a_segLength, a_segBytes, a_row, a_many, a_taken) (g_now, g_sent, b_seq, b_flags, b_acked, b_window, b_many, b_data, b_rows, b_state, b_error, b_iss, b_una, b_nxt, b_max, b_last, b_closed, b_written, b_irs, b_unread, b_bytes, b_held, b_rcv, b_finAt, b_marked, b_wnd, b_peak, b_half, b_rto, b_same, b_tries, b_smooth, b_spread, b_byNumber, b_byAck, b_sampled, b_told, b_retry, b_ackAt, b_waitAt, b_timedAt, b_timed)) (ho : ON (1 - e) L now (now + 1) (now + 1) (now + 1) (f_now, f_sent, a_state, a_error, a_tries, a_iss, a_una, a_nxt, a_max, a_last, a_closing, a_kept, a_rcv, a_first, a_held, a_fin, a_unread, a_came, a_ended, a_wnd, a_peak, a_half, a_same, a_setBy, a_setAt, a_isSet, a_rto, a_smooth, a_spread, a_timed, a_since, a_retry, a_waits, a_rest, a_segSeq, a_segAck, a_segFlags, a_segWindow, a_segLength, a_segBytes, a_row, a_many, a_taken) (g_now, g_sent, b_seq, b_flags, b_acked, b_window, b_many, b_data, b_rows, b_state, b_error, b_iss, b_una, b_nxt, b_max, b_last, b_closed, b_written, b_irs, b_unread, b_bytes, b_held, b_rcv, b_finAt, b_marked, b_wnd, b_peak, b_half, b_rto, b_same, b_tries, b_smooth, b_spread, b_byNumber, b_byAck, b_sampled, b_told, b_retry, b_ackAt, b_waitAt, b_timedAt, b_timed)) (hi : i < m) (hr : b_rows e = zI m) (hR : ER e m sg (a_many e) (rg 16 e a_row)) (hS : ES m sg (a_taken e) (rg 16 e a_segSeq) (rg 16 e a_segAck) (rg 16 e a_segFlags) (rg 16 e a_segWindow) (rg 16 e a_segLength) (rg 128 e a_segBytes) (rg 16 e b_seq) (rg 16 e b_flags) (rg 16 e b_acked) (rg 16 e b_window) (rg 16 e b_many) (rg 128 e b_data)) :
    LK ap1 aq1 (fun p => wpX_twice p (f_now, f_sent, a_state, a_error, a_tries, a_iss, a_una, a_nxt, a_max, a_last, a_closing, a_kept, a_rcv, a_first, a_held, a_fin, a_unread, a_came, a_ended, a_wnd, a_peak, a_half, a_same, a_setBy, a_setAt, a_isSet, a_rto, a_smooth, a_spread, a_timed, a_since, a_retry, a_waits, a_rest, a_segSeq, a_segAck, a_segFlags, a_segWindow, a_segLength, a_segBytes, a_row, a_many, a_taken) (zI e) (zI i)) (fun p => wpY_twice p (g_now, g_sent, b_seq, b_flags, b_acked, b_window, b_many, b_data, b_rows, b_state, b_error, b_iss, b_una, b_nxt, b_max, b_last, b_closed, b_written, b_irs, b_unread, b_bytes, b_held, b_rcv, b_finAt, b_marked, b_wnd, b_peak, b_half, b_rto, b_same, b_tries, b_smooth, b_spread, b_byNumber, b_byAck, b_sampled, b_told, b_retry, b_ackAt, b_waitAt, b_timedAt, b_timed) (zI e) (zI i)) (QT L now) := by
  have hne : 1 - e ≠ e := by omega
  have hm := hS.1
  obtain ⟨q, f, a, wn, n, hsg⟩ := hS.2.2.2.2 i hi
  have hs := hS.2.1 i hi
  have hee : 1 - (1 - e) = e := by omega
  have S0 : SU (1 - e) (16 * e + sg i) (16 * e + i) q f a wn n (f_now, f_sent, a_state, a_error, a_tries, a_iss, a_una, a_nxt, a_max, a_last, a_closing, a_kept, a_rcv, a_first, a_held, a_fin, a_unread, a_came, a_ended, a_wnd, a_peak, a_half, a_same, a_setBy, a_setAt, a_isSet, a_rto, a_smooth, a_spread, a_timed, a_since, a_retry, a_waits, a_rest, a_segSeq, a_segAck, a_segFlags, a_segWindow, a_segLength, a_segBytes, a_row, a_many, a_taken) (g_now, g_sent, b_seq, b_flags, b_acked, b_window, b_many, b_data, b_rows, b_state, b_error, b_iss, b_una, b_nxt, b_max, b_last, b_closed, b_written, b_irs, b_unread, b_bytes, b_held, b_rcv, b_finAt, b_marked, b_wnd, b_peak, b_half, b_rto, b_same, b_tries, b_smooth, b_spread, b_byNumber, b_byAck, b_sampled, b_told, b_retry, b_ackAt, b_waitAt, b_timedAt, b_timed) := by
    refine ⟨sg i, i, ⟨by rw [hee], by omega, by omega⟩, ⟨by rw [hee], by omega, by omega⟩, ?_⟩
    rw [hee]
    exact hsg
  obtain ⟨s1, s2, sq, sf, sa', sw, sn, xq, xa, xf, xw, xn, yq, ya, yf, yw, yn, ybs⟩ := SU_el (by omega) S0
  have hrow : a_row (16 * (e : Int) + i).toNat = zI (16 * e + sg i) := by
    rw [← hR.2 i hi]; unfold rg
    rw [Int.emod_eq_of_lt (by omega) (by omega)]
  have a1 : (16 : Int32) * zI e + zI i = zI (16 * e + i) := by rw [zl_16, zI_mul, zI_add]
  have a2 : vp_in (zI (16 * (e : Int) + i)) 32 := zI_in (by omega)
  have a3 : (zI (16 * (e : Int) + i)).toNatClampNeg = (16 * (e : Int) + i).toNat := zI_cl (by omega)
  have a4 : vp_in (zI (16 * (e : Int) + sg i)) 32 := zI_in (by omega)
  have a5 : (zI (16 * (e : Int) + sg i)).toNatClampNeg = (16 * (e : Int) + sg i).toNat := zI_cl (by omega)
  have haa : (if f / 2 % 2 = 0 then 0 else a) = a := by
    by_cases c : f / 2 % 2 = 0
    · rw [if_pos c]; exact (hsg.2.2.1.2.2.2.2 c).symm
    · rw [if_neg c]
  unfold wpX_twice wpY_twice
  simp only [x_there he hR.1 hm hi, y_none_k he hr hm hi]
  refine LX_f (by decide) (LY_t (by trivial) (LY_a (e_in he) ?_))
  rw [a1, e_cl he, hr]
  refine LX_a a2 ?_
  rw [a3, hrow]
  refine LX_n ?_
  by_cases hm16 : m = 16
  · subst hm16
    refine LY_t rfl ?_
    refine LK_x (fun p h => x_enq_f he hR.1 (br_f (by decide) h)) ?_
    refine LK_r1 ⟨rfl, fun e' he' => ?_⟩
    by_cases c : e' = e
    · subst c; exact h
    · have : e' = 1 - e := by omega
      subst this; exact ho
  · have hcm : ¬ zI (m : Int) = 16 := by rw [zl_16, zI_eq (by omega)]; omega
    refine LY_f hcm (LY_a (e_in he) ?_)
    obtain ⟨k, hk, hb1, hb2⟩ := sl_free hS (by omega)
    have hsk : sg i ≠ k := fun z => by
      have := (hS.2.2.2.1 k).mpr ⟨i, hi, z⟩
      rw [hb1] at this; cases this
    have hmm : m < 16 := by omega
    have hc1 : (0 : Int32) ≤ zI (16 * e + k) := by rw [zl_0, zI_le (by omega)]; omega
    have hc3 : 0 ≤ 16 * (e : Int) + k ∧ 16 * (e : Int) + k < 32 := by omega
    have hti : vp_in (zI (16 * (e : Int) + k)) 32 := zI_in (by omega)
    have htc : (zI (16 * (e : Int) + k)).toNatClampNeg = (16 * (e : Int) + k).toNat := zI_cl (by omega)
    have hnn : (16 * (e : Int) + sg i).toNat ≠ (16 * (e : Int) + k).toNat := by omega
    have hln : vp_nar .byte (zI n) = zI n := zI_n8 (by omega)
    obtain ⟨sb, c1, c2, c3⟩ := x_twice_l (a_segBytes := a_segBytes) he hs hk hsk 8 0 a_segBytes (by omega) ch_0 (fun y y0 y1 => absurd y1 (by omega))
    obtain ⟨dt, d1, d2, d3⟩ := y_copy (b_data := b_data) (a := i) (b := m) he (by omega) hmm (by omega)
    apply LK_x
    · intro p h
      refine x_enq he hR.1 hmm hk hb1 hb2 ?_
      refine br_t hc1 ⟨a4, a4, a4, a4, ?_⟩
      dsimp only
      rw [a5, xq, xf, xa, xw]
      refine x_stamp hc3 sf sw ?_
      refine ⟨a4, hti, ?_⟩
      dsimp only
      rw [htc, pk_un hnn, xn, hln, haa]
      refine nm_e ⟨9, c3 p 9 (by decide) ?_⟩
      exact h
    have v2 : (16 : Int32) * zI e + zI m = zI (16 * e + m) := by rw [zl_16, zI_mul, zI_add]
    rw [v2]
    apply LK_y
    · intro p h
      refine d3 _ ?_
      refine ⟨e_in he, e_in he, ?_⟩
      dsimp only
      rw [hr]
      refine nm_r (e' := upd b_rows e (zI (m + 1))) (by rw [show zI (m : Int) + 1 = zI (m + 1) from zI_add m 1]) ⟨e_in he, ?_⟩
      rw [pk_us]
      exact h
    rw [pk_us]
    have hk16 : (k : Int) % 16 = k := by omega
    have hm16' : (m : Int) % 16 = m := by omega
    refine LK_r1 ⟨rfl, fun e' he' => ?_⟩
    by_cases c : e' = e
    · subst c
      refine ON_put (q := q) (f := f) (a := a) (w := wn) (n := n) he h hR hS hmm hk hb1 (ch_u (by decide) he (by omega) ch_0) (ch_u (by decide) he (by omega) ch_0) (ch_u (by decide) he (by omega) ch_0) (ch_u (by decide) he (by omega) ch_0) (ch_u (by decide) he (by omega) (ch_u (by decide) he (by omega) ch_0)) c1 (ch_u (by decide) he (by omega) ch_0) (ch_u (by decide) he (by omega) ch_0) (ch_u (by decide) he (by omega) ch_0) (ch_u (by decide) he (by omega) ch_0) (ch_u (by decide) he (by omega) ch_0) d1 ?_
      refine ⟨⟨?_, ?_, sq⟩, ⟨?_, ?_, sf⟩, ⟨?_, ?_, sa'.1, sa'.2, hsg.2.2.1.2.2.2.2⟩, ⟨?_, ?_, sw⟩, ⟨?_, ?_, sn⟩, fun y h0 h1 => ?_⟩
      · rw [rg_in (by decide) (by omega), if_pos hk16]
      · rw [rg_in (by decide) (by omega), if_pos hm16', yq]
      · rw [rg_in (by decide) (by omega), if_pos hk16]
      · rw [rg_in (by decide) (by omega), if_pos hm16', yf]
      · rw [rg_in (by decide) (by omega), if_pos hk16]
      · rw [rg_in (by decide) (by omega), if_pos hm16', ya]
      · rw [rg_in (by decide) (by omega), if_pos hk16]
      · rw [rg_in (by decide) (by omega), if_pos hm16', yw]
      · rw [rg_in (by decide) (by omega), if_pos hk16]
      · rw [rg_in (by decide) (by omega), if_pos hm16', yn]
      · rw [d2 y h0 (by omega), c2 y h0 (by omega), by_nar]
        exact hsg.2.2.2.2.2 y h0 h1
    · have : e' = 1 - e := by omega
      subst this
      refine ON_v ho ?_ ?_
      · simp only [vX, pk_un hne, c1.1, rg_out (n := 16) (by decide) (show 0 ≤ (k : Int) ∧ (k : Int) < 16 by omega) he (show 1 - e < 2 by omega) hne, rg_out (n := 16) (by decide) (show 0 ≤ (m : Int) ∧ (m : Int) < 16 by omega) he (show 1 - e < 2 by omega) hne]
      · simp only [vY, pk_un hne, d1.1, rg_out (n := 16) (by decide) (show 0 ≤ (m : Int) ∧ (m : Int) < 16 by omega) he (show 1 - e < 2 by omega) hne]
theorem i_vc_twice {k : Nat} {u : SX} {v : SY} (I : i_Rel k u v) (hk : k + 8 ≤ 4096) (v1 : Int32) (v2 : Int32) : wpX_twice (fun r u' => wpY_twice (fun r' v' => r' = r ∧ i_Rel (k + 8) u' v') v v1 v2) u v1 v2 := by
  have J := i_up I
  obtain ⟨now, hn, hr⟩ := I (by omega)
  obtain ⟨f_now, f_sent, a_state, a_error, a_tries, a_iss, a_una, a_nxt, a_max, a_last, a_closing, a_kept, a_rcv, a_first, a_held, a_fin, a_unread, a_came, a_ended, a_wnd, a_peak, a_half, a_same, a_setBy, a_setAt, a_isSet, a_rto, a_smooth, a_spread, a_timed, a_since, a_retry, a_waits, a_rest, a_segSeq, a_segAck, a_segFlags, a_segWindow, a_segLength, a_segBytes, a_row, a_many, a_taken⟩ := u
  obtain ⟨g_now, g_sent, b_seq, b_flags, b_acked, b_window, b_many, b_data, b_rows, b_state, b_error, b_iss, b_una, b_nxt, b_max, b_last, b_closed, b_written, b_irs, b_unread, b_bytes, b_held, b_rcv, b_finAt, b_marked, b_wnd, b_peak, b_half, b_rto, b_same, b_tries, b_smooth, b_spread, b_byNumber, b_byAck, b_sampled, b_told, b_retry, b_ackAt, b_waitAt, b_timedAt, b_timed⟩ := v
  rcases end_c v1 with ⟨e, he, rfl⟩ | hne
  · have h0 := ON_L (L' := 1000 + 100 * ((k + 8 : Nat) : Int)) (hr e he) (by omega) (by omega)
    have h1 := ON_L (L' := 1000 + 100 * ((k + 8 : Nat) : Int)) (hr (1 - e) (by omega)) (by omega) (by omega)
    obtain ⟨m, sg, hrw, hER, hES⟩ := ON_W h0
    rcases there_c v2 hES.1 with ⟨i, hi, rfl⟩ | hb
    · exact top1 (WX := fun p => wpX_twice p (f_now, f_sent, a_state, a_error, a_tries, a_iss, a_una, a_nxt, a_max, a_last, a_closing, a_kept, a_rcv, a_first, a_held, a_fin, a_unread, a_came, a_ended, a_wnd, a_peak, a_half, a_same, a_setBy, a_setAt, a_isSet, a_rto, a_smooth, a_spread, a_timed, a_since, a_retry, a_waits, a_rest, a_segSeq, a_segAck, a_segFlags, a_segWindow, a_segLength, a_segBytes, a_row, a_many, a_taken) (zI e) (zI i)) (WY := fun p => wpY_twice p (g_now, g_sent, b_seq, b_flags, b_acked, b_window, b_many, b_data, b_rows, b_state, b_error, b_iss, b_una, b_nxt, b_max, b_last, b_closed, b_written, b_irs, b_unread, b_bytes, b_held, b_rcv, b_finAt, b_marked, b_wnd, b_peak, b_half, b_rto, b_same, b_tries, b_smooth, b_spread, b_byNumber, b_byAck, b_sampled, b_told, b_retry, b_ackAt, b_waitAt, b_timedAt, b_timed) (zI e) (zI i)) (by omega) (lk_twice he h0 h1 hi hrw hER hES)
    · unfold wpX_twice wpY_twice
      simp only [x_there_n he hER.1 hb, y_none_n he hrw hES.1 hb]
      exact br_t (by trivial) (br_f (by decide) ⟨by trivial, J⟩)
  · unfold wpX_twice wpY_twice
    simp only [x_there_e hne, y_none_e hne]
    exact br_t (by trivial) (br_f (by decide) ⟨by trivial, J⟩)
end
end
section
/-! forge -/
section
variable {e : Nat} {L now : Int} {st er tr iss una nxt mx la cl irs rcv fi un fst wnd pk hf rto sa smo tm si rt wt rs nr nw ns : Int} {f_now f_sent : Int32} {a_state a_error a_tries a_iss a_una a_nxt a_max a_last a_closing a_kept a_rcv a_first a_held a_fin a_unread a_came a_ended a_wnd a_peak a_half a_same a_setBy a_setAt a_isSet a_rto a_smooth a_spread a_timed a_since a_retry a_waits a_rest a_segSeq a_segAck a_segFlags a_segWindow a_segLength a_segBytes a_row a_many a_taken : Nat → Int32} {g_now g_sent : Int32} {b_seq b_flags b_acked b_window b_many b_data b_rows b_state b_error b_iss : Nat → Int32} {b_una b_nxt b_max b_last : Nat → Int64} {b_closed b_written b_irs b_unread b_bytes b_held : Nat → Int32} {b_rcv b_finAt : Nat → Int64} {b_marked b_wnd b_peak b_half b_rto b_same b_tries b_smooth b_spread b_byNumber b_byAck b_sampled b_told b_retry b_ackAt b_waitAt b_timedAt : Nat → Int32} {b_timed : Nat → Int64} {u0 : SX} {v0 : SY}
theorem out_c {v : Int32} {hi : Int} (h : 0 ≤ hi ∧ hi < 2147483648) (ho : ¬ (v < 0 ∨ ¬ v ≤ zI hi)) : ∃ w : Int, v = zI w ∧ 0 ≤ w ∧ w ≤ hi := by
  refine ⟨v.toInt, (zI_self v).symm, ?_⟩
  rw [Int32.lt_iff_toInt_lt, Int32.le_iff_toInt_le, show (0 : Int32).toInt = 0 from rfl, zI_toInt (by omega)] at ho
  omega
theorem out_n {w hi : Int} (h : 0 ≤ w ∧ w ≤ hi ∧ hi < 2147483648) : ¬ (zI w < 0 ∨ ¬ zI w ≤ zI hi) := by
  rw [zl_0, zI_lt (by omega), zI_le (by omega)]; omega
theorem lk_forge {m nn : Nat} {sg : Nat → Nat} {sq fx ak wn : Int} {b : Int32} (he : e < 2) (h : ON e L now (now + 1) (now + 1) (now + 1) (f_now, f_sent, a_state, a_error, a_tries, a_iss, a_una, a_nxt, a_max, a_last, a_closing, a_kept, a_rcv, a_first, a_held, a_fin, a_unread, a_came, a_ended, a_wnd, a_peak, a_half, a_same, a_setBy, a_setAt, a_isSet, a_rto, a_smooth, a_spread, a_timed, a_since, a_retry, a_waits, a_rest, a_segSeq, a_segAck, a_segFlags, a_segWindow, a_segLength, a_segBytes, a_row, a_many, a_taken) (g_now, g_sent, b_seq, b_flags, b_acked, b_window, b_many, b_data, b_rows, b_state, b_error, b_iss, b_una, b_nxt, b_max, b_last, b_closed, b_written, b_irs, b_unread, b_bytes, b_held, b_rcv, b_finAt, b_marked, b_wnd, b_peak, b_half, b_rto, b_same, b_tries, b_smooth, b_spread, b_byNumber, b_byAck, b_sampled, b_told, b_retry, b_ackAt, b_waitAt, b_timedAt, b_timed)) (ho : ON (1 - e) L now (now + 1) (now + 1) (now + 1) (f_now, f_sent, a_state, a_error, a_tries, a_iss, a_una, a_nxt, a_max, a_last, a_closing, a_kept, a_rcv, a_first, a_held, a_fin, a_unread, a_came, a_ended, a_wnd, a_peak, a_half, a_same, a_setBy, a_setAt, a_isSet, a_rto, a_smooth, a_spread, a_timed, a_since, a_retry, a_waits, a_rest, a_segSeq, a_segAck, a_segFlags, a_segWindow, a_segLength, a_segBytes, a_row, a_many, a_taken) (g_now, g_sent, b_seq, b_flags, b_acked, b_window, b_many, b_data, b_rows, b_state, b_error, b_iss, b_una, b_nxt, b_max, b_last, b_closed, b_written, b_irs, b_unread, b_bytes, b_held, b_rcv, b_finAt, b_marked, b_wnd, b_peak, b_half, b_rto, b_same, b_tries, b_smooth, b_spread, b_byNumber, b_byAck, b_sampled, b_told, b_retry, b_ackAt, b_waitAt, b_timedAt, b_timed)) (h1 : 0 ≤ sq ∧ sq ≤ 65535) (h2 : 0 ≤ fx ∧ fx ≤ 15) (h3 : 0 ≤ ak ∧ ak ≤ 65535) (h4 : 0 ≤ wn ∧ wn ≤ 24) (h5 : nn ≤ 8) (hr : b_rows e = zI m) (hR : ER e m sg (a_many e) (rg 16 e a_row)) (hS : ES m sg (a_taken e) (rg 16 e a_segSeq) (rg 16 e a_segAck) (rg 16 e a_segFlags) (rg 16 e a_segWindow) (rg 16 e a_segLength) (rg 128 e a_segBytes) (rg 16 e b_seq) (rg 16 e b_flags) (rg 16 e b_acked) (rg 16 e b_window) (rg 16 e b_many) (rg 128 e b_data)) :
    LK ap1 aq1 (fun p => wpX_forge p (f_now, f_sent, a_state, a_error, a_tries, a_iss, a_una, a_nxt, a_max, a_last, a_closing, a_kept, a_rcv, a_first, a_held, a_fin, a_unread, a_came, a_ended, a_wnd, a_peak, a_half, a_same, a_setBy, a_setAt, a_isSet, a_rto, a_smooth, a_spread, a_timed, a_since, a_retry, a_waits, a_rest, a_segSeq, a_segAck, a_segFlags, a_segWindow, a_segLength, a_segBytes, a_row, a_many, a_taken) (zI e) (zI sq) (zI fx) (zI ak) (zI wn) (zI nn) b) (fun p => wpY_forge p (g_now, g_sent, b_seq, b_flags, b_acked, b_window, b_many, b_data, b_rows, b_state, b_error, b_iss, b_una, b_nxt, b_max, b_last, b_closed, b_written, b_irs, b_unread, b_bytes, b_held, b_rcv, b_finAt, b_marked, b_wnd, b_peak, b_half, b_rto, b_same, b_tries, b_smooth, b_spread, b_byNumber, b_byAck, b_sampled, b_told, b_retry, b_ackAt, b_waitAt, b_timedAt, b_timed) (zI e) (zI sq) (zI fx) (zI ak) (zI wn) (zI nn) b) (QT L now) := by
  have hne : 1 - e ≠ e := by omega
  have hm := hS.1
  have o1 := out_n (w := sq) (hi := 65535) (by omega)
  have o2 := out_n (w := fx) (hi := 15) (by omega)
  have o3 := out_n (w := ak) (hi := 65535) (by omega)
  have o4 := out_n (w := wn) (hi := 24) (by omega)
  have o5 := out_n (w := (nn : Int)) (hi := 8) (by omega)
  have hf16 : 0 ≤ fx ∧ fx < 16 := by omega
  obtain ⟨ac, hac⟩ : ∃ ac : Int, ac = if fx / 2 % 2 = 0 then 0 else ak := ⟨_, rfl⟩
  have hac2 : 0 ≤ ac ∧ ac ≤ 65535 := by rw [hac]; split <;> omega
  have hac3 : fx / 2 % 2 = 0 → ac = 0 := fun z => by rw [hac, if_pos z]
  unfold wpX_forge wpY_forge
  simp only [x_isEnd he, y_end he, x_out, y_out, zl_65535, zl_15, zl_24, zl_8, if_neg o1, if_neg o2, if_neg o3, if_neg o4, if_neg o5]
  refine LX_f (by decide) (LX_t (by trivial) (LX_t (by trivial) (LX_t (by trivial) (LX_t (by trivial) (LX_t (by trivial) ?_)))))
  refine LY_t (by trivial) (LY_t (by trivial) (LY_t (by trivial) (LY_t (by trivial) (LY_t (by trivial) (LY_t (by trivial) (LY_a (e_in he) ?_))))))
  rw [e_cl he, hr]
  by_cases hm16 : m = 16
  · subst hm16
    refine LY_t rfl ?_
    refine LK_x (fun p h => x_enq_f he hR.1 (br_f (by decide) h)) ?_
    refine LK_r1 ⟨rfl, fun e' he' => ?_⟩
    by_cases c : e' = e
    · subst c; exact h
    · have : e' = 1 - e := by omega
      subst this; exact ho
  · have hcm : ¬ zI (m : Int) = 16 := by rw [zl_16, zI_eq (by omega)]; omega
    refine LY_f hcm (LY_a (e_in he) ?_)
    obtain ⟨k, hk, hb1, hb2⟩ := sl_free hS (by omega)
    have hmm : m < 16 := by omega
    have hc1 : (0 : Int32) ≤ zI (16 * e + k) := by rw [zl_0, zI_le (by omega)]; omega
    have hc3 : 0 ≤ 16 * (e : Int) + k ∧ 16 * (e : Int) + k < 32 := by omega
    have hti : vp_in (zI (16 * (e : Int) + k)) 32 := zI_in (by omega)
    have htc : (zI (16 * (e : Int) + k)).toNatClampNeg = (16 * (e : Int) + k).toNat := zI_cl (by omega)
    have hyi : vp_in (zI (16 * (e : Int) + m)) 32 := zI_in (by omega)
    have hyc : (zI (16 * (e : Int) + m)).toNatClampNeg = (16 * (e : Int) + m).toNat := zI_cl (by omega)
    have hln : vp_nar .byte ((zI (nn : Int)).toInt8.toInt32) = zI nn := by rw [zI_8 (by omega), zI_n8 (by omega)]
    obtain ⟨sb, c1, c2, c3⟩ := x_forge_l (a_segBytes := a_segBytes) (b := b) he hk h5 nn 0 a_segBytes (by omega) ch_0 (fun y y0 y1 => absurd y1 (by omega))
    obtain ⟨dt, d1, d2, d3⟩ := y_forge_l (b_data := b_data) (b := b) he hmm h5 nn 0 b_data (by omega) ch_0 (fun y y0 y1 => absurd y1 (by omega))
    apply LK_x
    · intro p h
      refine x_enq he hR.1 hmm hk hb1 hb2 ?_
      refine br_t hc1 ?_
      refine x_stamp hc3 hf16 h4 ?_
      refine ⟨hti, ?_⟩
      dsimp only
      rw [htc, hln, ← hac]
      refine nm_e ⟨nn + 1, c3 p (nn + 1) (Nat.lt_succ_self nn) ?_⟩
      exact h
    rw [show (16 : Int32) * zI e + zI m = zI (16 * e + m) by rw [zl_16, zI_mul, zI_add]]
    refine LY_n ?_
    have YY : ∀ p : Int32 → SY → Prop, p (zI (m + 1)) (g_now, g_sent + 1, upd b_seq ((16 * (e : Int) + m).toNat) (zI sq), upd b_flags ((16 * (e : Int) + m).toNat) (zI fx), upd b_acked ((16 * (e : Int) + m).toNat) (zI ac), upd b_window ((16 * (e : Int) + m).toNat) (zI wn), upd (upd b_many ((16 * (e : Int) + m).toNat) (zI 0)) ((16 * (e : Int) + m).toNat) (zI nn), dt, upd b_rows e (zI (m + 1)), b_state, b_error, b_iss, b_una, b_nxt, b_max, b_last, b_closed, b_written, b_irs, b_unread, b_bytes, b_held, b_rcv, b_finAt, b_marked, b_wnd, b_peak, b_half, b_rto, b_same, b_tries, b_smooth, b_spread, b_byNumber, b_byAck, b_sampled, b_told, b_retry, b_ackAt, b_waitAt, b_timedAt, b_timed) → wY_forge_107 p (zI e) (zI wn) (zI nn) b (zI (16 * e + m)) (zI ac) (zI fx) (zI sq) (zI e) g_now g_sent b_seq b_flags b_acked b_window b_many b_data b_rows b_state b_error b_iss b_una b_nxt b_max b_last b_closed b_written b_irs b_unread b_bytes b_held b_rcv b_finAt b_marked b_wnd b_peak b_half b_rto b_same b_tries b_smooth b_spread b_byNumber b_byAck b_sampled b_told b_retry b_ackAt b_waitAt b_timedAt b_timed := by
      intro p hp
      unfold wY_forge_107
      refine y_post he hr hmm ?_
      refine ⟨hyi, ?_⟩
      rw [hyc]
      refine nm_e ⟨nn + 1, d3 p (nn + 1) (Nat.lt_succ_self nn) ?_⟩
      rw [pk_us]
      exact hp
    refine LK_y (WY' := fun p => p (zI (m + 1)) (g_now, g_sent + 1, upd b_seq ((16 * (e : Int) + m).toNat) (zI sq), upd b_flags ((16 * (e : Int) + m).toNat) (zI fx), upd b_acked ((16 * (e : Int) + m).toNat) (zI ac), upd b_window ((16 * (e : Int) + m).toNat) (zI wn), upd (upd b_many ((16 * (e : Int) + m).toNat) (zI 0)) ((16 * (e : Int) + m).toNat) (zI nn), dt, upd b_rows e (zI (m + 1)), b_state, b_error, b_iss, b_una, b_nxt, b_max, b_last, b_closed, b_written, b_irs, b_unread, b_bytes, b_held, b_rcv, b_finAt, b_marked, b_wnd, b_peak, b_half, b_rto, b_same, b_tries, b_smooth, b_spread, b_byNumber, b_byAck, b_sampled, b_told, b_retry, b_ackAt, b_waitAt, b_timedAt, b_timed)) (fun p hp => ?_) ?_
    · by_cases z : fx / 2 % 2 = 0
      · have := hac3 z
        rw [this] at YY hp
        exact br_t ((cf_2 hf16).mpr z) (YY p hp)
      · have : ac = ak := by rw [hac, if_neg z]
        rw [this] at YY hp
        exact br_f (fun y => z ((cf_2 hf16).mp y)) (YY p hp)
    rw [pk_us]
    have hk16 : (k : Int) % 16 = k := by omega
    have hm16' : (m : Int) % 16 = m := by omega
    refine LK_r1 ⟨rfl, fun e' he' => ?_⟩
    by_cases c : e' = e
    · subst c
      exact ON_put (q := sq) (f := fx) (a := ac) (w := wn) (n := nn) he h hR hS hmm hk hb1 (ch_u (by decide) he (by omega) ch_0) (ch_u (by decide) he (by omega) ch_0) (ch_u (by decide) he (by omega) ch_0) (ch_u (by decide) he (by omega) ch_0) (ch_u (by decide) he (by omega) (ch_u (by decide) he (by omega) ch_0)) c1 (ch_u (by decide) he (by omega) ch_0) (ch_u (by decide) he (by omega) ch_0) (ch_u (by decide) he (by omega) ch_0) (ch_u (by decide) he (by omega) ch_0) (ch_u (by decide) he (by omega) (ch_u (by decide) he (by omega) ch_0)) d1 ⟨⟨by rw [rg_in (by decide) (by omega), if_pos hk16], by rw [rg_in (by decide) (by omega), if_pos hm16'], h1⟩, ⟨by rw [rg_in (by decide) (by omega), if_pos hk16], by rw [rg_in (by decide) (by omega), if_pos hm16'], hf16⟩, ⟨by rw [rg_in (by decide) (by omega), if_pos hk16], by rw [rg_in (by decide) (by omega), if_pos hm16'], hac2.1, hac2.2, hac3⟩, ⟨by rw [rg_in (by decide) (by omega), if_pos hk16], by rw [rg_in (by decide) (by omega), if_pos hm16'], h4⟩, ⟨by rw [rg_in (by decide) (by omega), if_pos hk16], by rw [rg_in (by decide) (by omega), if_pos hm16'], by omega, by omega⟩, fun y y0 y1 => by rw [d2 y y0 y1, c2 y y0 y1, bp_b]⟩
    · have : e' = 1 - e := by omega
      subst this
      refine ON_v ho ?_ ?_
      · simp only [vX, pk_un hne, c1.1, rg_out (n := 16) (by decide) (show 0 ≤ (k : Int) ∧ (k : Int) < 16 by omega) he (show 1 - e < 2 by omega) hne, rg_out (n := 16) (by decide) (show 0 ≤ (m : Int) ∧ (m : Int) < 16 by omega) he (show 1 - e < 2 by omega) hne]
      · simp only [vY, pk_un hne, d1.1, rg_out (n := 16) (by decide) (show 0 ≤ (m : Int) ∧ (m : Int) < 16 by omega) he (show 1 - e < 2 by omega) hne]
theorem i_vc_forge {k : Nat} {u : SX} {v : SY} (I : i_Rel k u v) (hk : k + 8 ≤ 4096) (v1 : Int32) (v2 : Int32) (v3 : Int32) (v4 : Int32) (v5 : Int32) (v6 : Int32) (v7 : Int32) : wpX_forge (fun r u' => wpY_forge (fun r' v' => r' = r ∧ i_Rel (k + 8) u' v') v v1 v2 v3 v4 v5 v6 v7) u v1 v2 v3 v4 v5 v6 v7 := by
  have J := i_up I
  obtain ⟨now, hn, hr⟩ := I (by omega)
  obtain ⟨f_now, f_sent, a_state, a_error, a_tries, a_iss, a_una, a_nxt, a_max, a_last, a_closing, a_kept, a_rcv, a_first, a_held, a_fin, a_unread, a_came, a_ended, a_wnd, a_peak, a_half, a_same, a_setBy, a_setAt, a_isSet, a_rto, a_smooth, a_spread, a_timed, a_since, a_retry, a_waits, a_rest, a_segSeq, a_segAck, a_segFlags, a_segWindow, a_segLength, a_segBytes, a_row, a_many, a_taken⟩ := u
  obtain ⟨g_now, g_sent, b_seq, b_flags, b_acked, b_window, b_many, b_data, b_rows, b_state, b_error, b_iss, b_una, b_nxt, b_max, b_last, b_closed, b_written, b_irs, b_unread, b_bytes, b_held, b_rcv, b_finAt, b_marked, b_wnd, b_peak, b_half, b_rto, b_same, b_tries, b_smooth, b_spread, b_byNumber, b_byAck, b_sampled, b_told, b_retry, b_ackAt, b_waitAt, b_timedAt, b_timed⟩ := v
  rcases end_c v1 with ⟨e, he, rfl⟩ | hne
  · by_cases o1 : v2 < 0 ∨ ¬ v2 ≤ 65535
    · unfold wpX_forge wpY_forge
      simp only [x_isEnd he, y_end he, x_out, y_out, if_pos o1]
      exact br_f (by decide) (br_f (by decide) (br_t (by trivial) (br_f (by decide) ⟨by trivial, J⟩)))
    · by_cases o2 : v3 < 0 ∨ ¬ v3 ≤ 15
      · unfold wpX_forge wpY_forge
        simp only [x_isEnd he, y_end he, x_out, y_out, if_neg o1, if_pos o2]
        exact br_f (by decide) (br_t (by trivial) (br_f (by decide) (br_t (by trivial) (br_t (by trivial) (br_f (by decide) ⟨by trivial, J⟩)))))
      · by_cases o3 : v4 < 0 ∨ ¬ v4 ≤ 65535
        · unfold wpX_forge wpY_forge
          simp only [x_isEnd he, y_end he, x_out, y_out, if_neg o1, if_neg o2, if_pos o3]
          exact br_f (by decide) (br_t (by trivial) (br_t (by trivial) (br_f (by decide) (br_t (by trivial) (br_t (by trivial) (br_t (by trivial) (br_f (by decide) ⟨by trivial, J⟩)))))))
        · by_cases o4 : v5 < 0 ∨ ¬ v5 ≤ 24
          · unfold wpX_forge wpY_forge
            simp only [x_isEnd he, y_end he, x_out, y_out, if_neg o1, if_neg o2, if_neg o3, if_pos o4]
            exact br_f (by decide) (br_t (by trivial) (br_t (by trivial) (br_t (by trivial) (br_f (by decide) (br_t (by trivial) (br_t (by trivial) (br_t (by trivial) (br_t (by trivial) (br_f (by decide) ⟨by trivial, J⟩)))))))))
          · by_cases o5 : v6 < 0 ∨ ¬ v6 ≤ 8
            · unfold wpX_forge wpY_forge
              simp only [x_isEnd he, y_end he, x_out, y_out, if_neg o1, if_neg o2, if_neg o3, if_neg o4, if_pos o5]
              exact br_f (by decide) (br_t (by trivial) (br_t (by trivial) (br_t (by trivial) (br_t (by trivial) (br_f (by decide) (br_t (by trivial) (br_t (by trivial) (br_t (by trivial) (br_t (by trivial) (br_t (by trivial) (br_f (by decide) ⟨by trivial, J⟩)))))))))))
            · obtain ⟨sq, rfl, h1⟩ := out_c (hi := 65535) (by omega) o1
              obtain ⟨fx, rfl, h2⟩ := out_c (hi := 15) (by omega) o2
              obtain ⟨ak, rfl, h3⟩ := out_c (hi := 65535) (by omega) o3
              obtain ⟨wn, rfl, h4⟩ := out_c (hi := 24) (by omega) o4
              obtain ⟨n, rfl, h5⟩ := out_c (hi := 8) (by omega) o5
              obtain ⟨nn, rfl⟩ := Int.eq_ofNat_of_zero_le h5.1
              have h0 := ON_L (L' := 1000 + 100 * ((k + 8 : Nat) : Int)) (hr e he) (by omega) (by omega)
              have h6 := ON_L (L' := 1000 + 100 * ((k + 8 : Nat) : Int)) (hr (1 - e) (by omega)) (by omega) (by omega)
              obtain ⟨m, sg, hrw, hER, hES⟩ := ON_W h0
              exact top1 (WX := fun p => wpX_forge p (f_now, f_sent, a_state, a_error, a_tries, a_iss, a_una, a_nxt, a_max, a_last, a_closing, a_kept, a_rcv, a_first, a_held, a_fin, a_unread, a_came, a_ended, a_wnd, a_peak, a_half, a_same, a_setBy, a_setAt, a_isSet, a_rto, a_smooth, a_spread, a_timed, a_since, a_retry, a_waits, a_rest, a_segSeq, a_segAck, a_segFlags, a_segWindow, a_segLength, a_segBytes, a_row, a_many, a_taken) (zI e) (zI sq) (zI fx) (zI ak) (zI wn) (zI nn) v7) (WY := fun p => wpY_forge p (g_now, g_sent, b_seq, b_flags, b_acked, b_window, b_many, b_data, b_rows, b_state, b_error, b_iss, b_una, b_nxt, b_max, b_last, b_closed, b_written, b_irs, b_unread, b_bytes, b_held, b_rcv, b_finAt, b_marked, b_wnd, b_peak, b_half, b_rto, b_same, b_tries, b_smooth, b_spread, b_byNumber, b_byAck, b_sampled, b_told, b_retry, b_ackAt, b_waitAt, b_timedAt, b_timed) (zI e) (zI sq) (zI fx) (zI ak) (zI wn) (zI nn) v7) (by omega) (lk_forge he h0 h6 h1 h2 h3 h4 (by omega) hrw hER hES)
  · unfold wpX_forge wpY_forge
    simp only [x_isEnd_n hne, y_end_n hne]
    exact br_t (by trivial) (br_f (by decide) ⟨by trivial, J⟩)
end
end
section
/-! write -/
section
variable {e : Nat} {L now : Int} {st er tr iss una nxt mx la cl irs rcv fi un fst wnd pk hf rto sa smo tm si rt wt rs nr nw ns : Int} {f_now f_sent : Int32} {a_state a_error a_tries a_iss a_una a_nxt a_max a_last a_closing a_kept a_rcv a_first a_held a_fin a_unread a_came a_ended a_wnd a_peak a_half a_same a_setBy a_setAt a_isSet a_rto a_smooth a_spread a_timed a_since a_retry a_waits a_rest a_segSeq a_segAck a_segFlags a_segWindow a_segLength a_segBytes a_row a_many a_taken : Nat → Int32} {g_now g_sent : Int32} {b_seq b_flags b_acked b_window b_many b_data b_rows b_state b_error b_iss : Nat → Int32} {b_una b_nxt b_max b_last : Nat → Int64} {b_closed b_written b_irs b_unread b_bytes b_held : Nat → Int32} {b_rcv b_finAt : Nat → Int64} {b_marked b_wnd b_peak b_half b_rto b_same b_tries b_smooth b_spread b_byNumber b_byAck b_sampled b_told b_retry b_ackAt b_waitAt b_timedAt : Nat → Int32} {b_timed : Nat → Int64} {u0 : SX} {v0 : SY}
theorem EK_push {v dv : Int32} {n1 : Int} (h : EK iss una la (rg 32 e a_kept) (rg 64 e b_written)) (hb : 1 ≤ la ∧ 0 ≤ una ∧ la ≤ una + 32 ∧ (1 ≤ una → la ≤ una + 31)) (hn : n1 % 32 = (iss + la) % 32) (hv : dv = v &&& 255) :
    EK iss una (la + 1) (rg 32 e (upd a_kept ((32 * (e : Int) + n1 % 32).toNat) v)) (rg 64 e (upd b_written ((64 * (e : Int) + la % 64).toNat) dv)) := by
  intro p h1 h2 h3
  rw [rg_in (by decide) (by omega), rg_in (by decide) (by omega)]
  by_cases c : p = la
  · subst c
    rw [if_pos rfl, if_pos (by omega)]
    exact hv
  · rw [if_neg (by omega), if_neg (by omega)]
    exact h p h1 h2 (by omega)
theorem E2_la (h : E2 L st iss una nxt mx la cl tm) (h2 : 2 ≤ st) (hL : la + 1 ≤ L) (hk : kb st una la < 32) : E2 L st iss una nxt mx (la + 1) cl tm := by
  obtain ⟨a1, a2, a3, a4, a5, a6, a7, a8, a9⟩ := h
  have b5 := a5 h2
  unfold kb at hk
  rw [if_neg (by omega)] at hk
  have hb : la ≤ una + 32 ∧ (1 ≤ una → la ≤ una + 31) := by
    by_cases c : una = 0
    · rw [if_pos c] at hk; omega
    · rw [if_neg c] at hk
      by_cases c2 : una ≤ la
      · rw [if_pos c2] at hk; omega
      · omega
  exact ⟨a1, by omega, a3, fun z => by omega, fun _ => by omega, a6, a7, a8, a9⟩
theorem kb_s (h2 : 2 ≤ st) (h : una ≤ la ∧ 0 ≤ una ∧ 1 ≤ la) : kb st una (la + 1) = kb st una la + 1 := by
  unfold kb
  have c0 : ¬ st < 2 := by omega
  simp only [if_neg c0]
  by_cases c : una = 0
  · simp only [if_pos c]; omega
  · have c1 : una ≤ la := h.1
    have c2 : una ≤ la + 1 := by omega
    simp only [if_neg c, if_pos c1, if_pos c2]; omega
theorem lk_wr_l {n mm : Int} {bs : Int64} (he : e < 2) (hst : st = 2 ∨ st = 3 ∨ st = 4 ∨ st = 7) (hn : 1 ≤ n ∧ n ≤ 8) (hm : 0 ≤ mm ∧ mm ≤ n) (ho : ON (1 - e) L now (now + 1) (now + 1) (now + 1) u0 v0) : ∀ (d i : Nat) (la : Int) (a_kept a_last b_written : Nat → Int32) (b_last : Nat → Int64) (fx fy : Nat), (i : Int) + d = mm → d < fx → d < fy → kb st una la + d ≤ 32 → (mm = n ∨ kb st una la + d = 32) → la + d ≤ L → E2 L st iss una nxt mx la cl tm → RZ e L now st er tr iss una nxt mx la cl irs rcv fi un fst wnd pk hf rto sa smo tm si rt wt rs (now + 1) (now + 1) (now + 1) u0 v0 (f_now, f_sent, a_state, a_error, a_tries, a_iss, a_una, a_nxt, a_max, a_last, a_closing, a_kept, a_rcv, a_first, a_held, a_fin, a_unread, a_came, a_ended, a_wnd, a_peak, a_half, a_same, a_setBy, a_setAt, a_isSet, a_rto, a_smooth, a_spread, a_timed, a_since, a_retry, a_waits, a_rest, a_segSeq, a_segAck, a_segFlags, a_segWindow, a_segLength, a_segBytes, a_row, a_many, a_taken) (g_now, g_sent, b_seq, b_flags, b_acked, b_window, b_many, b_data, b_rows, b_state, b_error, b_iss, b_una, b_nxt, b_max, b_last, b_closed, b_written, b_irs, b_unread, b_bytes, b_held, b_rcv, b_finAt, b_marked, b_wnd, b_peak, b_half, b_rto, b_same, b_tries, b_smooth, b_spread, b_byNumber, b_byAck, b_sampled, b_told, b_retry, b_ackAt, b_waitAt, b_timedAt, b_timed) →
    LK ap1 aq1 (fun p => wX_write_84 p (zI e) bs (zI mm) f_now f_sent fx (zI i) a_state a_error a_tries a_iss a_una a_nxt a_max a_last a_closing a_kept a_rcv a_first a_held a_fin a_unread a_came a_ended a_wnd a_peak a_half a_same a_setBy a_setAt a_isSet a_rto a_smooth a_spread a_timed a_since a_retry a_waits a_rest a_segSeq a_segAck a_segFlags a_segWindow a_segLength a_segBytes a_row a_many a_taken) (fun p => wY_write_56 p (zI e) bs (zI n) g_now g_sent fy (zI i) b_seq b_flags b_acked b_window b_many b_data b_rows b_state b_error b_iss b_una b_nxt b_max b_last b_closed b_written b_irs b_unread b_bytes b_held b_rcv b_finAt b_marked b_wnd b_peak b_half b_rto b_same b_tries b_smooth b_spread b_byNumber b_byAck b_sampled b_told b_retry b_ackAt b_waitAt b_timedAt b_timed) (QT L now) := by
  have hne : 1 - e ≠ e := by omega
  have h2 : 2 ≤ st := by omega
  intro d
  induction d with
  | zero =>
    intro i la a_kept a_last b_written b_last fx fy hi hx hy hk1 hk2 hla I2 R
    obtain ⟨fx, rfl⟩ : ∃ n', fx = n' + 1 := ⟨fx - 1, by omega⟩
    obtain ⟨fy, rfl⟩ : ∃ n', fy = n' + 1 := ⟨fy - 1, by omega⟩
    have R0 := R
    obtain ⟨R, F⟩ := R
    obtain ⟨rfl, rfl, xst, xer, xtr, xiss, xuna, xnxt, xmx, xla, xcl, xrcv, xfst, xfi, xun, xen, xwnd, xpk, xhf, xrto, xsm, xsb, xsa, xis, xsmo, xspr, xtm, xsi, xrt, xwt, xrs, yst, yer, ytr, yiss, yuna, ynxt, ymx, yla, ycl, yirs, yrcv, yfi, yun, ywnd, ypk, yhf, yrto, ysa, ysmo, ytm, ysi, yrt, ywt, yrs, I1, I3, I4, I5, K, C, H, W⟩ := RE_el R
    have hc : zI mm ≤ zI i := by rw [zI_le (by omega)]; omega
    have him : zI (i : Int) = zI mm := by rw [show (i : Int) = mm by omega]
    have T0 : LK ap1 aq1 (fun p => wpX_flow (fun u => match u with | (f_now, f_sent, a_state, a_error, a_tries, a_iss, a_una, a_nxt, a_max, a_last, a_closing, a_kept, a_rcv, a_first, a_held, a_fin, a_unread, a_came, a_ended, a_wnd, a_peak, a_half, a_same, a_setBy, a_setAt, a_isSet, a_rto, a_smooth, a_spread, a_timed, a_since, a_retry, a_waits, a_rest, a_segSeq, a_segAck, a_segFlags, a_segWindow, a_segLength, a_segBytes, a_row, a_many, a_taken) => p (zI mm) (f_now, f_sent, a_state, a_error, a_tries, a_iss, a_una, a_nxt, a_max, a_last, a_closing, a_kept, a_rcv, a_first, a_held, a_fin, a_unread, a_came, a_ended, a_wnd, a_peak, a_half, a_same, a_setBy, a_setAt, a_isSet, a_rto, a_smooth, a_spread, a_timed, a_since, a_retry, a_waits, a_rest, a_segSeq, a_segAck, a_segFlags, a_segWindow, a_segLength, a_segBytes, a_row, a_many, a_taken)) (zI now, f_sent, a_state, a_error, a_tries, a_iss, a_una, a_nxt, a_max, a_last, a_closing, a_kept, a_rcv, a_first, a_held, a_fin, a_unread, a_came, a_ended, a_wnd, a_peak, a_half, a_same, a_setBy, a_setAt, a_isSet, a_rto, a_smooth, a_spread, a_timed, a_since, a_retry, a_waits, a_rest, a_segSeq, a_segAck, a_segFlags, a_segWindow, a_segLength, a_segBytes, a_row, a_many, a_taken) (zI e)) (fun p => wY_write_116 p (zI e) (zI i) (zI now) g_sent b_seq b_flags b_acked b_window b_many b_data b_rows b_state b_error b_iss b_una b_nxt b_max b_last b_closed b_written b_irs b_unread b_bytes b_held b_rcv b_finAt b_marked b_wnd b_peak b_half b_rto b_same b_tries b_smooth b_spread b_byNumber b_byAck b_sampled b_told b_retry b_ackAt b_waitAt b_timedAt b_timed) (QT L now) := by
      unfold wY_write_116
      rw [him]
      refine LK_b (lk_flow he h2 I2 R0) ?_
      intro f_now1 f_sent1 a_state1 a_error1 a_tries1 a_iss1 a_una1 a_nxt1 a_max1 a_last1 a_closing1 a_kept1 a_rcv1 a_first1 a_held1 a_fin1 a_unread1 a_came1 a_ended1 a_wnd1 a_peak1 a_half1 a_same1 a_setBy1 a_setAt1 a_isSet1 a_rto1 a_smooth1 a_spread1 a_timed1 a_since1 a_retry1 a_waits1 a_rest1 a_segSeq1 a_segAck1 a_segFlags1 a_segWindow1 a_segLength1 a_segBytes1 a_row1 a_many1 a_taken1 g_now1 g_sent1 b_seq1 b_flags1 b_acked1 b_window1 b_many1 b_data1 b_rows1 b_state1 b_error1 b_iss1 b_una1 b_nxt1 b_max1 b_last1 b_closed1 b_written1 b_irs1 b_unread1 b_bytes1 b_held1 b_rcv1 b_finAt1 b_marked1 b_wnd1 b_peak1 b_half1 b_rto1 b_same1 b_tries1 b_smooth1 b_spread1 b_byNumber1 b_byAck1 b_sampled1 b_told1 b_retry1 b_ackAt1 b_waitAt1 b_timedAt1 b_timed1 Z1
      exact LK_r1 (QT_i he rfl (QF_OK Z1) ho)
    refine LX_t hc ?_
    have kr := kb_r I2
    have cn : zI n ≤ zI i ↔ n ≤ i := zI_le (by omega)
    have ck : (32 : Int32) ≤ zI (kb st una la) ↔ 32 ≤ kb st una la := by rw [zl_32, zI_le (by omega)]
    refine LK_y (fun p h => ?_) T0
    by_cases c : n ≤ i
    · exact br_t (cn.mpr c) h
    · refine br_f (fun z => c (cn.mp z)) ?_
      refine y_kept he I1.1 I1.2.2.2.1 yuna yla I2 ?_
      exact br_t (ck.mpr (by omega)) h
  | succ d ih =>
    intro i la a_kept a_last b_written b_last fx fy hi hx hy hk1 hk2 hla I2 R
    obtain ⟨fx, rfl⟩ : ∃ n', fx = n' + 1 := ⟨fx - 1, by omega⟩
    obtain ⟨fy, rfl⟩ : ∃ n', fy = n' + 1 := ⟨fy - 1, by omega⟩
    obtain ⟨R, F⟩ := R
    obtain ⟨rfl, rfl, xst, xer, xtr, xiss, xuna, xnxt, xmx, xla, xcl, xrcv, xfst, xfi, xun, xen, xwnd, xpk, xhf, xrto, xsm, xsb, xsa, xis, xsmo, xspr, xtm, xsi, xrt, xwt, xrs, yst, yer, ytr, yiss, yuna, ynxt, ymx, yla, ycl, yirs, yrcv, yfi, yun, ywnd, ypk, yhf, yrto, ysa, ysmo, ytm, ysi, yrt, ywt, yrs, I1, I3, I4, I5, K, C, H, W⟩ := RE_el R
    have b2 := E2_b I2 h2
    have hcl := I1.2.2.2.1
    have hc0 : cl = 0 := I1.2.2.2.2.1 (by omega)
    have kr := kb_r I2
    have hc : ¬ zI mm ≤ zI i := by rw [zI_le (by omega)]; omega
    have hcn : ¬ zI n ≤ zI i := by rw [zI_le (by omega)]; omega
    have hck : ¬ (32 : Int32) ≤ zI (kb st una la) := by rw [zl_32, zI_le (by omega)]; omega
    have hI1 := I1.1
    have x1 : (32 : Int32) * zI e + (zI ((iss + la) % 65536) &&& 31) = zI (32 * e + ((iss + la) % 65536) % 32) := by rw [zl_32, show (31 : Int32) = zI 31 from rfl, zI_mul, zI_m5, zI_add]
    have x2 : vp_in (zI (32 * (e : Int) + ((iss + la) % 65536) % 32)) 64 := zI_in (by omega)
    have x3 : (zI (32 * (e : Int) + ((iss + la) % 65536) % 32)).toNatClampNeg = (32 * (e : Int) + ((iss + la) % 65536) % 32).toNat := zI_cl (by omega)
    have x4 : (zI ((iss + la) % 65536) + 1) &&& 65535 = zI ((iss + (la + 1)) % 65536) := by rw [zl_1, zl_65535, zI_add, zI_m16, zm_add]
    have y1 : (64 : Int32) * zI e + (zL la &&& 63).toInt32 = zI (64 * e + la % 64) := by rw [zk_63, zL_m6, zI_i, zl_64, zI_mul, zI_add]
    have y2 : vp_in (zI (64 * (e : Int) + la % 64)) 128 := zI_in (by omega)
    have y3 : (zI (64 * (e : Int) + la % 64)).toNatClampNeg = (64 * (e : Int) + la % 64).toNat := zI_cl (by omega)
    have y4 : zL la + 1 = zL (la + 1) := zL_add la 1
    have hi1 : zI (i : Int) + 1 = zI ((i + 1 : Nat) : Int) := zI_add i 1
    have hul : una ≤ la := by omega
    have hks := kb_s (una := una) (la := la) h2 ⟨hul, by omega, by omega⟩
    have J2 := E2_la I2 h2 (by omega) (by omega)
    have xl := xla (by omega)
    refine LX_f hc (LX_a (e_in he) ?_)
    rw [e_cl he, xl, x1]
    refine LX_a x2 ?_
    rw [x3, x4, hi1]
    refine LX_n (LX_a (e_in he) (LX_a (e_in he) (LX_n (LX_n ?_))))
    refine LY_f hcn ?_
    apply LK_y
    · intro p h
      refine y_kept he hI1 hcl yuna yla I2 ?_
      refine br_f hck ⟨e_in he, ?_⟩
      exact h
    unfold wpY_at
    rw [e_cl he, yla, y1, y4, hi1]
    refine LY_a y2 ?_
    rw [y3]
    refine LY_n (LY_a (e_in he) (LY_a (e_in he) (LY_n (LY_n ?_))))
    refine ih (i + 1) (la + 1) _ _ _ _ fx fy (by omega) (by omega) (by omega) (by omega) (by omega) (by omega) J2 ⟨RE_in ⟨rfl, rfl, xst, xer, xtr, xiss, xuna, xnxt, xmx, fun _ => pk_us, xcl, xrcv, xfst, xfi, xun, xen, xwnd, xpk, xhf, xrto, xsm, xsb, xsa, xis, xsmo, xspr, xtm, xsi, xrt, xwt, xrs, yst, yer, ytr, yiss, yuna, ynxt, ymx, pk_uLs, ycl, yirs, yrcv, yfi, yun, ywnd, ypk, yhf, yrto, ysa, ysmo, ytm, ysi, yrt, ywt, yrs, I1, I3, I4, I5, ?_, C, H, W⟩, FR_s F ?_ ?_ rfl⟩
    · refine EK_push K ?_ (by omega) (by rw [by_nar, bp_b])
      have := J2.2.2.2.2.1 h2
      omega
    · simp only [vX, pk_un hne, rg_out (n := 32) (by decide) (show 0 ≤ ((iss + la) % 65536) % 32 ∧ ((iss + la) % 65536) % 32 < 32 by omega) he (show 1 - e < 2 by omega) hne]
    · simp only [vY, pk_uLn hne, rg_out (n := 64) (by decide) (show 0 ≤ la % 64 ∧ la % 64 < 64 by omega) he (show 1 - e < 2 by omega) hne]
end
end
section
/-! write: the owed one -/
section
variable {e : Nat} {L now : Int} {st er tr iss una nxt mx la cl irs rcv fi un fst wnd pk hf rto sa smo tm si rt wt rs nr nw ns : Int} {f_now f_sent : Int32} {a_state a_error a_tries a_iss a_una a_nxt a_max a_last a_closing a_kept a_rcv a_first a_held a_fin a_unread a_came a_ended a_wnd a_peak a_half a_same a_setBy a_setAt a_isSet a_rto a_smooth a_spread a_timed a_since a_retry a_waits a_rest a_segSeq a_segAck a_segFlags a_segWindow a_segLength a_segBytes a_row a_many a_taken : Nat → Int32} {g_now g_sent : Int32} {b_seq b_flags b_acked b_window b_many b_data b_rows b_state b_error b_iss : Nat → Int32} {b_una b_nxt b_max b_last : Nat → Int64} {b_closed b_written b_irs b_unread b_bytes b_held : Nat → Int32} {b_rcv b_finAt : Nat → Int64} {b_marked b_wnd b_peak b_half b_rto b_same b_tries b_smooth b_spread b_byNumber b_byAck b_sampled b_told b_retry b_ackAt b_waitAt b_timedAt : Nat → Int32} {b_timed : Nat → Int64} {u0 : SX} {v0 : SY}
theorem lk_write {L0 n : Int} {bs : Int64} (he : e < 2) (hL : L0 + 100 ≤ L ∧ L ≤ 1099511627776) (hn : 1 ≤ n ∧ n ≤ 8) (h : ON e L0 now (now + 1) (now + 1) (now + 1) (f_now, f_sent, a_state, a_error, a_tries, a_iss, a_una, a_nxt, a_max, a_last, a_closing, a_kept, a_rcv, a_first, a_held, a_fin, a_unread, a_came, a_ended, a_wnd, a_peak, a_half, a_same, a_setBy, a_setAt, a_isSet, a_rto, a_smooth, a_spread, a_timed, a_since, a_retry, a_waits, a_rest, a_segSeq, a_segAck, a_segFlags, a_segWindow, a_segLength, a_segBytes, a_row, a_many, a_taken) (g_now, g_sent, b_seq, b_flags, b_acked, b_window, b_many, b_data, b_rows, b_state, b_error, b_iss, b_una, b_nxt, b_max, b_last, b_closed, b_written, b_irs, b_unread, b_bytes, b_held, b_rcv, b_finAt, b_marked, b_wnd, b_peak, b_half, b_rto, b_same, b_tries, b_smooth, b_spread, b_byNumber, b_byAck, b_sampled, b_told, b_retry, b_ackAt, b_waitAt, b_timedAt, b_timed)) (ho : ON (1 - e) L now (now + 1) (now + 1) (now + 1) (f_now, f_sent, a_state, a_error, a_tries, a_iss, a_una, a_nxt, a_max, a_last, a_closing, a_kept, a_rcv, a_first, a_held, a_fin, a_unread, a_came, a_ended, a_wnd, a_peak, a_half, a_same, a_setBy, a_setAt, a_isSet, a_rto, a_smooth, a_spread, a_timed, a_since, a_retry, a_waits, a_rest, a_segSeq, a_segAck, a_segFlags, a_segWindow, a_segLength, a_segBytes, a_row, a_many, a_taken) (g_now, g_sent, b_seq, b_flags, b_acked, b_window, b_many, b_data, b_rows, b_state, b_error, b_iss, b_una, b_nxt, b_max, b_last, b_closed, b_written, b_irs, b_unread, b_bytes, b_held, b_rcv, b_finAt, b_marked, b_wnd, b_peak, b_half, b_rto, b_same, b_tries, b_smooth, b_spread, b_byNumber, b_byAck, b_sampled, b_told, b_retry, b_ackAt, b_waitAt, b_timedAt, b_timed)) (hst : a_state e = 2 ∨ a_state e = 3 ∨ a_state e = 4 ∨ a_state e = 7) :
    LK ap1 aq1 (fun p => wX_write_55 p (zI e) bs (zI n) f_now f_sent a_state a_error a_tries a_iss a_una a_nxt a_max a_last a_closing a_kept a_rcv a_first a_held a_fin a_unread a_came a_ended a_wnd a_peak a_half a_same a_setBy a_setAt a_isSet a_rto a_smooth a_spread a_timed a_since a_retry a_waits a_rest a_segSeq a_segAck a_segFlags a_segWindow a_segLength a_segBytes a_row a_many a_taken) (fun p => ∃ n56 : Nat, wY_write_56 p (zI e) bs (zI n) g_now g_sent n56 0 b_seq b_flags b_acked b_window b_many b_data b_rows b_state b_error b_iss b_una b_nxt b_max b_last b_closed b_written b_irs b_unread b_bytes b_held b_rcv b_finAt b_marked b_wnd b_peak b_half b_rto b_same b_tries b_smooth b_spread b_byNumber b_byAck b_sampled b_told b_retry b_ackAt b_waitAt b_timedAt b_timed) (QT L now) := by
  refine ON_elB h hL.1 hL.2 ?_
  intro st er tr iss una nxt mx la cl irs rcv fi un fst wnd pk hf rto sa smo tm si rt wt rs _ hla R I2
  have R0 := R
  obtain ⟨xnow, ynow, xst, xer, xtr, xiss, xuna, xnxt, xmx, xla, xcl, xrcv, xfst, xfi, xun, xen, xwnd, xpk, xhf, xrto, xsm, xsb, xsa, xis, xsmo, xspr, xtm, xsi, xrt, xwt, xrs, yst, yer, ytr, yiss, yuna, ynxt, ymx, yla, ycl, yirs, yrcv, yfi, yun, ywnd, ypk, yhf, yrto, ysa, ysmo, ytm, ysi, yrt, ywt, yrs, I1, I3, I4, I5, K, C, H, W⟩ := RE_el R
  have b1 := I1.1
  have hs : st = 2 ∨ st = 3 ∨ st = 4 ∨ st = 7 := by
    rw [xst] at hst
    rcases hst with h | h | h | h
    · rw [zl_2, zI_eq (by omega)] at h; omega
    · rw [zl_3, zI_eq (by omega)] at h; omega
    · rw [zl_4, zI_eq (by omega)] at h; omega
    · rw [zl_7, zI_eq (by omega)] at h; omega
  have kr := kb_r I2
  obtain ⟨mm, hmm⟩ : ∃ mm : Int, mm = if 32 - kb st una la ≤ n then 32 - kb st una la else n := ⟨_, rfl⟩
  have hm2 : 0 ≤ mm ∧ mm ≤ n ∧ kb st una la + mm ≤ 32 ∧ (mm = n ∨ kb st una la + mm = 32) := by rw [hmm]; split <;> omega
  obtain ⟨d, hd⟩ := Int.eq_ofNat_of_zero_le hm2.1
  have D := lk_wr_l (bs := bs) (n := n) (mm := mm) he hs hn ⟨hm2.1, hm2.2.1⟩ ho d 0 la a_kept a_last b_written b_last (d + 1) (d + 1) (by omega) (by omega) (by omega) (by omega) (by omega) (by omega) I2 ⟨R0, FR_r⟩
  have hc : zI (32 - kb st una la) ≤ zI n ↔ 32 - kb st una la ≤ n := zI_le (by omega)
  refine LK_x (fun p h => ?_) (LY_e (d + 1) D)
  unfold wX_write_55
  refine x_kept he b1 I1.2.2.2.1 xst xiss xuna xla I2 ?_
  rw [show (32 : Int32) - zI (kb st una la) = zI (32 - kb st una la) from zI_sub 32 _]
  refine nm_e ?_
  by_cases c : 32 - kb st una la ≤ n
  · rw [if_pos c] at hmm
    rw [hmm] at h
    exact br_t (hc.mpr c) ⟨d + 1, h⟩
  · rw [if_neg c] at hmm
    rw [hmm] at h
    exact br_f (fun z => c (hc.mp z)) ⟨d + 1, h⟩
theorem i_vc_write {k : Nat} {u : SX} {v : SY} (I : i_Rel k u v) (hk : k + 8 ≤ 4096) (v1 : Int32) (a1 : Int64) (v4 : Int32) : wpX_write (fun r u' => wpY_write (fun r' v' => r' = r ∧ i_Rel (k + 8) u' v') v v1 a1 v4) u v1 a1 v4 := by
  have J := i_up I
  obtain ⟨now, hn, hr⟩ := I (by omega)
  obtain ⟨f_now, f_sent, a_state, a_error, a_tries, a_iss, a_una, a_nxt, a_max, a_last, a_closing, a_kept, a_rcv, a_first, a_held, a_fin, a_unread, a_came, a_ended, a_wnd, a_peak, a_half, a_same, a_setBy, a_setAt, a_isSet, a_rto, a_smooth, a_spread, a_timed, a_since, a_retry, a_waits, a_rest, a_segSeq, a_segAck, a_segFlags, a_segWindow, a_segLength, a_segBytes, a_row, a_many, a_taken⟩ := u
  obtain ⟨g_now, g_sent, b_seq, b_flags, b_acked, b_window, b_many, b_data, b_rows, b_state, b_error, b_iss, b_una, b_nxt, b_max, b_last, b_closed, b_written, b_irs, b_unread, b_bytes, b_held, b_rcv, b_finAt, b_marked, b_wnd, b_peak, b_half, b_rto, b_same, b_tries, b_smooth, b_spread, b_byNumber, b_byAck, b_sampled, b_told, b_retry, b_ackAt, b_waitAt, b_timedAt, b_timed⟩ := v
  rcases end_c v1 with ⟨e, he, rfl⟩ | hne
  · by_cases o1 : v4 < 1 ∨ ¬ v4 ≤ 8
    · unfold wpX_write wpY_write
      simp only [x_isEnd he, y_end he, x_out, y_out, if_pos o1]
      exact br_f (by decide) (br_f (by decide) (br_t (by trivial) (br_f (by decide) ⟨by trivial, J⟩)))
    · obtain ⟨n, rfl, hn1⟩ : ∃ n : Int, v4 = zI n ∧ 1 ≤ n ∧ n ≤ 8 := by
        refine ⟨v4.toInt, (zI_self v4).symm, ?_⟩
        rw [Int32.lt_iff_toInt_lt, Int32.le_iff_toInt_le, show (1 : Int32).toInt = 1 from rfl, show (8 : Int32).toInt = 8 from rfl] at o1
        omega
      have h1 := ON_L (L' := 1000 + 100 * ((k + 8 : Nat) : Int)) (hr (1 - e) (by omega)) (by omega) (by omega)
      refine ON_el (hr e he) ?_
      intro st er tr iss una nxt mx la cl irs rcv fi un fst wnd pk hf rto sa smo tm si rt wt rs R I2
      obtain ⟨xnow, ynow, xst, xer, xtr, xiss, xuna, xnxt, xmx, xla, xcl, xrcv, xfst, xfi, xun, xen, xwnd, xpk, xhf, xrto, xsm, xsb, xsa, xis, xsmo, xspr, xtm, xsi, xrt, xwt, xrs, yst, yer, ytr, yiss, yuna, ynxt, ymx, yla, ycl, yirs, yrcv, yfi, yun, ywnd, ypk, yhf, yrto, ysa, ysmo, ytm, ysi, yrt, ywt, yrs, I1, I3, I4, I5, K, C, H, W⟩ := RE_el R
      have b1 := I1.1
      have hc : st = 0 ∨ st = 1 ∨ st = 2 ∨ st = 3 ∨ st = 4 ∨ st = 5 ∨ st = 6 ∨ st = 7 ∨ st = 8 ∨ st = 9 ∨ st = 10 := by omega
      by_cases hs : a_state e = 2 ∨ a_state e = 3 ∨ a_state e = 4 ∨ a_state e = 7
      · have D := lk_write (bs := a1) he (L := 1000 + 100 * ((k + 8 : Nat) : Int)) (by omega) hn1 (hr e he) h1 hs
        refine top1 (WX := fun p => wpX_write p (f_now, f_sent, a_state, a_error, a_tries, a_iss, a_una, a_nxt, a_max, a_last, a_closing, a_kept, a_rcv, a_first, a_held, a_fin, a_unread, a_came, a_ended, a_wnd, a_peak, a_half, a_same, a_setBy, a_setAt, a_isSet, a_rto, a_smooth, a_spread, a_timed, a_since, a_retry, a_waits, a_rest, a_segSeq, a_segAck, a_segFlags, a_segWindow, a_segLength, a_segBytes, a_row, a_many, a_taken) (zI e) a1 (zI n)) (WY := fun p => wpY_write p (g_now, g_sent, b_seq, b_flags, b_acked, b_window, b_many, b_data, b_rows, b_state, b_error, b_iss, b_una, b_nxt, b_max, b_last, b_closed, b_written, b_irs, b_unread, b_bytes, b_held, b_rcv, b_finAt, b_marked, b_wnd, b_peak, b_half, b_rto, b_same, b_tries, b_smooth, b_spread, b_byNumber, b_byAck, b_sampled, b_told, b_retry, b_ackAt, b_waitAt, b_timedAt, b_timed) (zI e) a1 (zI n)) (k := k) (now := now) (by omega) ?_
        refine LK_x (fun p h => ?_) (LK_y (fun p h => ?_) D)
        · unfold wpX_write
          simp only [x_isEnd he, x_out, if_neg o1]
          refine br_f (by decide) (br_t (by trivial) ⟨e_in he, ?_⟩)
          rw [e_cl he]
          refine nm_e ?_
          rcases hs with z | z | z | z
          · rw [z]; exact br_t rfl h
          · rw [z]; exact br_f (by decide) (br_t rfl h)
          · rw [z]; exact br_f (by decide) (br_f (by decide) (br_t rfl h))
          · rw [z]; exact br_f (by decide) (br_f (by decide) (br_f (by decide) (br_t rfl h)))
        · unfold wpY_write
          simp only [y_end he, y_out, if_neg o1]
          refine br_t (by trivial) (br_t (by trivial) ⟨e_in he, ?_⟩)
          rw [e_cl he, yst, ← xst]
          rcases hs with z | z | z | z
          · rw [z]; exact br_f (by decide) ⟨e_in he, br_t (by decide) h⟩
          · rw [z]; exact br_f (by decide) ⟨e_in he, br_t (by decide) h⟩
          · rw [z]; exact br_f (by decide) ⟨e_in he, br_t (by decide) h⟩
          · rw [z]; exact br_f (by decide) ⟨e_in he, br_f (by decide) ⟨e_in he, br_t rfl h⟩⟩
      · unfold wpX_write wpY_write
        simp only [x_isEnd he, y_end he, x_out, y_out, if_neg o1]
        refine br_f (by decide) (br_t (by trivial) ⟨e_in he, ?_⟩)
        rw [e_cl he, yst]
        refine nm_e (br_f (fun z => hs (Or.inl z)) (br_f (fun z => hs (Or.inr (Or.inl z))) (br_f (fun z => hs (Or.inr (Or.inr (Or.inl z)))) (br_f (fun z => hs (Or.inr (Or.inr (Or.inr z)))) ?_))))
        rw [xst] at hs
        refine br_t (by trivial) (br_t (by trivial) ⟨e_in he, ?_⟩)
        rcases hc with rfl | rfl | rfl | rfl | rfl | rfl | rfl | rfl | rfl | rfl | rfl
        · exact br_t (by decide) ⟨by trivial, J⟩
        · exact br_t (by decide) ⟨by trivial, J⟩
        · exact absurd (Or.inl rfl) hs
        · exact absurd (Or.inr (Or.inl rfl)) hs
        · exact absurd (Or.inr (Or.inr (Or.inl rfl))) hs
        · exact br_f (by decide) ⟨e_in he, br_f (by decide) ⟨e_in he, br_f (by decide) ⟨by trivial, J⟩⟩⟩
        · exact br_f (by decide) ⟨e_in he, br_f (by decide) ⟨e_in he, br_f (by decide) ⟨by trivial, J⟩⟩⟩
        · exact absurd (Or.inr (Or.inr (Or.inr rfl))) hs
        · exact br_f (by decide) ⟨e_in he, br_f (by decide) ⟨e_in he, br_f (by decide) ⟨by trivial, J⟩⟩⟩
        · exact br_f (by decide) ⟨e_in he, br_f (by decide) ⟨e_in he, br_f (by decide) ⟨by trivial, J⟩⟩⟩
        · exact br_f (by decide) ⟨e_in he, br_f (by decide) ⟨e_in he, br_f (by decide) ⟨by trivial, J⟩⟩⟩
  · unfold wpX_write wpY_write
    simp only [x_isEnd_n hne, y_end_n hne]
    exact br_t (by trivial) (br_f (by decide) ⟨by trivial, J⟩)
end
end
section
/-! read -/
section
variable {e : Nat} {L now : Int} {st er tr iss una nxt mx la cl irs rcv fi un fst wnd pk hf rto sa smo tm si rt wt rs nr nw ns : Int} {f_now f_sent : Int32} {a_state a_error a_tries a_iss a_una a_nxt a_max a_last a_closing a_kept a_rcv a_first a_held a_fin a_unread a_came a_ended a_wnd a_peak a_half a_same a_setBy a_setAt a_isSet a_rto a_smooth a_spread a_timed a_since a_retry a_waits a_rest a_segSeq a_segAck a_segFlags a_segWindow a_segLength a_segBytes a_row a_many a_taken : Nat → Int32} {g_now g_sent : Int32} {b_seq b_flags b_acked b_window b_many b_data b_rows b_state b_error b_iss : Nat → Int32} {b_una b_nxt b_max b_last : Nat → Int64} {b_closed b_written b_irs b_unread b_bytes b_held : Nat → Int32} {b_rcv b_finAt : Nat → Int64} {b_marked b_wnd b_peak b_half b_rto b_same b_tries b_smooth b_spread b_byNumber b_byAck b_sampled b_told b_retry b_ackAt b_waitAt b_timedAt : Nat → Int32} {b_timed : Nat → Int64} {u0 : SX} {v0 : SY}
theorem y_rd_l {r m : Nat} {x3 : Int32} {x5 : Int64} (he : e < 2) (hrm : r + m ≤ 24) : ∀ (d j : Nat) (bb : Nat → Int32), j + d = r → rg 24 (1 - e) bb = rg 24 (1 - e) b_bytes → (∀ z : Int, 0 ≤ z → z < j → rg 24 e bb z = rg 24 e b_bytes (z + m)) → (∀ z : Int, (j : Int) ≤ z → z < 24 → rg 24 e bb z = rg 24 e b_bytes z) →
    ∃ bb', rg 24 (1 - e) bb' = rg 24 (1 - e) b_bytes ∧ (∀ z : Int, 0 ≤ z → z < r → rg 24 e bb' z = rg 24 e b_bytes (z + m)) ∧
      ∀ {g_now g_sent : Int32} {b_seq b_flags b_acked b_window b_many b_data b_rows b_state b_error b_iss : Nat → Int32} {b_una b_nxt b_max b_last : Nat → Int64} {b_closed b_written b_irs b_unread b_held : Nat → Int32} {b_rcv b_finAt : Nat → Int64} {b_marked b_wnd b_peak b_half b_rto b_same b_tries b_smooth b_spread b_byNumber b_byAck b_sampled b_told b_retry b_ackAt b_waitAt b_timedAt : Nat → Int32} {b_timed : Nat → Int64} (post : Int64 → SY → Prop), b_unread e = zI r → wY_read_153 post (zI e) x3 (zI m) x5 g_now g_sent 1 (zI (24 * e + r)) b_seq b_flags b_acked b_window b_many b_data b_rows b_state b_error b_iss b_una b_nxt b_max b_last b_closed b_written b_irs b_unread bb' b_held b_rcv b_finAt b_marked b_wnd b_peak b_half b_rto b_same b_tries b_smooth b_spread b_byNumber b_byAck b_sampled b_told b_retry b_ackAt b_waitAt b_timedAt b_timed → wY_read_153 post (zI e) x3 (zI m) x5 g_now g_sent (d + 1) (zI (24 * e + j)) b_seq b_flags b_acked b_window b_many b_data b_rows b_state b_error b_iss b_una b_nxt b_max b_last b_closed b_written b_irs b_unread bb b_held b_rcv b_finAt b_marked b_wnd b_peak b_half b_rto b_same b_tries b_smooth b_spread b_byNumber b_byAck b_sampled b_told b_retry b_ackAt b_waitAt b_timedAt b_timed := by
  intro d
  induction d with
  | zero =>
    intro j bb hj h1 h2 h3
    have hjr : j = r := by omega
    subst hjr
    refine ⟨bb, h1, h2, ?_⟩
    intro g_now g_sent b_seq b_flags b_acked b_window b_many b_data b_rows b_state b_error b_iss b_una b_nxt b_max b_last b_closed b_written b_irs b_unread b_held b_rcv b_finAt b_marked b_wnd b_peak b_half b_rto b_same b_tries b_smooth b_spread b_byNumber b_byAck b_sampled b_told b_retry b_ackAt b_waitAt b_timedAt b_timed post hu K
    exact K
  | succ d ih =>
    intro j bb hj h1 h2 h3
    have hval : bb (24 * (e : Int) + ((j : Int) + m)).toNat = rg 24 e b_bytes ((j : Int) + m) := by
      by_cases hm : m = 0
      · subst hm
        rw [← h3 ((j : Int) + (0 : Nat)) (by omega) (by omega)]
        unfold rg
        rw [Int.emod_eq_of_lt (by omega) (by omega)]
      · rw [← h3 ((j : Int) + m) (by omega) (by omega)]
        unfold rg
        rw [Int.emod_eq_of_lt (by omega) (by omega)]
    obtain ⟨bb', c1, c2, c3⟩ := ih (j + 1) (upd bb ((24 * (e : Int) + j).toNat) (rg 24 e b_bytes ((j : Int) + m))) (by omega) (by rw [rg_out (by decide) (by omega) he (by omega) (by omega)]; exact h1) (fun z z0 z1 => by
      rw [rg_in (by decide) (by omega)]
      by_cases q : z = j
      · subst q; rw [if_pos (by omega)]
      · rw [if_neg (by omega)]; exact h2 z z0 (by omega)) (fun z z0 z1 => by
      rw [rg_in (by decide) (by omega), if_neg (by omega)]; exact h3 z (by omega) z1)
    refine ⟨bb', c1, c2, ?_⟩
    intro g_now g_sent b_seq b_flags b_acked b_window b_many b_data b_rows b_state b_error b_iss b_una b_nxt b_max b_last b_closed b_written b_irs b_unread b_held b_rcv b_finAt b_marked b_wnd b_peak b_half b_rto b_same b_tries b_smooth b_spread b_byNumber b_byAck b_sampled b_told b_retry b_ackAt b_waitAt b_timedAt b_timed post hu K
    have hc : ¬ (24 : Int32) * zI e + zI r ≤ zI (24 * e + j) := by rw [zl_24, zI_mul, zI_add, zI_le (by omega)]; omega
    have a1 : zI (24 * (e : Int) + j) + zI m = zI (24 * e + ((j : Int) + m)) := by rw [zI_add]; congr 1; omega
    have a2 : vp_in (zI (24 * (e : Int) + ((j : Int) + m))) 48 := zI_in (by omega)
    have a3 : vp_in (zI (24 * (e : Int) + j)) 48 := zI_in (by omega)
    have a4 : (zI (24 * (e : Int) + ((j : Int) + m))).toNatClampNeg = (24 * (e : Int) + ((j : Int) + m)).toNat := zI_cl (by omega)
    have a5 : (zI (24 * (e : Int) + j)).toNatClampNeg = (24 * (e : Int) + j).toNat := zI_cl (by omega)
    rw [wY_read_153]
    refine ⟨e_in he, ?_⟩
    rw [e_cl he, hu]
    refine br_f hc ?_
    rw [a1]
    refine ⟨a2, a3, ?_⟩
    rw [a4, a5, hval]
    refine nm_e (nm_r (e' := zI (24 * e + ((j + 1 : Nat) : Int))) ?_ (c3 post hu K))
    rw [zl_1, zI_add]; congr 1
end
end
section
/-! read: the bytes, the tail -/
section
variable {e : Nat} {L now : Int} {st er tr iss una nxt mx la cl irs rcv fi un fst wnd pk hf rto sa smo tm si rt wt rs nr nw ns : Int} {f_now f_sent : Int32} {a_state a_error a_tries a_iss a_una a_nxt a_max a_last a_closing a_kept a_rcv a_first a_held a_fin a_unread a_came a_ended a_wnd a_peak a_half a_same a_setBy a_setAt a_isSet a_rto a_smooth a_spread a_timed a_since a_retry a_waits a_rest a_segSeq a_segAck a_segFlags a_segWindow a_segLength a_segBytes a_row a_many a_taken : Nat → Int32} {g_now g_sent : Int32} {b_seq b_flags b_acked b_window b_many b_data b_rows b_state b_error b_iss : Nat → Int32} {b_una b_nxt b_max b_last : Nat → Int64} {b_closed b_written b_irs b_unread b_bytes b_held : Nat → Int32} {b_rcv b_finAt : Nat → Int64} {b_marked b_wnd b_peak b_half b_rto b_same b_tries b_smooth b_spread b_byNumber b_byAck b_sampled b_told b_retry b_ackAt b_waitAt b_timedAt : Nat → Int32} {b_timed : Nat → Int64} {u0 : SX} {v0 : SY}
/-- as QT, of a long -/
def QT2 (L now : Int) (a : Int64 × SX) (b : Int64 × SY) : Prop := b.1 = a.1 ∧ ∀ e, e < 2 → ON e L now (now + 1) (now + 1) (now + 1) a.2 b.2
theorem top2 {WX : (Int64 → SX → Prop) → Prop} {WY : (Int64 → SY → Prop) → Prop} {k : Nat} {now : Int} (hn : 0 ≤ now ∧ now ≤ 125 * ((k + 8 : Nat) : Int)) (h : LK ap2 aq2 WX WY (QT2 (1000 + 100 * ((k + 8 : Nat) : Int)) now)) : WX (fun r u => WY (fun r' v => r' = r ∧ i_Rel (k + 8) u v)) :=
  LK_top2 (R := i_Rel (k + 8)) (LK_m (fun _ _ q => ⟨q.1, fun _ => ⟨now, hn, q.2⟩⟩) h)
theorem QT2_i {r r' : Int64} {u : SX} {v : SY} (he : e < 2) (hr : r' = r) (h : OKs e L now (now + 1) (now + 1) (now + 1) u0 v0 u v) (ho : ON (1 - e) L now (now + 1) (now + 1) (now + 1) u0 v0) : QT2 L now (r, u) (r', v) := by
  refine ⟨hr, fun e' he' => ?_⟩
  by_cases c : e' = e
  · subst c; exact OK_on h
  · have : e' = 1 - e := by omega
    exact this ▸ ON_fr rfl (OK_fr h) ho
theorem E3_rd {m : Int} (h : E3 L st irs rcv fi un fst) (hm : 1 ≤ m ∧ m ≤ un) : E3 L st irs rcv fi (un - m) ((fst + m) % 65536) := by
  obtain ⟨a1, a2, a3, a4, a5, a6, a7, a8⟩ := h
  refine ⟨a1, a2, by omega, by omega, ?_, a6, fun z => ?_, fun z => ?_⟩
  · rcases a5 with h | h
    · exact Or.inl h
    · exact Or.inr ⟨h.1, h.2.1, h.2.2.1, by omega⟩
  · have := a7 z; omega
  · have := a8 z; omega
theorem EC_rd {m : Int} {by_ by' : Int → Int32} (h : EC un fst (rg 32 e a_came) by_) (hm : 1 ≤ m ∧ m ≤ un) (hb : ∀ z : Int, 0 ≤ z → z < un - m → by' z = by_ (z + m)) : EC (un - m) ((fst + m) % 65536) (rg 32 e a_came) by' := by
  intro j j0 j1
  rw [hb j j0 j1, h (j + m) (by omega) (by omega), rg_mod (n := 32) (z := fst + (j + m)) (z' := (fst + m) % 65536 + j) (by omega)]
theorem EH_rd {m : Int} {hd : Int32} {mk hl : Int → Int32} (h : EH st rcv un fst hd (rg 32 e a_came) mk hl) (hm : 1 ≤ m ∧ m ≤ un) : EH st rcv (un - m) ((fst + m) % 65536) hd (rg 32 e a_came) mk hl := by
  obtain ⟨h1, h2, h3, h4⟩ := h
  refine ⟨fun i hi => h1 i (by omega), h2, fun z z0 zb => ?_, h4⟩
  rw [h3 z z0 zb, rg_mod (n := 32) (z := fst + un + z) (z' := (fst + m) % 65536 + (un - m) + z) (by omega)]
theorem lk_rd_t {m w r : Int} {x5 : Int64} (he : e < 2) (hm : 1 ≤ m ∧ un + m ≤ 24) (hw : w = 24 - (un + m)) (hr : r = un) (ho : ON (1 - e) L now (now + 1) (now + 1) (now + 1) u0 v0) (I2 : E2 L st iss una nxt mx la cl tm) (R : RZ e L now st er tr iss una nxt mx la cl irs rcv fi un fst wnd pk hf rto sa smo tm si rt wt rs (now + 1) (now + 1) (now + 1) u0 v0 (f_now, f_sent, a_state, a_error, a_tries, a_iss, a_una, a_nxt, a_max, a_last, a_closing, a_kept, a_rcv, a_first, a_held, a_fin, a_unread, a_came, a_ended, a_wnd, a_peak, a_half, a_same, a_setBy, a_setAt, a_isSet, a_rto, a_smooth, a_spread, a_timed, a_since, a_retry, a_waits, a_rest, a_segSeq, a_segAck, a_segFlags, a_segWindow, a_segLength, a_segBytes, a_row, a_many, a_taken) (g_now, g_sent, b_seq, b_flags, b_acked, b_window, b_many, b_data, b_rows, b_state, b_error, b_iss, b_una, b_nxt, b_max, b_last, b_closed, b_written, b_irs, b_unread, b_bytes, b_held, b_rcv, b_finAt, b_marked, b_wnd, b_peak, b_half, b_rto, b_same, b_tries, b_smooth, b_spread, b_byNumber, b_byAck, b_sampled, b_told, b_retry, b_ackAt, b_waitAt, b_timedAt, b_timed)) :
    LK ap2 aq2 (fun p => (8 ≤ zI w → p x5 (f_now, f_sent, a_state, a_error, a_tries, a_iss, a_una, a_nxt, a_max, a_last, a_closing, a_kept, a_rcv, a_first, a_held, a_fin, a_unread, a_came, a_ended, a_wnd, a_peak, a_half, a_same, a_setBy, a_setAt, a_isSet, a_rto, a_smooth, a_spread, a_timed, a_since, a_retry, a_waits, a_rest, a_segSeq, a_segAck, a_segFlags, a_segWindow, a_segLength, a_segBytes, a_row, a_many, a_taken)) ∧ (¬ 8 ≤ zI w → (zI w + zI m < 8 → p x5 (f_now, f_sent, a_state, a_error, a_tries, a_iss, a_una, a_nxt, a_max, a_last, a_closing, a_kept, a_rcv, a_first, a_held, a_fin, a_unread, a_came, a_ended, a_wnd, a_peak, a_half, a_same, a_setBy, a_setAt, a_isSet, a_rto, a_smooth, a_spread, a_timed, a_since, a_retry, a_waits, a_rest, a_segSeq, a_segAck, a_segFlags, a_segWindow, a_segLength, a_segBytes, a_row, a_many, a_taken)) ∧ (¬ zI w + zI m < 8 → (a_state e ≤ 3 → p x5 (f_now, f_sent, a_state, a_error, a_tries, a_iss, a_una, a_nxt, a_max, a_last, a_closing, a_kept, a_rcv, a_first, a_held, a_fin, a_unread, a_came, a_ended, a_wnd, a_peak, a_half, a_same, a_setBy, a_setAt, a_isSet, a_rto, a_smooth, a_spread, a_timed, a_since, a_retry, a_waits, a_rest, a_segSeq, a_segAck, a_segFlags, a_segWindow, a_segLength, a_segBytes, a_row, a_many, a_taken)) ∧ (¬ a_state e ≤ 3 → (7 ≤ a_state e → p x5 (f_now, f_sent, a_state, a_error, a_tries, a_iss, a_una, a_nxt, a_max, a_last, a_closing, a_kept, a_rcv, a_first, a_held, a_fin, a_unread, a_came, a_ended, a_wnd, a_peak, a_half, a_same, a_setBy, a_setAt, a_isSet, a_rto, a_smooth, a_spread, a_timed, a_since, a_retry, a_waits, a_rest, a_segSeq, a_segAck, a_segFlags, a_segWindow, a_segLength, a_segBytes, a_row, a_many, a_taken)) ∧ (¬ 7 ≤ a_state e → wpX_acknowledge (fun u => match u with | (f_now, f_sent, a_state, a_error, a_tries, a_iss, a_una, a_nxt, a_max, a_last, a_closing, a_kept, a_rcv, a_first, a_held, a_fin, a_unread, a_came, a_ended, a_wnd, a_peak, a_half, a_same, a_setBy, a_setAt, a_isSet, a_rto, a_smooth, a_spread, a_timed, a_since, a_retry, a_waits, a_rest, a_segSeq, a_segAck, a_segFlags, a_segWindow, a_segLength, a_segBytes, a_row, a_many, a_taken) => p x5 (f_now, f_sent, a_state, a_error, a_tries, a_iss, a_una, a_nxt, a_max, a_last, a_closing, a_kept, a_rcv, a_first, a_held, a_fin, a_unread, a_came, a_ended, a_wnd, a_peak, a_half, a_same, a_setBy, a_setAt, a_isSet, a_rto, a_smooth, a_spread, a_timed, a_since, a_retry, a_waits, a_rest, a_segSeq, a_segAck, a_segFlags, a_segWindow, a_segLength, a_segBytes, a_row, a_many, a_taken)) (f_now, f_sent, a_state, a_error, a_tries, a_iss, a_una, a_nxt, a_max, a_last, a_closing, a_kept, a_rcv, a_first, a_held, a_fin, a_unread, a_came, a_ended, a_wnd, a_peak, a_half, a_same, a_setBy, a_setAt, a_isSet, a_rto, a_smooth, a_spread, a_timed, a_since, a_retry, a_waits, a_rest, a_segSeq, a_segAck, a_segFlags, a_segWindow, a_segLength, a_segBytes, a_row, a_many, a_taken) (zI e))))))
      (fun p => wY_read_153 p (zI e) (zI w) (zI m) x5 g_now g_sent 1 (zI (24 * e + r)) b_seq b_flags b_acked b_window b_many b_data b_rows b_state b_error b_iss b_una b_nxt b_max b_last b_closed b_written b_irs b_unread b_bytes b_held b_rcv b_finAt b_marked b_wnd b_peak b_half b_rto b_same b_tries b_smooth b_spread b_byNumber b_byAck b_sampled b_told b_retry b_ackAt b_waitAt b_timedAt b_timed) (QT2 L now) := by
  have R0 := R
  obtain ⟨R, F⟩ := R
  obtain ⟨xnow, ynow, xst, xer, xtr, xiss, xuna, xnxt, xmx, xla, xcl, xrcv, xfst, xfi, xun, xen, xwnd, xpk, xhf, xrto, xsm, xsb, xsa, xis, xsmo, xspr, xtm, xsi, xrt, xwt, xrs, yst, yer, ytr, yiss, yuna, ynxt, ymx, yla, ycl, yirs, yrcv, yfi, yun, ywnd, ypk, yhf, yrto, ysa, ysmo, ytm, ysi, yrt, ywt, yrs, I1, I3, I4, I5, K, C, H, W⟩ := RE_el R
  have b1 := I1.1
  have b3 := I3.2.2.1
  have c8 : (8 : Int32) ≤ zI w ↔ 8 ≤ w := by rw [zl_8, zI_le (by omega)]
  have cm : zI w + zI m < 8 ↔ 24 - un < 8 := by rw [zl_8, zI_add, zI_lt (by omega)]; omega
  have c3 : a_state e ≤ 3 ↔ st ≤ 3 := by rw [xst, zl_3, zI_le (by omega)]
  have c7 : 7 ≤ a_state e ↔ 7 ≤ st := by rw [xst, zl_7, zI_le (by omega)]
  have y0 : (24 : Int32) * zI e + zI un ≤ zI (24 * e + r) := by rw [zl_24, zI_mul, zI_add, zI_le (by omega)]; omega
  have d7 : zI (24 - un) ≤ 7 ↔ 24 - un ≤ 7 := by rw [zl_7, zI_le (by omega)]
  have d3 : b_state e ≤ 3 ↔ st ≤ 3 := by rw [yst, zl_3, zI_le (by omega)]
  have e7 : 7 ≤ b_state e ↔ 7 ≤ st := by rw [yst, zl_7, zI_le (by omega)]
  have D : LK ap2 aq2 (fun p => p x5 (f_now, f_sent, a_state, a_error, a_tries, a_iss, a_una, a_nxt, a_max, a_last, a_closing, a_kept, a_rcv, a_first, a_held, a_fin, a_unread, a_came, a_ended, a_wnd, a_peak, a_half, a_same, a_setBy, a_setAt, a_isSet, a_rto, a_smooth, a_spread, a_timed, a_since, a_retry, a_waits, a_rest, a_segSeq, a_segAck, a_segFlags, a_segWindow, a_segLength, a_segBytes, a_row, a_many, a_taken)) (fun p => p x5 (g_now, g_sent, b_seq, b_flags, b_acked, b_window, b_many, b_data, b_rows, b_state, b_error, b_iss, b_una, b_nxt, b_max, b_last, b_closed, b_written, b_irs, b_unread, b_bytes, b_held, b_rcv, b_finAt, b_marked, b_wnd, b_peak, b_half, b_rto, b_same, b_tries, b_smooth, b_spread, b_byNumber, b_byAck, b_sampled, b_told, b_retry, b_ackAt, b_waitAt, b_timedAt, b_timed)) (QT2 L now) := LK_r2 (QT2_i he rfl (OK_i R0 I2) ho)
  have Y8 : ∀ p : Int64 → SY → Prop, ((8 ≤ w → p x5 (g_now, g_sent, b_seq, b_flags, b_acked, b_window, b_many, b_data, b_rows, b_state, b_error, b_iss, b_una, b_nxt, b_max, b_last, b_closed, b_written, b_irs, b_unread, b_bytes, b_held, b_rcv, b_finAt, b_marked, b_wnd, b_peak, b_half, b_rto, b_same, b_tries, b_smooth, b_spread, b_byNumber, b_byAck, b_sampled, b_told, b_retry, b_ackAt, b_waitAt, b_timedAt, b_timed)) ∧ (¬ 8 ≤ w → (24 - un ≤ 7 → p x5 (g_now, g_sent, b_seq, b_flags, b_acked, b_window, b_many, b_data, b_rows, b_state, b_error, b_iss, b_una, b_nxt, b_max, b_last, b_closed, b_written, b_irs, b_unread, b_bytes, b_held, b_rcv, b_finAt, b_marked, b_wnd, b_peak, b_half, b_rto, b_same, b_tries, b_smooth, b_spread, b_byNumber, b_byAck, b_sampled, b_told, b_retry, b_ackAt, b_waitAt, b_timedAt, b_timed)) ∧ (¬ 24 - un ≤ 7 → (st ≤ 3 → p x5 (g_now, g_sent, b_seq, b_flags, b_acked, b_window, b_many, b_data, b_rows, b_state, b_error, b_iss, b_una, b_nxt, b_max, b_last, b_closed, b_written, b_irs, b_unread, b_bytes, b_held, b_rcv, b_finAt, b_marked, b_wnd, b_peak, b_half, b_rto, b_same, b_tries, b_smooth, b_spread, b_byNumber, b_byAck, b_sampled, b_told, b_retry, b_ackAt, b_waitAt, b_timedAt, b_timed)) ∧ (¬ st ≤ 3 → (7 ≤ st → p x5 (g_now, g_sent, b_seq, b_flags, b_acked, b_window, b_many, b_data, b_rows, b_state, b_error, b_iss, b_una, b_nxt, b_max, b_last, b_closed, b_written, b_irs, b_unread, b_bytes, b_held, b_rcv, b_finAt, b_marked, b_wnd, b_peak, b_half, b_rto, b_same, b_tries, b_smooth, b_spread, b_byNumber, b_byAck, b_sampled, b_told, b_retry, b_ackAt, b_waitAt, b_timedAt, b_timed)) ∧ (¬ 7 ≤ st → wpY_acknowledge (fun v => match v with | (g_now, g_sent, b_seq, b_flags, b_acked, b_window, b_many, b_data, b_rows, b_state, b_error, b_iss, b_una, b_nxt, b_max, b_last, b_closed, b_written, b_irs, b_unread, b_bytes, b_held, b_rcv, b_finAt, b_marked, b_wnd, b_peak, b_half, b_rto, b_same, b_tries, b_smooth, b_spread, b_byNumber, b_byAck, b_sampled, b_told, b_retry, b_ackAt, b_waitAt, b_timedAt, b_timed) => p x5 (g_now, g_sent, b_seq, b_flags, b_acked, b_window, b_many, b_data, b_rows, b_state, b_error, b_iss, b_una, b_nxt, b_max, b_last, b_closed, b_written, b_irs, b_unread, b_bytes, b_held, b_rcv, b_finAt, b_marked, b_wnd, b_peak, b_half, b_rto, b_same, b_tries, b_smooth, b_spread, b_byNumber, b_byAck, b_sampled, b_told, b_retry, b_ackAt, b_waitAt, b_timedAt, b_timed)) (g_now, g_sent, b_seq, b_flags, b_acked, b_window, b_many, b_data, b_rows, b_state, b_error, b_iss, b_una, b_nxt, b_max, b_last, b_closed, b_written, b_irs, b_unread, b_bytes, b_held, b_rcv, b_finAt, b_marked, b_wnd, b_peak, b_half, b_rto, b_same, b_tries, b_smooth, b_spread, b_byNumber, b_byAck, b_sampled, b_told, b_retry, b_ackAt, b_waitAt, b_timedAt, b_timed) (zI e)))))) → wY_read_153 p (zI e) (zI w) (zI m) x5 g_now g_sent 1 (zI (24 * e + r)) b_seq b_flags b_acked b_window b_many b_data b_rows b_state b_error b_iss b_una b_nxt b_max b_last b_closed b_written b_irs b_unread b_bytes b_held b_rcv b_finAt b_marked b_wnd b_peak b_half b_rto b_same b_tries b_smooth b_spread b_byNumber b_byAck b_sampled b_told b_retry b_ackAt b_waitAt b_timedAt b_timed := by
    intro p h
    rw [wY_read_153]
    refine ⟨e_in he, ?_⟩
    rw [e_cl he, yun]
    refine br_t y0 ⟨fun z => h.1 (c8.mp z), fun z => ?_⟩
    have h1 := h.2 (fun y => z (c8.mpr y))
    rw [y_own he yun]
    refine ⟨fun z => h1.1 (d7.mp z), fun z => ?_⟩
    have h2 := h1.2 (fun y => z (d7.mpr y))
    refine ⟨e_in he, fun z => h2.1 (d3.mp z), fun z => ?_⟩
    have h3 := h2.2 (fun y => z (d3.mpr y))
    exact ⟨e_in he, fun z => h3.1 (e7.mp z), fun z => h3.2 (fun y => z (e7.mpr y))⟩
  refine LK_y Y8 ?_
  by_cases h8 : 8 ≤ w
  · exact LX_t (c8.mpr h8) (LY_t h8 D)
  · refine LX_f (fun z => h8 (c8.mp z)) (LY_f h8 ?_)
    by_cases h7 : 24 - un ≤ 7
    · exact LX_t (cm.mpr (by omega)) (LY_t h7 D)
    · refine LX_f (fun z => h7 (by have := cm.mp z; omega)) (LY_f h7 ?_)
      by_cases h3 : st ≤ 3
      · exact LX_t (c3.mpr h3) (LY_t h3 D)
      · refine LX_f (fun z => h3 (c3.mp z)) (LY_f h3 ?_)
        by_cases h7 : 7 ≤ st
        · exact LX_t (c7.mpr h7) (LY_t h7 D)
        · refine LX_f (fun z => h7 (c7.mp z)) (LY_f h7 ?_)
          have b2 := E2_b I2 (by omega)
          have hcl := I1.2.2.2.1
          refine LK_b (lk_ack he (by omega) b2.1 (by omega) (by omega) R0) ?_
          intro f_now1 f_sent1 a_state1 a_error1 a_tries1 a_iss1 a_una1 a_nxt1 a_max1 a_last1 a_closing1 a_kept1 a_rcv1 a_first1 a_held1 a_fin1 a_unread1 a_came1 a_ended1 a_wnd1 a_peak1 a_half1 a_same1 a_setBy1 a_setAt1 a_isSet1 a_rto1 a_smooth1 a_spread1 a_timed1 a_since1 a_retry1 a_waits1 a_rest1 a_segSeq1 a_segAck1 a_segFlags1 a_segWindow1 a_segLength1 a_segBytes1 a_row1 a_many1 a_taken1 g_now1 g_sent1 b_seq1 b_flags1 b_acked1 b_window1 b_many1 b_data1 b_rows1 b_state1 b_error1 b_iss1 b_una1 b_nxt1 b_max1 b_last1 b_closed1 b_written1 b_irs1 b_unread1 b_bytes1 b_held1 b_rcv1 b_finAt1 b_marked1 b_wnd1 b_peak1 b_half1 b_rto1 b_same1 b_tries1 b_smooth1 b_spread1 b_byNumber1 b_byAck1 b_sampled1 b_told1 b_retry1 b_ackAt1 b_waitAt1 b_timedAt1 b_timed1 Z1
          exact LK_r2 (QT2_i he rfl (OK_i Z1 I2) ho)
end
end
section
/-! read: the owed one -/
section
variable {e : Nat} {L now : Int} {st er tr iss una nxt mx la cl irs rcv fi un fst wnd pk hf rto sa smo tm si rt wt rs nr nw ns : Int} {f_now f_sent : Int32} {a_state a_error a_tries a_iss a_una a_nxt a_max a_last a_closing a_kept a_rcv a_first a_held a_fin a_unread a_came a_ended a_wnd a_peak a_half a_same a_setBy a_setAt a_isSet a_rto a_smooth a_spread a_timed a_since a_retry a_waits a_rest a_segSeq a_segAck a_segFlags a_segWindow a_segLength a_segBytes a_row a_many a_taken : Nat → Int32} {g_now g_sent : Int32} {b_seq b_flags b_acked b_window b_many b_data b_rows b_state b_error b_iss : Nat → Int32} {b_una b_nxt b_max b_last : Nat → Int64} {b_closed b_written b_irs b_unread b_bytes b_held : Nat → Int32} {b_rcv b_finAt : Nat → Int64} {b_marked b_wnd b_peak b_half b_rto b_same b_tries b_smooth b_spread b_byNumber b_byAck b_sampled b_told b_retry b_ackAt b_waitAt b_timedAt : Nat → Int32} {b_timed : Nat → Int64} {u0 : SX} {v0 : SY}
theorem lk_rd_l {m : Nat} (he : e < 2) (hm : 1 ≤ m ∧ (m : Int) ≤ un ∧ m ≤ 7) (ho : ON (1 - e) L now (now + 1) (now + 1) (now + 1) u0 v0) (I2 : E2 L st iss una nxt mx la cl tm) (R : RZ e L now st er tr iss una nxt mx la cl irs rcv fi un fst wnd pk hf rto sa smo tm si rt wt rs (now + 1) (now + 1) (now + 1) u0 v0 (f_now, f_sent, a_state, a_error, a_tries, a_iss, a_una, a_nxt, a_max, a_last, a_closing, a_kept, a_rcv, a_first, a_held, a_fin, a_unread, a_came, a_ended, a_wnd, a_peak, a_half, a_same, a_setBy, a_setAt, a_isSet, a_rto, a_smooth, a_spread, a_timed, a_since, a_retry, a_waits, a_rest, a_segSeq, a_segAck, a_segFlags, a_segWindow, a_segLength, a_segBytes, a_row, a_many, a_taken) (g_now, g_sent, b_seq, b_flags, b_acked, b_window, b_many, b_data, b_rows, b_state, b_error, b_iss, b_una, b_nxt, b_max, b_last, b_closed, b_written, b_irs, b_unread, b_bytes, b_held, b_rcv, b_finAt, b_marked, b_wnd, b_peak, b_half, b_rto, b_same, b_tries, b_smooth, b_spread, b_byNumber, b_byAck, b_sampled, b_told, b_retry, b_ackAt, b_waitAt, b_timedAt, b_timed)) : ∀ (d i : Nat) (acc : Int64) (fx fy : Nat), i + d = m → d < fx → d < fy →
    LK ap2 aq2 (fun p => wX_read_95 p (zI e) (zI (24 - un)) (zI m) f_now f_sent a_state a_error a_tries a_iss a_una a_nxt a_max a_last a_closing a_kept a_rcv a_first a_held a_fin a_unread a_came a_ended a_wnd a_peak a_half a_same a_setBy a_setAt a_isSet a_rto a_smooth a_spread a_timed a_since a_retry a_waits a_rest a_segSeq a_segAck a_segFlags a_segWindow a_segLength a_segBytes a_row a_many a_taken fx acc (zI i)) (fun p => wY_read_99 p (zI e) (zI (24 - un)) (zI m) g_now g_sent b_seq b_flags b_acked b_window b_many b_data b_rows b_state b_error b_iss b_una b_nxt b_max b_last b_closed b_written b_irs b_unread b_bytes b_held b_rcv b_finAt b_marked b_wnd b_peak b_half b_rto b_same b_tries b_smooth b_spread b_byNumber b_byAck b_sampled b_told b_retry b_ackAt b_waitAt b_timedAt b_timed fy acc (zI i)) (QT2 L now) := by
  have hne : 1 - e ≠ e := by omega
  obtain ⟨R, F⟩ := R
  obtain ⟨xnow, ynow, xst, xer, xtr, xiss, xuna, xnxt, xmx, xla, xcl, xrcv, xfst, xfi, xun, xen, xwnd, xpk, xhf, xrto, xsm, xsb, xsa, xis, xsmo, xspr, xtm, xsi, xrt, xwt, xrs, yst, yer, ytr, yiss, yuna, ynxt, ymx, yla, ycl, yirs, yrcv, yfi, yun, ywnd, ypk, yhf, yrto, ysa, ysmo, ytm, ysi, yrt, ywt, yrs, I1, I3, I4, I5, K, C, H, W⟩ := RE_el R
  have b3 := I3.2.2.1
  have b4 := I3.2.2.2.1
  intro d
  induction d with
  | zero =>
    intro i acc fx fy hi hx hy
    obtain ⟨fx, rfl⟩ : ∃ n', fx = n' + 1 := ⟨fx - 1, by omega⟩
    obtain ⟨fy, rfl⟩ : ∃ n', fy = n' + 1 := ⟨fy - 1, by omega⟩
    have hc : zI m ≤ zI i := by rw [zI_le (by omega)]; omega
    have x1 : (zI fst + zI m) &&& 65535 = zI ((fst + m) % 65536) := by rw [zl_65535, zI_add, zI_m16]
    have x2 : vp_nar .byte ((zI un - zI m).toInt8.toInt32) = zI (un - m) := by rw [zI_sub, zI_8 (by omega), zI_n8 (by omega)]
    have y2 : zI un - zI m = zI (un - m) := zI_sub _ _
    have y3 : (24 : Int32) * zI e = zI (24 * e + ((0 : Nat) : Int)) := by rw [zl_24, zI_mul]; congr 1
    obtain ⟨rr, hr⟩ := Int.eq_ofNat_of_zero_le (show 0 ≤ un - m by omega)
    obtain ⟨bb, k1, k2, k3⟩ := y_rd_l (b_bytes := b_bytes) (r := rr) (m := m) (x3 := zI (24 - un)) (x5 := acc) he (by omega) rr 0 b_bytes (by omega) rfl (fun z z0 z1 => absurd z1 (by omega)) (fun z _ _ => rfl)
    refine LX_t hc (LX_a (e_in he) (LX_a (e_in he) ?_))
    rw [e_cl he, xfst, x1, xun, x2]
    refine LX_n (LX_a (e_in he) (LX_a (e_in he) (LX_n (LX_a (e_in he) (LX_n ?_)))))
    refine LY_t hc (LY_a (e_in he) (LY_a (e_in he) ?_))
    rw [e_cl he, yun, y2, y3]
    refine LY_n (LY_n (LY_e (rr + 1) ?_))
    refine LK_y (fun p h => k3 p (pk_us.trans (by rw [hr])) h) (lk_rd_t (m := m) (w := 24 - un) (r := rr) (un := un - m) (fst := (fst + m) % 65536) he (by omega) (by omega) (by omega) ho I2 ⟨RE_in ⟨xnow, ynow, xst, xer, xtr, xiss, xuna, xnxt, xmx, xla, xcl, xrcv, pk_us, xfi, pk_us, xen, xwnd, xpk, xhf, xrto, xsm, xsb, xsa, xis, xsmo, xspr, xtm, xsi, xrt, xwt, xrs, yst, yer, ytr, yiss, yuna, ynxt, ymx, yla, ycl, yirs, yrcv, yfi, pk_us, ywnd, ypk, yhf, yrto, ysa, ysmo, ytm, ysi, yrt, ywt, yrs, I1, E3_rd I3 (by omega), I4, I5, K, EC_rd C (by omega) (fun z z0 z1 => k2 z z0 (by omega)), EH_rd H (by omega), W⟩, FR_s F ?_ ?_ rfl⟩)
    · simp only [vX, pk_un hne]
    · simp only [vY, pk_un hne, k1]
  | succ d ih =>
    intro i acc fx fy hi hx hy
    obtain ⟨fx, rfl⟩ : ∃ n', fx = n' + 1 := ⟨fx - 1, by omega⟩
    obtain ⟨fy, rfl⟩ : ∃ n', fy = n' + 1 := ⟨fy - 1, by omega⟩
    have hc : ¬ zI m ≤ zI i := by rw [zI_le (by omega)]; omega
    have x1 : (32 : Int32) * zI e + ((zI fst + zI i) &&& 31) = zI (32 * e + (fst + i) % 32) := by rw [zl_32, show (31 : Int32) = zI 31 from rfl, zI_mul, zI_add fst, zI_m5, zI_add]
    have x2 : vp_in (zI (32 * (e : Int) + (fst + i) % 32)) 64 := zI_in (by omega)
    have x3 : (zI (32 * (e : Int) + (fst + i) % 32)).toNatClampNeg = (32 * (e : Int) + (fst + i) % 32).toNat := zI_cl (by omega)
    have y1 : (24 : Int32) * zI e + zI i = zI (24 * e + i) := by rw [zl_24, zI_mul, zI_add]
    have y2 : vp_in (zI (24 * (e : Int) + i)) 48 := zI_in (by omega)
    have y3 : (zI (24 * (e : Int) + i)).toNatClampNeg = (24 * (e : Int) + i).toNat := zI_cl (by omega)
    have hi1 : zI (i : Int) + 1 = zI ((i + 1 : Nat) : Int) := zI_add i 1
    have hv : b_bytes (24 * (e : Int) + i).toNat = a_came (32 * (e : Int) + (fst + i) % 32).toNat &&& 255 := by
      have h := C i (by omega) (by omega)
      unfold rg at h
      rw [Int.emod_eq_of_lt (a := (i : Int)) (b := 24) (by omega) (by omega)] at h
      exact h
    have hw : (b_bytes (24 * (e : Int) + i).toNat).toInt64 = (a_came (32 * (e : Int) + (fst + i) % 32).toNat).toInt64 &&& 255 := by
      rw [hv, Int32.toInt64_and, show (255 : Int32).toInt64 = 255 by decide]
    refine LX_f hc (LX_a (e_in he) ?_)
    rw [e_cl he, xfst, x1]
    refine LX_a x2 ?_
    rw [x3, hi1]
    refine LX_n (LX_n ?_)
    refine LY_f hc ?_
    rw [y1]
    refine LY_a y2 ?_
    rw [y3, hw, hi1]
    refine LY_n (LY_n ?_)
    exact ih (i + 1) _ fx fy (by omega) (by omega) (by omega)
theorem i_vc_read {k : Nat} {u : SX} {v : SY} (I : i_Rel k u v) (hk : k + 8 ≤ 4096) (v1 : Int32) (v2 : Int32) : wpX_read (fun r u' => wpY_read (fun r' v' => r' = r ∧ i_Rel (k + 8) u' v') v v1 v2) u v1 v2 := by
  have J := i_up I
  obtain ⟨now, hn, hr⟩ := I (by omega)
  obtain ⟨f_now, f_sent, a_state, a_error, a_tries, a_iss, a_una, a_nxt, a_max, a_last, a_closing, a_kept, a_rcv, a_first, a_held, a_fin, a_unread, a_came, a_ended, a_wnd, a_peak, a_half, a_same, a_setBy, a_setAt, a_isSet, a_rto, a_smooth, a_spread, a_timed, a_since, a_retry, a_waits, a_rest, a_segSeq, a_segAck, a_segFlags, a_segWindow, a_segLength, a_segBytes, a_row, a_many, a_taken⟩ := u
  obtain ⟨g_now, g_sent, b_seq, b_flags, b_acked, b_window, b_many, b_data, b_rows, b_state, b_error, b_iss, b_una, b_nxt, b_max, b_last, b_closed, b_written, b_irs, b_unread, b_bytes, b_held, b_rcv, b_finAt, b_marked, b_wnd, b_peak, b_half, b_rto, b_same, b_tries, b_smooth, b_spread, b_byNumber, b_byAck, b_sampled, b_told, b_retry, b_ackAt, b_waitAt, b_timedAt, b_timed⟩ := v
  rcases end_c v1 with ⟨e, he, rfl⟩ | hne
  · by_cases o1 : v2 < 1 ∨ ¬ v2 ≤ 7
    · unfold wpX_read wpY_read
      simp only [x_isEnd he, y_end he, x_out, y_out, if_pos o1]
      exact br_f (by decide) (br_f (by decide) (br_t (by trivial) (br_f (by decide) ⟨by trivial, J⟩)))
    · obtain ⟨n, rfl, hn1⟩ : ∃ n : Int, v2 = zI n ∧ 1 ≤ n ∧ n ≤ 7 := by
        refine ⟨v2.toInt, (zI_self v2).symm, ?_⟩
        rw [Int32.lt_iff_toInt_lt, Int32.le_iff_toInt_le, show (1 : Int32).toInt = 1 from rfl, show (7 : Int32).toInt = 7 from rfl] at o1
        omega
      have h0 := ON_L (L' := 1000 + 100 * ((k + 8 : Nat) : Int)) (hr e he) (by omega) (by omega)
      have h1 := ON_L (L' := 1000 + 100 * ((k + 8 : Nat) : Int)) (hr (1 - e) (by omega)) (by omega) (by omega)
      refine ON_el h0 ?_
      intro st er tr iss una nxt mx la cl irs rcv fi un fst wnd pk hf rto sa smo tm si rt wt rs R I2
      have R0 := R
      obtain ⟨xnow, ynow, xst, xer, xtr, xiss, xuna, xnxt, xmx, xla, xcl, xrcv, xfst, xfi, xun, xen, xwnd, xpk, xhf, xrto, xsm, xsb, xsa, xis, xsmo, xspr, xtm, xsi, xrt, xwt, xrs, yst, yer, ytr, yiss, yuna, ynxt, ymx, yla, ycl, yirs, yrcv, yfi, yun, ywnd, ypk, yhf, yrto, ysa, ysmo, ytm, ysi, yrt, ywt, yrs, I1, I3, I4, I5, K, C, H, W⟩ := RE_el R
      have b1 := I1.1
      have b3 := I3.2.2.1
      have cu : zI un = 0 ↔ un = 0 := by rw [zl_0, zI_eq (by omega)]
      have cs : zI st = 0 ↔ st = 0 := by rw [zl_0, zI_eq (by omega)]
      have c6 : zI st ≤ 6 ↔ st ≤ 6 := by rw [zl_6, zI_le (by omega)]
      by_cases hu : un = 0
      · unfold wpX_read wpY_read
        simp only [x_isEnd he, y_end he, x_out, y_out, if_neg o1]
        refine br_f (by decide) (br_t (by trivial) ⟨e_in he, ?_⟩)
        rw [e_cl he, xun, xst]
        refine br_t (cu.mpr hu) ⟨e_in he, ?_⟩
        by_cases hs : st = 0
        · by_cases ha : a_ended e = 0
          · refine br_t ha ⟨e_in he, br_t (cs.mpr hs) (br_t (by trivial) (br_t (by trivial) ⟨e_in he, ?_⟩))⟩
            rw [yun, yst]
            exact br_t (cu.mpr hu) ⟨e_in he, br_t (cs.mpr hs) ⟨by trivial, J⟩⟩
          · refine br_f ha (br_t (by trivial) (br_t (by trivial) ⟨e_in he, ?_⟩))
            rw [yun, yst]
            exact br_t (cu.mpr hu) ⟨e_in he, br_t (cs.mpr hs) ⟨by trivial, J⟩⟩
        · have xe := xen hs
          by_cases h6 : 6 < st
          · rw [if_pos h6] at xe
            rw [xe]
            refine br_f (by decide) (br_t (by trivial) (br_t (by trivial) ⟨e_in he, ?_⟩))
            rw [yun, yst]
            exact br_t (cu.mpr hu) ⟨e_in he, br_f (fun z => hs (cs.mp z)) ⟨e_in he, br_f (fun z => by have := c6.mp z; omega) ⟨by trivial, J⟩⟩⟩
          · rw [if_neg h6] at xe
            rw [xe]
            refine br_t rfl ⟨e_in he, br_f (fun z => hs (cs.mp z)) (br_t (by trivial) (br_t (by trivial) ⟨e_in he, ?_⟩))⟩
            rw [yun, yst]
            exact br_t (cu.mpr hu) ⟨e_in he, br_f (fun z => hs (cs.mp z)) ⟨e_in he, br_t (c6.mpr (by omega)) ⟨by trivial, J⟩⟩⟩
      · obtain ⟨m, hm⟩ : ∃ m : Nat, ((m : Int) = un ∧ un ≤ n) ∨ ((m : Int) = n ∧ n ≤ un) := by
          by_cases c : un ≤ n
          · exact ⟨un.toNat, Or.inl ⟨by omega, c⟩⟩
          · exact ⟨n.toNat, Or.inr ⟨by omega, by omega⟩⟩
        have D := lk_rd_l (m := m) he (by omega) h1 I2 ⟨R0, FR_r⟩ m 0 ((zI m).toInt64 <<< ((56 : Int32).toInt64 &&& 63)) (m + 1) (m + 1) (by omega) (by omega) (by omega)
        have m1 : un ≤ n → (m : Int) = un := by omega
        have m2 : ¬ un ≤ n → (m : Int) = n := by omega
        have m3 : n ≤ un → (m : Int) = n := by omega
        have m4 : ¬ n ≤ un → (m : Int) = un := by omega
        have cn : zI un ≤ zI n ↔ un ≤ n := zI_le (by omega)
        have cn' : zI n ≤ zI un ↔ n ≤ un := zI_le (by omega)
        refine top2 (WX := fun p => wpX_read p (f_now, f_sent, a_state, a_error, a_tries, a_iss, a_una, a_nxt, a_max, a_last, a_closing, a_kept, a_rcv, a_first, a_held, a_fin, a_unread, a_came, a_ended, a_wnd, a_peak, a_half, a_same, a_setBy, a_setAt, a_isSet, a_rto, a_smooth, a_spread, a_timed, a_since, a_retry, a_waits, a_rest, a_segSeq, a_segAck, a_segFlags, a_segWindow, a_segLength, a_segBytes, a_row, a_many, a_taken) (zI e) (zI n)) (WY := fun p => wpY_read p (g_now, g_sent, b_seq, b_flags, b_acked, b_window, b_many, b_data, b_rows, b_state, b_error, b_iss, b_una, b_nxt, b_max, b_last, b_closed, b_written, b_irs, b_unread, b_bytes, b_held, b_rcv, b_finAt, b_marked, b_wnd, b_peak, b_half, b_rto, b_same, b_tries, b_smooth, b_spread, b_byNumber, b_byAck, b_sampled, b_told, b_retry, b_ackAt, b_waitAt, b_timedAt, b_timed) (zI e) (zI n)) (k := k) (now := now) (by omega) ?_
        refine LK_x (fun p h => ?_) (LK_y (fun p h => ?_) D)
        · unfold wpX_read
          simp only [x_isEnd he, x_out, if_neg o1]
          refine br_f (by decide) (br_t (by trivial) ⟨e_in he, ?_⟩)
          rw [e_cl he, xun]
          refine br_f (fun z => hu (cu.mp z)) ?_
          rw [x_window he xun]
          refine ⟨e_in he, ?_⟩
          unfold wX_read_82
          by_cases c : un ≤ n
          · rw [m1 c] at h
            exact br_t (cn.mpr c) ⟨e_in he, nm_e ⟨m + 1, h⟩⟩
          · rw [m2 c] at h
            exact br_f (fun z => c (cn.mp z)) (nm_e ⟨m + 1, h⟩)
        · unfold wpY_read
          simp only [y_end he, y_out, if_neg o1]
          refine br_t (by trivial) (br_t (by trivial) ⟨e_in he, ?_⟩)
          rw [e_cl he, yun]
          refine br_f (fun z => hu (cu.mp z)) ?_
          rw [y_own he yun]
          refine ⟨e_in he, ?_⟩
          unfold wY_read_86
          by_cases c : n ≤ un
          · rw [m3 c] at h
            exact br_t (cn'.mpr c) (nm_e ⟨m + 1, h⟩)
          · rw [m4 c] at h
            exact br_f (fun z => c (cn'.mp z)) ⟨e_in he, nm_e ⟨m + 1, h⟩⟩
  · unfold wpX_read wpY_read
    simp only [x_isEnd_n hne, y_end_n hne]
    exact br_t (by trivial) (br_f (by decide) ⟨by trivial, J⟩)
end
end
