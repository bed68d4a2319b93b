section
/-! pure rows to paste: stores, nI and lN arithmetic, masks, shifts, narrowing, branches by naturals (pk_le, pk_lt, pk_eq), loops (lp1 .. lp16: the measure of the state; rp1 ..: recursion), negatives. Take what you need -/
theorem pk_us {f : Nat → Int32} {k : Nat} {x : Int32} : upd f k x k = x := if_pos rfl
theorem pk_un {f : Nat → Int32} {k j : Nat} {x : Int32} (h : j ≠ k) : upd f k x j = f j := if_neg h
theorem pk_uLs {f : Nat → Int64} {k : Nat} {x : Int64} : vp_updL f k x k = x := if_pos rfl
theorem pk_uLn {f : Nat → Int64} {k j : Nat} {x : Int64} (h : j ≠ k) : vp_updL f k x j = f j := if_neg h
theorem pk_sub {a b : Nat} (h : b ≤ a) : nI a - nI b = nI (a - b) := by
  obtain ⟨c, rfl⟩ : ∃ c, a = c + b := ⟨a - b, by omega⟩
  rw [← nI_add, Int32.add_sub_cancel, Nat.add_sub_cancel]
theorem pk_m1 (n : Nat) : nI (n + 1) + (-1) = nI n := by
  rw [← nI_1, Int32.add_assoc, show (1 : Int32) + (-1) = 0 from rfl, Int32.add_zero]
theorem pk_mul (a b : Nat) : nI a * nI b = nI (a * b) := (Int32.ofNat_mul a b).symm
theorem pk_div {a d : Nat} (ha : a < 2 ^ 31) (h0 : 0 < d) (hd : d < 2 ^ 31) : nI a / nI d = nI (a / d) := by
  apply Int32.toInt_inj.mp
  rw [lg_idiv_nonneg (by rw [nI_toInt ha]; omega) (by rw [nI_toInt hd]; omega), nI_toInt ha, nI_toInt hd, nI_toInt (Nat.lt_of_le_of_lt (Nat.div_le_self a d) ha)]
  first | rfl | exact (Int.natCast_ediv _ _).symm
theorem pk_rem {a d : Nat} (ha : a < 2 ^ 31) (h0 : 0 < d) (hd : d < 2 ^ 31) : nI a - nI a / nI d * nI d = nI (a % d) := by
  rw [pk_div ha h0 hd, pk_mul, pk_sub (Nat.div_mul_le_self a d)]
  exact congrArg nI (by have := Nat.div_add_mod' a d; omega)
theorem pk_sub_toInt {a b : Nat} (ha : a < 2 ^ 30) (hb : b < 2 ^ 30) : (nI a - nI b).toInt = (a : Int) - b := by
  rw [Int32.toInt_sub, nI_toInt (by omega), nI_toInt (by omega)]
  exact Int.bmod_eq_of_le (by omega) (by omega)
theorem pk_sneg {a b : Nat} (hb : b < 2 ^ 30) (h : a < b) : nI a - nI b < 0 := by
  rw [Int32.lt_iff_toInt_lt, pk_sub_toInt (by omega) hb, show (0 : Int32).toInt = 0 from by decide]
  omega
theorem pk_ix (x : Int32) {n : Nat} (hn : n < 2 ^ 31) : x < 0 ∨ nI n ≤ x ∨ ∃ j : Nat, j < n ∧ x = nI j := by
  by_cases h : x < 0
  · exact Or.inl h
  · obtain ⟨j, hj, rfl⟩ := nI_of h
    by_cases h2 : j < n
    · exact Or.inr (Or.inr ⟨j, h2, rfl⟩)
    · exact Or.inr (Or.inl (nI_le (by omega) hj))
theorem pk_le {x y : Int32} {A B : Prop} (a b : Nat) (f : a ≤ b → A) (g : b < a → B) (hx : x = nI a := by rfl) (hy : y = nI b := by rfl) (ha : a < 2 ^ 31 := by omega) (hb : b < 2 ^ 31 := by omega) : (x ≤ y → A) ∧ (¬ x ≤ y → B) := by
  subst hx hy
  rw [nI_leI ha hb]
  exact ⟨f, fun z => g (by omega)⟩
theorem pk_lt {x y : Int32} {A B : Prop} (a b : Nat) (f : a < b → A) (g : b ≤ a → B) (hx : x = nI a := by rfl) (hy : y = nI b := by rfl) (ha : a < 2 ^ 31 := by omega) (hb : b < 2 ^ 31 := by omega) : (x < y → A) ∧ (¬ x < y → B) := by
  subst hx hy
  rw [nI_ltI ha hb]
  exact ⟨f, fun z => g (by omega)⟩
theorem pk_eq {x y : Int32} {A B : Prop} (a b : Nat) (f : a = b → A) (g : a ≠ b → B) (hx : x = nI a := by rfl) (hy : y = nI b := by rfl) (ha : a < 2 ^ 31 := by omega) (hb : b < 2 ^ 31 := by omega) : (x = y → A) ∧ (¬ x = y → B) := by
  subst hx hy
  rw [nI_eq ha hb]
  exact ⟨f, g⟩
theorem pk_in {x : Int32} (n N : Nat) (h : n < N) (hx : x = nI n := by rfl) (hN : N < 2 ^ 31 := by omega) : vp_in x N := by
  subst hx
  exact vp_in_nI h hN
theorem pk_cl {x : Int32} (n : Nat) (hx : x = nI n := by rfl) (h : n < 2 ^ 31 := by omega) : x.toNatClampNeg = n := by
  subst hx
  exact nI_clamp h
theorem pk_tn {n : Nat} (h : n < 2 ^ 32) : (nI n).toBitVec.toNat = n := Nat.mod_eq_of_lt h
theorem pk_and (x : Int32) {m : Int32} (k : Nat) (hm : m.toBitVec.toNat = 2 ^ k - 1) : x &&& m = nI (x.toBitVec.toNat % 2 ^ k) := by
  apply Int32.toBitVec_inj.mp
  apply BitVec.eq_of_toNat_eq
  rw [Int32.toBitVec_and, BitVec.toNat_and, hm, Nat.and_two_pow_sub_one_eq_mod]
  show _ = (BitVec.ofNat 32 _).toNat
  rw [BitVec.toNat_ofNat]
  exact (Nat.mod_eq_of_lt (Nat.lt_of_le_of_lt (Nat.mod_le _ _) x.toBitVec.isLt)).symm
theorem pk_andN {n : Nat} (h : n < 2 ^ 32) {m : Int32} (k : Nat) (hm : m.toBitVec.toNat = 2 ^ k - 1) : nI n &&& m = nI (n % 2 ^ k) := by
  rw [pk_and _ k hm, pk_tn h]
theorem pk_andE (x : Int32) {m : Int32} (k : Nat) (hm : m.toBitVec.toNat = 2 ^ k - 1) : ∃ j : Nat, j < 2 ^ k ∧ x &&& m = nI j := ⟨_, Nat.mod_lt _ (Nat.two_pow_pos k), pk_and x k hm⟩
theorem pk_andIn (x : Int32) {m : Int32} (k : Nat) (hm : m.toBitVec.toNat = 2 ^ k - 1) (hk : k ≤ 30) : vp_in (x &&& m) (2 ^ k) := by
  obtain ⟨j, hj, e⟩ := pk_andE x k hm
  rw [e]
  exact vp_in_nI hj (Nat.lt_of_le_of_lt (Nat.pow_le_pow_right (by decide) hk) (by decide))
theorem pk_shl (a s : Int32) (k : Nat) (hs : (s.toBitVec.smod 32).toNat = k) : (a <<< s).toBitVec.toNat = a.toBitVec.toNat * 2 ^ k % 2 ^ 32 := by
  show (a.toBitVec <<< (s.toBitVec.smod 32).toNat).toNat = _
  rw [hs, BitVec.toNat_shiftLeft, Nat.shiftLeft_eq]
theorem pk_shlN {n : Nat} (s : Int32) (k : Nat) (hs : (s.toBitVec.smod 32).toNat = k) (h : n * 2 ^ k < 2 ^ 32) : nI n <<< s = nI (n * 2 ^ k) := by
  apply Int32.toBitVec_inj.mp
  apply BitVec.eq_of_toNat_eq
  have hn : n < 2 ^ 32 := Nat.lt_of_le_of_lt (Nat.le_mul_of_pos_right n (Nat.two_pow_pos k)) h
  rw [pk_shl _ _ k hs, pk_tn hn, pk_tn h, Nat.mod_eq_of_lt h]
theorem pk_shr (a s : Int32) (k : Nat) (hs : (s.toBitVec.smod 32).toNat = k) : (a >>> s).toInt = a.toInt >>> k := by
  show (a.toBitVec.sshiftRight (s.toBitVec.smod 32).toNat).toInt = _
  rw [hs, BitVec.toInt_sshiftRight]
  rfl
theorem pk_shrN {n : Nat} (h : n < 2 ^ 31) (s : Int32) (k : Nat) (hs : (s.toBitVec.smod 32).toNat = k) : nI n >>> s = nI (n / 2 ^ k) := by
  apply Int32.toInt_inj.mp
  have h2 : n / 2 ^ k ≤ n := Nat.div_le_self _ _
  rw [pk_shr _ _ k hs, nI_toInt h, nI_toInt (by omega), Int.shiftRight_eq_div_pow]
  rfl
theorem pk_ushr (x s : Int32) (k : Nat) (hs : ((s.toUInt32 &&& Int32.toUInt32 31).toBitVec % 32).toNat = k) : (x.toUInt32 >>> (s.toUInt32 &&& Int32.toUInt32 31)).toInt32.toBitVec.toNat = x.toBitVec.toNat / 2 ^ k := by
  have e : (x.toUInt32 >>> (s.toUInt32 &&& Int32.toUInt32 31)).toInt32.toBitVec = x.toBitVec >>> k := by
    rw [← hs]
    exact UInt32.toBitVec_shiftRight _ _
  rw [e, BitVec.toNat_ushiftRight, Nat.shiftRight_eq_div_pow]
theorem pk_ushrN {n : Nat} (hn : n < 2 ^ 32) (s : Int32) (k : Nat) (hs : ((s.toUInt32 &&& Int32.toUInt32 31).toBitVec % 32).toNat = k) : ((nI n).toUInt32 >>> (s.toUInt32 &&& Int32.toUInt32 31)).toInt32 = nI (n / 2 ^ k) := by
  apply Int32.toBitVec_inj.mp
  apply BitVec.eq_of_toNat_eq
  rw [pk_ushr _ s k hs, pk_tn hn, pk_tn (Nat.lt_of_le_of_lt (Nat.div_le_self _ _) hn)]
theorem pk_nb (z : Int32) : narrow .byte (.int z.toInt8.toInt32) = .int z.toInt8.toInt32 := congrArg Value.int (by simp)
theorem pk_ns (z : Int32) : narrow .short (.int z.toInt16.toInt32) = .int z.toInt16.toInt32 := congrArg Value.int (by simp)
theorem pk_fb (r : Int32) : fits .byte (.int r.toInt8.toInt32) = true := by
  have ⟨a, b⟩ := lg_i2b_range r
  have h1 : (-128 : Int32).toInt = -128 := by decide
  have h2 : (127 : Int32).toInt = 127 := by decide
  simp only [fits, Bool.and_eq_true, decide_eq_true_eq, Int32.le_iff_toInt_le, h1, h2]
  omega
theorem pk_fs (r : Int32) : fits .short (.int r.toInt16.toInt32) = true := by
  have ⟨a, b⟩ := lg_i2s_range r
  have h1 : (-32768 : Int32).toInt = -32768 := by decide
  have h2 : (32767 : Int32).toInt = 32767 := by decide
  simp only [fits, Bool.and_eq_true, decide_eq_true_eq, Int32.le_iff_toInt_le, h1, h2]
  omega
theorem pk_charN {q : Nat} (hq : q < 65536) : narrow .char (.int (nI q)) = .int (nI q) ∧ fits .char (.int (nI q)) = true := by
  constructor
  · have e : (nI q).toUInt32.toUInt16.toUInt32.toInt32 = nI q := by
      apply Int32.toBitVec_inj.mp
      apply BitVec.eq_of_toNat_eq
      show (nI q).toUInt32.toUInt16.toUInt32.toNat = q % 2 ^ 32
      rw [UInt16.toNat_toUInt32, UInt32.toNat_toUInt16, show (nI q).toUInt32.toNat = q % 2 ^ 32 from rfl]
      omega
    exact congrArg Value.int e
  · have a : (0 : Int32) ≤ nI q := nI_pos' (by omega)
    have b : nI q ≤ 65535 := nI_le (b := 65535) (by omega) (by decide)
    show (decide ((0 : Int32) ≤ nI q) && decide (nI q ≤ 65535)) = true
    rw [decide_eq_true a, decide_eq_true b]
    rfl
theorem pk_char (x : Int32) : (x.toUInt32 % 65536).toInt32 = nI (x.toBitVec.toNat % 65536) := by
  apply Int32.toBitVec_inj.mp
  apply BitVec.eq_of_toNat_eq
  rw [pk_tn (by omega)]
  show (x.toUInt32 % 65536).toNat = _
  rw [UInt32.toNat_mod]
  rfl
theorem pk_nc (x : Int32) : narrow .char (.int (x.toUInt32 % 65536).toInt32) = .int (x.toUInt32 % 65536).toInt32 := by
  rw [pk_char]
  exact (pk_charN (Nat.mod_lt _ (by decide))).1
theorem pk_fc (x : Int32) : fits .char (.int (x.toUInt32 % 65536).toInt32) = true := by
  rw [pk_char]
  exact (pk_charN (Nat.mod_lt _ (by decide))).2
theorem pk_vb (z : Int32) : vp_nar .byte z.toInt8.toInt32 = z.toInt8.toInt32 := by rw [vp_nar_byte]; simp
theorem pk_vs (z : Int32) : vp_nar .short z.toInt16.toInt32 = z.toInt16.toInt32 := by rw [vp_nar_short]; simp
theorem pk_vc (z : Int32) : vp_nar .char (z.toUInt32 % 65536).toInt32 = (z.toUInt32 % 65536).toInt32 := Value.int.inj (pk_nc z)
theorem pk_lT {n : Nat} (h : n < 2 ^ 63) : (lN n).toInt = (n : Int) := lg_ofNat_toInt h
theorem pk_lLT {a b : Nat} (ha : a < 2 ^ 63) (hb : b < 2 ^ 63) : lN a < lN b ↔ a < b := by
  rw [Int64.lt_iff_toInt_lt, pk_lT ha, pk_lT hb]; omega
theorem pk_lLE {a b : Nat} (ha : a < 2 ^ 63) (hb : b < 2 ^ 63) : lN a ≤ lN b ↔ a ≤ b := by
  rw [Int64.le_iff_toInt_le, pk_lT ha, pk_lT hb]; omega
theorem pk_lEQ {a b : Nat} (ha : a < 2 ^ 63) (hb : b < 2 ^ 63) : lN a = lN b ↔ a = b := by
  rw [← Int64.toInt_inj, pk_lT ha, pk_lT hb]; omega
theorem pk_lOf {x : Int64} (h : ¬ x < 0) : ∃ k : Nat, k < 2 ^ 63 ∧ x = lN k := by
  rw [Int64.lt_iff_toInt_lt] at h
  have h0 : (0 : Int64).toInt = 0 := by decide
  have hx := Int64.toInt_lt x
  refine ⟨x.toInt.toNat, by omega, Int64.toInt_inj.mp ?_⟩
  rw [pk_lT (by omega)]
  omega
theorem pk_lDiv {a b : Nat} (ha : a < 2 ^ 63) (h0 : 0 < b) (hb : b < 2 ^ 63) : lN a / lN b = lN (a / b) := by
  apply Int64.toInt_inj.mp
  rw [lg_ldiv_nonneg (by rw [pk_lT ha]; omega) (by rw [pk_lT hb]; omega), pk_lT ha, pk_lT hb, pk_lT (Nat.lt_of_le_of_lt (Nat.div_le_self a b) ha)]
  rfl
theorem pk_lRem {a b : Nat} (ha : a < 2 ^ 63) (h0 : 0 < b) (hb : b < 2 ^ 63) : lN a - lN a / lN b * lN b = lN (a % b) := by
  rw [pk_lDiv ha h0 hb, lN_mul, lN_sub (Nat.div_mul_le_self a b)]
  exact congrArg lN (by have := Nat.div_add_mod' a b; omega)
theorem pk_loop {σ : Type} (W : Nat → Nat → σ → Prop) (I : Nat → σ → Prop) (e i0 : Nat) (s : σ) (hi : i0 ≤ e) (h0 : I i0 s) (hx : ∀ n s, I e s → W (n + 1) e s)
    (hs : ∀ n i s, i < e → I i s → (∀ s', I (i + 1) s' → W n (i + 1) s') → W (n + 1) i s) : ∃ n, W n i0 s :=
  ⟨e + 1, loop_i W I e hx hs (e + 1) i0 s hi (by omega) h0⟩
theorem pk_loopD {σ : Type} (W : Nat → Nat → σ → Prop) (I : Nat → σ → Prop) (hx : ∀ n s, I 0 s → W (n + 1) 0 s)
    (hs : ∀ n i s, I (i + 1) s → (∀ s', I i s' → W n i s') → W (n + 1) (i + 1) s) : ∀ (e : Nat) (s : σ), I e s → W (e + 1) e s := by
  intro e
  induction e with
  | zero => exact fun s h => hx 0 s h
  | succ e ih => exact fun s h => hs (e + 1) e s h (fun s' h' => ih s' h')
theorem lp1 {A1 : Type} (W : Nat → A1 → Prop) (I : A1 → Prop) (μ : A1 → Nat) (hs : ∀ (n : Nat) (a1 : A1), I a1 → (∀ (b1 : A1), I b1 → μ b1 < μ a1 → W n b1) → W (n + 1) a1) (a1 : A1) (h : I a1) : ∃ n, W n a1 :=
  loop_m (σ := A1) (fun n s => W n s) (fun s => I s) (fun s => μ s) (fun n s hI hk => hs n s hI (fun b1 h9 hm => hk b1 h9 hm)) a1 h
theorem lp2 {A1 A2 : Type} (W : Nat → A1 → A2 → Prop) (I : A1 → A2 → Prop) (μ : A1 → A2 → Nat) (hs : ∀ (n : Nat) (a1 : A1) (a2 : A2), I a1 a2 → (∀ (b1 : A1) (b2 : A2), I b1 b2 → μ b1 b2 < μ a1 a2 → W n b1 b2) → W (n + 1) a1 a2) (a1 : A1) (a2 : A2) (h : I a1 a2) : ∃ n, W n a1 a2 :=
  loop_m (σ := A1 × A2) (fun n s => W n s.1 s.2) (fun s => I s.1 s.2) (fun s => μ s.1 s.2) (fun n s hI hk => hs n s.1 s.2 hI (fun b1 b2 h9 hm => hk (b1, b2) h9 hm)) (a1, a2) h
theorem lp3 {A1 A2 A3 : Type} (W : Nat → A1 → A2 → A3 → Prop) (I : A1 → A2 → A3 → Prop) (μ : A1 → A2 → A3 → Nat) (hs : ∀ (n : Nat) (a1 : A1) (a2 : A2) (a3 : A3), I a1 a2 a3 → (∀ (b1 : A1) (b2 : A2) (b3 : A3), I b1 b2 b3 → μ b1 b2 b3 < μ a1 a2 a3 → W n b1 b2 b3) → W (n + 1) a1 a2 a3) (a1 : A1) (a2 : A2) (a3 : A3) (h : I a1 a2 a3) : ∃ n, W n a1 a2 a3 :=
  loop_m (σ := A1 × A2 × A3) (fun n s => W n s.1 s.2.1 s.2.2) (fun s => I s.1 s.2.1 s.2.2) (fun s => μ s.1 s.2.1 s.2.2) (fun n s hI hk => hs n s.1 s.2.1 s.2.2 hI (fun b1 b2 b3 h9 hm => hk (b1, b2, b3) h9 hm)) (a1, a2, a3) h
theorem lp4 {A1 A2 A3 A4 : Type} (W : Nat → A1 → A2 → A3 → A4 → Prop) (I : A1 → A2 → A3 → A4 → Prop) (μ : A1 → A2 → A3 → A4 → Nat) (hs : ∀ (n : Nat) (a1 : A1) (a2 : A2) (a3 : A3) (a4 : A4), I a1 a2 a3 a4 → (∀ (b1 : A1) (b2 : A2) (b3 : A3) (b4 : A4), I b1 b2 b3 b4 → μ b1 b2 b3 b4 < μ a1 a2 a3 a4 → W n b1 b2 b3 b4) → W (n + 1) a1 a2 a3 a4) (a1 : A1) (a2 : A2) (a3 : A3) (a4 : A4) (h : I a1 a2 a3 a4) : ∃ n, W n a1 a2 a3 a4 :=
  loop_m (σ := A1 × A2 × A3 × A4) (fun n s => W n s.1 s.2.1 s.2.2.1 s.2.2.2) (fun s => I s.1 s.2.1 s.2.2.1 s.2.2.2) (fun s => μ s.1 s.2.1 s.2.2.1 s.2.2.2) (fun n s hI hk => hs n s.1 s.2.1 s.2.2.1 s.2.2.2 hI (fun b1 b2 b3 b4 h9 hm => hk (b1, b2, b3, b4) h9 hm)) (a1, a2, a3, a4) h
theorem lp5 {A1 A2 A3 A4 A5 : Type} (W : Nat → A1 → A2 → A3 → A4 → A5 → Prop) (I : A1 → A2 → A3 → A4 → A5 → Prop) (μ : A1 → A2 → A3 → A4 → A5 → Nat) (hs : ∀ (n : Nat) (a1 : A1) (a2 : A2) (a3 : A3) (a4 : A4) (a5 : A5), I a1 a2 a3 a4 a5 → (∀ (b1 : A1) (b2 : A2) (b3 : A3) (b4 : A4) (b5 : A5), I b1 b2 b3 b4 b5 → μ b1 b2 b3 b4 b5 < μ a1 a2 a3 a4 a5 → W n b1 b2 b3 b4 b5) → W (n + 1) a1 a2 a3 a4 a5) (a1 : A1) (a2 : A2) (a3 : A3) (a4 : A4) (a5 : A5) (h : I a1 a2 a3 a4 a5) : ∃ n, W n a1 a2 a3 a4 a5 :=
  loop_m (σ := A1 × A2 × A3 × A4 × A5) (fun n s => W n s.1 s.2.1 s.2.2.1 s.2.2.2.1 s.2.2.2.2) (fun s => I s.1 s.2.1 s.2.2.1 s.2.2.2.1 s.2.2.2.2) (fun s => μ s.1 s.2.1 s.2.2.1 s.2.2.2.1 s.2.2.2.2) (fun n s hI hk => hs n s.1 s.2.1 s.2.2.1 s.2.2.2.1 s.2.2.2.2 hI (fun b1 b2 b3 b4 b5 h9 hm => hk (b1, b2, b3, b4, b5) h9 hm)) (a1, a2, a3, a4, a5) h
theorem lp6 {A1 A2 A3 A4 A5 A6 : Type} (W : Nat → A1 → A2 → A3 → A4 → A5 → A6 → Prop) (I : A1 → A2 → A3 → A4 → A5 → A6 → Prop) (μ : A1 → A2 → A3 → A4 → A5 → A6 → Nat) (hs : ∀ (n : Nat) (a1 : A1) (a2 : A2) (a3 : A3) (a4 : A4) (a5 : A5) (a6 : A6), I a1 a2 a3 a4 a5 a6 → (∀ (b1 : A1) (b2 : A2) (b3 : A3) (b4 : A4) (b5 : A5) (b6 : A6), I b1 b2 b3 b4 b5 b6 → μ b1 b2 b3 b4 b5 b6 < μ a1 a2 a3 a4 a5 a6 → W n b1 b2 b3 b4 b5 b6) → W (n + 1) a1 a2 a3 a4 a5 a6) (a1 : A1) (a2 : A2) (a3 : A3) (a4 : A4) (a5 : A5) (a6 : A6) (h : I a1 a2 a3 a4 a5 a6) : ∃ n, W n a1 a2 a3 a4 a5 a6 :=
  loop_m (σ := A1 × A2 × A3 × A4 × A5 × A6) (fun n s => W n s.1 s.2.1 s.2.2.1 s.2.2.2.1 s.2.2.2.2.1 s.2.2.2.2.2) (fun s => I s.1 s.2.1 s.2.2.1 s.2.2.2.1 s.2.2.2.2.1 s.2.2.2.2.2) (fun s => μ s.1 s.2.1 s.2.2.1 s.2.2.2.1 s.2.2.2.2.1 s.2.2.2.2.2) (fun n s hI hk => hs n s.1 s.2.1 s.2.2.1 s.2.2.2.1 s.2.2.2.2.1 s.2.2.2.2.2 hI (fun b1 b2 b3 b4 b5 b6 h9 hm => hk (b1, b2, b3, b4, b5, b6) h9 hm)) (a1, a2, a3, a4, a5, a6) h
theorem lp7 {A1 A2 A3 A4 A5 A6 A7 : Type} (W : Nat → A1 → A2 → A3 → A4 → A5 → A6 → A7 → Prop) (I : A1 → A2 → A3 → A4 → A5 → A6 → A7 → Prop) (μ : A1 → A2 → A3 → A4 → A5 → A6 → A7 → Nat) (hs : ∀ (n : Nat) (a1 : A1) (a2 : A2) (a3 : A3) (a4 : A4) (a5 : A5) (a6 : A6) (a7 : A7), I a1 a2 a3 a4 a5 a6 a7 → (∀ (b1 : A1) (b2 : A2) (b3 : A3) (b4 : A4) (b5 : A5) (b6 : A6) (b7 : A7), I b1 b2 b3 b4 b5 b6 b7 → μ b1 b2 b3 b4 b5 b6 b7 < μ a1 a2 a3 a4 a5 a6 a7 → W n b1 b2 b3 b4 b5 b6 b7) → W (n + 1) a1 a2 a3 a4 a5 a6 a7) (a1 : A1) (a2 : A2) (a3 : A3) (a4 : A4) (a5 : A5) (a6 : A6) (a7 : A7) (h : I a1 a2 a3 a4 a5 a6 a7) : ∃ n, W n a1 a2 a3 a4 a5 a6 a7 :=
  loop_m (σ := A1 × A2 × A3 × A4 × A5 × A6 × A7) (fun n s => W n s.1 s.2.1 s.2.2.1 s.2.2.2.1 s.2.2.2.2.1 s.2.2.2.2.2.1 s.2.2.2.2.2.2) (fun s => I s.1 s.2.1 s.2.2.1 s.2.2.2.1 s.2.2.2.2.1 s.2.2.2.2.2.1 s.2.2.2.2.2.2) (fun s => μ s.1 s.2.1 s.2.2.1 s.2.2.2.1 s.2.2.2.2.1 s.2.2.2.2.2.1 s.2.2.2.2.2.2) (fun n s hI hk => hs n s.1 s.2.1 s.2.2.1 s.2.2.2.1 s.2.2.2.2.1 s.2.2.2.2.2.1 s.2.2.2.2.2.2 hI (fun b1 b2 b3 b4 b5 b6 b7 h9 hm => hk (b1, b2, b3, b4, b5, b6, b7) h9 hm)) (a1, a2, a3, a4, a5, a6, a7) h
theorem lp8 {A1 A2 A3 A4 A5 A6 A7 A8 : Type} (W : Nat → A1 → A2 → A3 → A4 → A5 → A6 → A7 → A8 → Prop) (I : A1 → A2 → A3 → A4 → A5 → A6 → A7 → A8 → Prop) (μ : A1 → A2 → A3 → A4 → A5 → A6 → A7 → A8 → Nat) (hs : ∀ (n : Nat) (a1 : A1) (a2 : A2) (a3 : A3) (a4 : A4) (a5 : A5) (a6 : A6) (a7 : A7) (a8 : A8), I a1 a2 a3 a4 a5 a6 a7 a8 → (∀ (b1 : A1) (b2 : A2) (b3 : A3) (b4 : A4) (b5 : A5) (b6 : A6) (b7 : A7) (b8 : A8), I b1 b2 b3 b4 b5 b6 b7 b8 → μ b1 b2 b3 b4 b5 b6 b7 b8 < μ a1 a2 a3 a4 a5 a6 a7 a8 → W n b1 b2 b3 b4 b5 b6 b7 b8) → W (n + 1) a1 a2 a3 a4 a5 a6 a7 a8) (a1 : A1) (a2 : A2) (a3 : A3) (a4 : A4) (a5 : A5) (a6 : A6) (a7 : A7) (a8 : A8) (h : I a1 a2 a3 a4 a5 a6 a7 a8) : ∃ n, W n a1 a2 a3 a4 a5 a6 a7 a8 :=
  loop_m (σ := A1 × A2 × A3 × A4 × A5 × A6 × A7 × A8) (fun n s => W n s.1 s.2.1 s.2.2.1 s.2.2.2.1 s.2.2.2.2.1 s.2.2.2.2.2.1 s.2.2.2.2.2.2.1 s.2.2.2.2.2.2.2) (fun s => I s.1 s.2.1 s.2.2.1 s.2.2.2.1 s.2.2.2.2.1 s.2.2.2.2.2.1 s.2.2.2.2.2.2.1 s.2.2.2.2.2.2.2) (fun s => μ s.1 s.2.1 s.2.2.1 s.2.2.2.1 s.2.2.2.2.1 s.2.2.2.2.2.1 s.2.2.2.2.2.2.1 s.2.2.2.2.2.2.2) (fun n s hI hk => hs n s.1 s.2.1 s.2.2.1 s.2.2.2.1 s.2.2.2.2.1 s.2.2.2.2.2.1 s.2.2.2.2.2.2.1 s.2.2.2.2.2.2.2 hI (fun b1 b2 b3 b4 b5 b6 b7 b8 h9 hm => hk (b1, b2, b3, b4, b5, b6, b7, b8) h9 hm)) (a1, a2, a3, a4, a5, a6, a7, a8) h
theorem lp9 {A1 A2 A3 A4 A5 A6 A7 A8 A9 : Type} (W : Nat → A1 → A2 → A3 → A4 → A5 → A6 → A7 → A8 → A9 → Prop) (I : A1 → A2 → A3 → A4 → A5 → A6 → A7 → A8 → A9 → Prop) (μ : A1 → A2 → A3 → A4 → A5 → A6 → A7 → A8 → A9 → Nat) (hs : ∀ (n : Nat) (a1 : A1) (a2 : A2) (a3 : A3) (a4 : A4) (a5 : A5) (a6 : A6) (a7 : A7) (a8 : A8) (a9 : A9), I a1 a2 a3 a4 a5 a6 a7 a8 a9 → (∀ (b1 : A1) (b2 : A2) (b3 : A3) (b4 : A4) (b5 : A5) (b6 : A6) (b7 : A7) (b8 : A8) (b9 : A9), I b1 b2 b3 b4 b5 b6 b7 b8 b9 → μ b1 b2 b3 b4 b5 b6 b7 b8 b9 < μ a1 a2 a3 a4 a5 a6 a7 a8 a9 → W n b1 b2 b3 b4 b5 b6 b7 b8 b9) → W (n + 1) a1 a2 a3 a4 a5 a6 a7 a8 a9) (a1 : A1) (a2 : A2) (a3 : A3) (a4 : A4) (a5 : A5) (a6 : A6) (a7 : A7) (a8 : A8) (a9 : A9) (h : I a1 a2 a3 a4 a5 a6 a7 a8 a9) : ∃ n, W n a1 a2 a3 a4 a5 a6 a7 a8 a9 :=
  loop_m (σ := A1 × A2 × A3 × A4 × A5 × A6 × A7 × A8 × A9) (fun n s => W n s.1 s.2.1 s.2.2.1 s.2.2.2.1 s.2.2.2.2.1 s.2.2.2.2.2.1 s.2.2.2.2.2.2.1 s.2.2.2.2.2.2.2.1 s.2.2.2.2.2.2.2.2) (fun s => I s.1 s.2.1 s.2.2.1 s.2.2.2.1 s.2.2.2.2.1 s.2.2.2.2.2.1 s.2.2.2.2.2.2.1 s.2.2.2.2.2.2.2.1 s.2.2.2.2.2.2.2.2) (fun s => μ s.1 s.2.1 s.2.2.1 s.2.2.2.1 s.2.2.2.2.1 s.2.2.2.2.2.1 s.2.2.2.2.2.2.1 s.2.2.2.2.2.2.2.1 s.2.2.2.2.2.2.2.2) (fun n s hI hk => hs n s.1 s.2.1 s.2.2.1 s.2.2.2.1 s.2.2.2.2.1 s.2.2.2.2.2.1 s.2.2.2.2.2.2.1 s.2.2.2.2.2.2.2.1 s.2.2.2.2.2.2.2.2 hI (fun b1 b2 b3 b4 b5 b6 b7 b8 b9 h9 hm => hk (b1, b2, b3, b4, b5, b6, b7, b8, b9) h9 hm)) (a1, a2, a3, a4, a5, a6, a7, a8, a9) h
theorem lp10 {A1 A2 A3 A4 A5 A6 A7 A8 A9 A10 : Type} (W : Nat → A1 → A2 → A3 → A4 → A5 → A6 → A7 → A8 → A9 → A10 → Prop) (I : A1 → A2 → A3 → A4 → A5 → A6 → A7 → A8 → A9 → A10 → Prop) (μ : A1 → A2 → A3 → A4 → A5 → A6 → A7 → A8 → A9 → A10 → Nat) (hs : ∀ (n : Nat) (a1 : A1) (a2 : A2) (a3 : A3) (a4 : A4) (a5 : A5) (a6 : A6) (a7 : A7) (a8 : A8) (a9 : A9) (a10 : A10), I a1 a2 a3 a4 a5 a6 a7 a8 a9 a10 → (∀ (b1 : A1) (b2 : A2) (b3 : A3) (b4 : A4) (b5 : A5) (b6 : A6) (b7 : A7) (b8 : A8) (b9 : A9) (b10 : A10), I b1 b2 b3 b4 b5 b6 b7 b8 b9 b10 → μ b1 b2 b3 b4 b5 b6 b7 b8 b9 b10 < μ a1 a2 a3 a4 a5 a6 a7 a8 a9 a10 → W n b1 b2 b3 b4 b5 b6 b7 b8 b9 b10) → W (n + 1) a1 a2 a3 a4 a5 a6 a7 a8 a9 a10) (a1 : A1) (a2 : A2) (a3 : A3) (a4 : A4) (a5 : A5) (a6 : A6) (a7 : A7) (a8 : A8) (a9 : A9) (a10 : A10) (h : I a1 a2 a3 a4 a5 a6 a7 a8 a9 a10) : ∃ n, W n a1 a2 a3 a4 a5 a6 a7 a8 a9 a10 :=
  loop_m (σ := A1 × A2 × A3 × A4 × A5 × A6 × A7 × A8 × A9 × A10) (fun n s => W n s.1 s.2.1 s.2.2.1 s.2.2.2.1 s.2.2.2.2.1 s.2.2.2.2.2.1 s.2.2.2.2.2.2.1 s.2.2.2.2.2.2.2.1 s.2.2.2.2.2.2.2.2.1 s.2.2.2.2.2.2.2.2.2) (fun s => I s.1 s.2.1 s.2.2.1 s.2.2.2.1 s.2.2.2.2.1 s.2.2.2.2.2.1 s.2.2.2.2.2.2.1 s.2.2.2.2.2.2.2.1 s.2.2.2.2.2.2.2.2.1 s.2.2.2.2.2.2.2.2.2) (fun s => μ s.1 s.2.1 s.2.2.1 s.2.2.2.1 s.2.2.2.2.1 s.2.2.2.2.2.1 s.2.2.2.2.2.2.1 s.2.2.2.2.2.2.2.1 s.2.2.2.2.2.2.2.2.1 s.2.2.2.2.2.2.2.2.2) (fun n s hI hk => hs n s.1 s.2.1 s.2.2.1 s.2.2.2.1 s.2.2.2.2.1 s.2.2.2.2.2.1 s.2.2.2.2.2.2.1 s.2.2.2.2.2.2.2.1 s.2.2.2.2.2.2.2.2.1 s.2.2.2.2.2.2.2.2.2 hI (fun b1 b2 b3 b4 b5 b6 b7 b8 b9 b10 h9 hm => hk (b1, b2, b3, b4, b5, b6, b7, b8, b9, b10) h9 hm)) (a1, a2, a3, a4, a5, a6, a7, a8, a9, a10) h
theorem lp11 {A1 A2 A3 A4 A5 A6 A7 A8 A9 A10 A11 : Type} (W : Nat → A1 → A2 → A3 → A4 → A5 → A6 → A7 → A8 → A9 → A10 → A11 → Prop) (I : A1 → A2 → A3 → A4 → A5 → A6 → A7 → A8 → A9 → A10 → A11 → Prop) (μ : A1 → A2 → A3 → A4 → A5 → A6 → A7 → A8 → A9 → A10 → A11 → Nat) (hs : ∀ (n : Nat) (a1 : A1) (a2 : A2) (a3 : A3) (a4 : A4) (a5 : A5) (a6 : A6) (a7 : A7) (a8 : A8) (a9 : A9) (a10 : A10) (a11 : A11), I a1 a2 a3 a4 a5 a6 a7 a8 a9 a10 a11 → (∀ (b1 : A1) (b2 : A2) (b3 : A3) (b4 : A4) (b5 : A5) (b6 : A6) (b7 : A7) (b8 : A8) (b9 : A9) (b10 : A10) (b11 : A11), I b1 b2 b3 b4 b5 b6 b7 b8 b9 b10 b11 → μ b1 b2 b3 b4 b5 b6 b7 b8 b9 b10 b11 < μ a1 a2 a3 a4 a5 a6 a7 a8 a9 a10 a11 → W n b1 b2 b3 b4 b5 b6 b7 b8 b9 b10 b11) → W (n + 1) a1 a2 a3 a4 a5 a6 a7 a8 a9 a10 a11) (a1 : A1) (a2 : A2) (a3 : A3) (a4 : A4) (a5 : A5) (a6 : A6) (a7 : A7) (a8 : A8) (a9 : A9) (a10 : A10) (a11 : A11) (h : I a1 a2 a3 a4 a5 a6 a7 a8 a9 a10 a11) : ∃ n, W n a1 a2 a3 a4 a5 a6 a7 a8 a9 a10 a11 :=
  loop_m (σ := A1 × A2 × A3 × A4 × A5 × A6 × A7 × A8 × A9 × A10 × A11) (fun n s => W n s.1 s.2.1 s.2.2.1 s.2.2.2.1 s.2.2.2.2.1 s.2.2.2.2.2.1 s.2.2.2.2.2.2.1 s.2.2.2.2.2.2.2.1 s.2.2.2.2.2.2.2.2.1 s.2.2.2.2.2.2.2.2.2.1 s.2.2.2.2.2.2.2.2.2.2) (fun s => I s.1 s.2.1 s.2.2.1 s.2.2.2.1 s.2.2.2.2.1 s.2.2.2.2.2.1 s.2.2.2.2.2.2.1 s.2.2.2.2.2.2.2.1 s.2.2.2.2.2.2.2.2.1 s.2.2.2.2.2.2.2.2.2.1 s.2.2.2.2.2.2.2.2.2.2) (fun s => μ s.1 s.2.1 s.2.2.1 s.2.2.2.1 s.2.2.2.2.1 s.2.2.2.2.2.1 s.2.2.2.2.2.2.1 s.2.2.2.2.2.2.2.1 s.2.2.2.2.2.2.2.2.1 s.2.2.2.2.2.2.2.2.2.1 s.2.2.2.2.2.2.2.2.2.2) (fun n s hI hk => hs n s.1 s.2.1 s.2.2.1 s.2.2.2.1 s.2.2.2.2.1 s.2.2.2.2.2.1 s.2.2.2.2.2.2.1 s.2.2.2.2.2.2.2.1 s.2.2.2.2.2.2.2.2.1 s.2.2.2.2.2.2.2.2.2.1 s.2.2.2.2.2.2.2.2.2.2 hI (fun b1 b2 b3 b4 b5 b6 b7 b8 b9 b10 b11 h9 hm => hk (b1, b2, b3, b4, b5, b6, b7, b8, b9, b10, b11) h9 hm)) (a1, a2, a3, a4, a5, a6, a7, a8, a9, a10, a11) h
theorem lp12 {A1 A2 A3 A4 A5 A6 A7 A8 A9 A10 A11 A12 : Type} (W : Nat → A1 → A2 → A3 → A4 → A5 → A6 → A7 → A8 → A9 → A10 → A11 → A12 → Prop) (I : A1 → A2 → A3 → A4 → A5 → A6 → A7 → A8 → A9 → A10 → A11 → A12 → Prop) (μ : A1 → A2 → A3 → A4 → A5 → A6 → A7 → A8 → A9 → A10 → A11 → A12 → Nat) (hs : ∀ (n : Nat) (a1 : A1) (a2 : A2) (a3 : A3) (a4 : A4) (a5 : A5) (a6 : A6) (a7 : A7) (a8 : A8) (a9 : A9) (a10 : A10) (a11 : A11) (a12 : A12), I a1 a2 a3 a4 a5 a6 a7 a8 a9 a10 a11 a12 → (∀ (b1 : A1) (b2 : A2) (b3 : A3) (b4 : A4) (b5 : A5) (b6 : A6) (b7 : A7) (b8 : A8) (b9 : A9) (b10 : A10) (b11 : A11) (b12 : A12), I b1 b2 b3 b4 b5 b6 b7 b8 b9 b10 b11 b12 → μ b1 b2 b3 b4 b5 b6 b7 b8 b9 b10 b11 b12 < μ a1 a2 a3 a4 a5 a6 a7 a8 a9 a10 a11 a12 → W n b1 b2 b3 b4 b5 b6 b7 b8 b9 b10 b11 b12) → W (n + 1) a1 a2 a3 a4 a5 a6 a7 a8 a9 a10 a11 a12) (a1 : A1) (a2 : A2) (a3 : A3) (a4 : A4) (a5 : A5) (a6 : A6) (a7 : A7) (a8 : A8) (a9 : A9) (a10 : A10) (a11 : A11) (a12 : A12) (h : I a1 a2 a3 a4 a5 a6 a7 a8 a9 a10 a11 a12) : ∃ n, W n a1 a2 a3 a4 a5 a6 a7 a8 a9 a10 a11 a12 :=
  loop_m (σ := A1 × A2 × A3 × A4 × A5 × A6 × A7 × A8 × A9 × A10 × A11 × A12) (fun n s => W n s.1 s.2.1 s.2.2.1 s.2.2.2.1 s.2.2.2.2.1 s.2.2.2.2.2.1 s.2.2.2.2.2.2.1 s.2.2.2.2.2.2.2.1 s.2.2.2.2.2.2.2.2.1 s.2.2.2.2.2.2.2.2.2.1 s.2.2.2.2.2.2.2.2.2.2.1 s.2.2.2.2.2.2.2.2.2.2.2) (fun s => I s.1 s.2.1 s.2.2.1 s.2.2.2.1 s.2.2.2.2.1 s.2.2.2.2.2.1 s.2.2.2.2.2.2.1 s.2.2.2.2.2.2.2.1 s.2.2.2.2.2.2.2.2.1 s.2.2.2.2.2.2.2.2.2.1 s.2.2.2.2.2.2.2.2.2.2.1 s.2.2.2.2.2.2.2.2.2.2.2) (fun s => μ s.1 s.2.1 s.2.2.1 s.2.2.2.1 s.2.2.2.2.1 s.2.2.2.2.2.1 s.2.2.2.2.2.2.1 s.2.2.2.2.2.2.2.1 s.2.2.2.2.2.2.2.2.1 s.2.2.2.2.2.2.2.2.2.1 s.2.2.2.2.2.2.2.2.2.2.1 s.2.2.2.2.2.2.2.2.2.2.2) (fun n s hI hk => hs n s.1 s.2.1 s.2.2.1 s.2.2.2.1 s.2.2.2.2.1 s.2.2.2.2.2.1 s.2.2.2.2.2.2.1 s.2.2.2.2.2.2.2.1 s.2.2.2.2.2.2.2.2.1 s.2.2.2.2.2.2.2.2.2.1 s.2.2.2.2.2.2.2.2.2.2.1 s.2.2.2.2.2.2.2.2.2.2.2 hI (fun b1 b2 b3 b4 b5 b6 b7 b8 b9 b10 b11 b12 h9 hm => hk (b1, b2, b3, b4, b5, b6, b7, b8, b9, b10, b11, b12) h9 hm)) (a1, a2, a3, a4, a5, a6, a7, a8, a9, a10, a11, a12) h
theorem lp13 {A1 A2 A3 A4 A5 A6 A7 A8 A9 A10 A11 A12 A13 : Type} (W : Nat → A1 → A2 → A3 → A4 → A5 → A6 → A7 → A8 → A9 → A10 → A11 → A12 → A13 → Prop) (I : A1 → A2 → A3 → A4 → A5 → A6 → A7 → A8 → A9 → A10 → A11 → A12 → A13 → Prop) (μ : A1 → A2 → A3 → A4 → A5 → A6 → A7 → A8 → A9 → A10 → A11 → A12 → A13 → Nat) (hs : ∀ (n : Nat) (a1 : A1) (a2 : A2) (a3 : A3) (a4 : A4) (a5 : A5) (a6 : A6) (a7 : A7) (a8 : A8) (a9 : A9) (a10 : A10) (a11 : A11) (a12 : A12) (a13 : A13), I a1 a2 a3 a4 a5 a6 a7 a8 a9 a10 a11 a12 a13 → (∀ (b1 : A1) (b2 : A2) (b3 : A3) (b4 : A4) (b5 : A5) (b6 : A6) (b7 : A7) (b8 : A8) (b9 : A9) (b10 : A10) (b11 : A11) (b12 : A12) (b13 : A13), I b1 b2 b3 b4 b5 b6 b7 b8 b9 b10 b11 b12 b13 → μ b1 b2 b3 b4 b5 b6 b7 b8 b9 b10 b11 b12 b13 < μ a1 a2 a3 a4 a5 a6 a7 a8 a9 a10 a11 a12 a13 → W n b1 b2 b3 b4 b5 b6 b7 b8 b9 b10 b11 b12 b13) → W (n + 1) a1 a2 a3 a4 a5 a6 a7 a8 a9 a10 a11 a12 a13) (a1 : A1) (a2 : A2) (a3 : A3) (a4 : A4) (a5 : A5) (a6 : A6) (a7 : A7) (a8 : A8) (a9 : A9) (a10 : A10) (a11 : A11) (a12 : A12) (a13 : A13) (h : I a1 a2 a3 a4 a5 a6 a7 a8 a9 a10 a11 a12 a13) : ∃ n, W n a1 a2 a3 a4 a5 a6 a7 a8 a9 a10 a11 a12 a13 :=
  loop_m (σ := A1 × A2 × A3 × A4 × A5 × A6 × A7 × A8 × A9 × A10 × A11 × A12 × A13) (fun n s => W n s.1 s.2.1 s.2.2.1 s.2.2.2.1 s.2.2.2.2.1 s.2.2.2.2.2.1 s.2.2.2.2.2.2.1 s.2.2.2.2.2.2.2.1 s.2.2.2.2.2.2.2.2.1 s.2.2.2.2.2.2.2.2.2.1 s.2.2.2.2.2.2.2.2.2.2.1 s.2.2.2.2.2.2.2.2.2.2.2.1 s.2.2.2.2.2.2.2.2.2.2.2.2) (fun s => I s.1 s.2.1 s.2.2.1 s.2.2.2.1 s.2.2.2.2.1 s.2.2.2.2.2.1 s.2.2.2.2.2.2.1 s.2.2.2.2.2.2.2.1 s.2.2.2.2.2.2.2.2.1 s.2.2.2.2.2.2.2.2.2.1 s.2.2.2.2.2.2.2.2.2.2.1 s.2.2.2.2.2.2.2.2.2.2.2.1 s.2.2.2.2.2.2.2.2.2.2.2.2) (fun s => μ s.1 s.2.1 s.2.2.1 s.2.2.2.1 s.2.2.2.2.1 s.2.2.2.2.2.1 s.2.2.2.2.2.2.1 s.2.2.2.2.2.2.2.1 s.2.2.2.2.2.2.2.2.1 s.2.2.2.2.2.2.2.2.2.1 s.2.2.2.2.2.2.2.2.2.2.1 s.2.2.2.2.2.2.2.2.2.2.2.1 s.2.2.2.2.2.2.2.2.2.2.2.2) (fun n s hI hk => hs n s.1 s.2.1 s.2.2.1 s.2.2.2.1 s.2.2.2.2.1 s.2.2.2.2.2.1 s.2.2.2.2.2.2.1 s.2.2.2.2.2.2.2.1 s.2.2.2.2.2.2.2.2.1 s.2.2.2.2.2.2.2.2.2.1 s.2.2.2.2.2.2.2.2.2.2.1 s.2.2.2.2.2.2.2.2.2.2.2.1 s.2.2.2.2.2.2.2.2.2.2.2.2 hI (fun b1 b2 b3 b4 b5 b6 b7 b8 b9 b10 b11 b12 b13 h9 hm => hk (b1, b2, b3, b4, b5, b6, b7, b8, b9, b10, b11, b12, b13) h9 hm)) (a1, a2, a3, a4, a5, a6, a7, a8, a9, a10, a11, a12, a13) h
theorem lp14 {A1 A2 A3 A4 A5 A6 A7 A8 A9 A10 A11 A12 A13 A14 : Type} (W : Nat → A1 → A2 → A3 → A4 → A5 → A6 → A7 → A8 → A9 → A10 → A11 → A12 → A13 → A14 → Prop) (I : A1 → A2 → A3 → A4 → A5 → A6 → A7 → A8 → A9 → A10 → A11 → A12 → A13 → A14 → Prop) (μ : A1 → A2 → A3 → A4 → A5 → A6 → A7 → A8 → A9 → A10 → A11 → A12 → A13 → A14 → Nat) (hs : ∀ (n : Nat) (a1 : A1) (a2 : A2) (a3 : A3) (a4 : A4) (a5 : A5) (a6 : A6) (a7 : A7) (a8 : A8) (a9 : A9) (a10 : A10) (a11 : A11) (a12 : A12) (a13 : A13) (a14 : A14), I a1 a2 a3 a4 a5 a6 a7 a8 a9 a10 a11 a12 a13 a14 → (∀ (b1 : A1) (b2 : A2) (b3 : A3) (b4 : A4) (b5 : A5) (b6 : A6) (b7 : A7) (b8 : A8) (b9 : A9) (b10 : A10) (b11 : A11) (b12 : A12) (b13 : A13) (b14 : A14), I b1 b2 b3 b4 b5 b6 b7 b8 b9 b10 b11 b12 b13 b14 → μ b1 b2 b3 b4 b5 b6 b7 b8 b9 b10 b11 b12 b13 b14 < μ a1 a2 a3 a4 a5 a6 a7 a8 a9 a10 a11 a12 a13 a14 → W n b1 b2 b3 b4 b5 b6 b7 b8 b9 b10 b11 b12 b13 b14) → W (n + 1) a1 a2 a3 a4 a5 a6 a7 a8 a9 a10 a11 a12 a13 a14) (a1 : A1) (a2 : A2) (a3 : A3) (a4 : A4) (a5 : A5) (a6 : A6) (a7 : A7) (a8 : A8) (a9 : A9) (a10 : A10) (a11 : A11) (a12 : A12) (a13 : A13) (a14 : A14) (h : I a1 a2 a3 a4 a5 a6 a7 a8 a9 a10 a11 a12 a13 a14) : ∃ n, W n a1 a2 a3 a4 a5 a6 a7 a8 a9 a10 a11 a12 a13 a14 :=
  loop_m (σ := A1 × A2 × A3 × A4 × A5 × A6 × A7 × A8 × A9 × A10 × A11 × A12 × A13 × A14) (fun n s => W n s.1 s.2.1 s.2.2.1 s.2.2.2.1 s.2.2.2.2.1 s.2.2.2.2.2.1 s.2.2.2.2.2.2.1 s.2.2.2.2.2.2.2.1 s.2.2.2.2.2.2.2.2.1 s.2.2.2.2.2.2.2.2.2.1 s.2.2.2.2.2.2.2.2.2.2.1 s.2.2.2.2.2.2.2.2.2.2.2.1 s.2.2.2.2.2.2.2.2.2.2.2.2.1 s.2.2.2.2.2.2.2.2.2.2.2.2.2) (fun s => I s.1 s.2.1 s.2.2.1 s.2.2.2.1 s.2.2.2.2.1 s.2.2.2.2.2.1 s.2.2.2.2.2.2.1 s.2.2.2.2.2.2.2.1 s.2.2.2.2.2.2.2.2.1 s.2.2.2.2.2.2.2.2.2.1 s.2.2.2.2.2.2.2.2.2.2.1 s.2.2.2.2.2.2.2.2.2.2.2.1 s.2.2.2.2.2.2.2.2.2.2.2.2.1 s.2.2.2.2.2.2.2.2.2.2.2.2.2) (fun s => μ s.1 s.2.1 s.2.2.1 s.2.2.2.1 s.2.2.2.2.1 s.2.2.2.2.2.1 s.2.2.2.2.2.2.1 s.2.2.2.2.2.2.2.1 s.2.2.2.2.2.2.2.2.1 s.2.2.2.2.2.2.2.2.2.1 s.2.2.2.2.2.2.2.2.2.2.1 s.2.2.2.2.2.2.2.2.2.2.2.1 s.2.2.2.2.2.2.2.2.2.2.2.2.1 s.2.2.2.2.2.2.2.2.2.2.2.2.2) (fun n s hI hk => hs n s.1 s.2.1 s.2.2.1 s.2.2.2.1 s.2.2.2.2.1 s.2.2.2.2.2.1 s.2.2.2.2.2.2.1 s.2.2.2.2.2.2.2.1 s.2.2.2.2.2.2.2.2.1 s.2.2.2.2.2.2.2.2.2.1 s.2.2.2.2.2.2.2.2.2.2.1 s.2.2.2.2.2.2.2.2.2.2.2.1 s.2.2.2.2.2.2.2.2.2.2.2.2.1 s.2.2.2.2.2.2.2.2.2.2.2.2.2 hI (fun b1 b2 b3 b4 b5 b6 b7 b8 b9 b10 b11 b12 b13 b14 h9 hm => hk (b1, b2, b3, b4, b5, b6, b7, b8, b9, b10, b11, b12, b13, b14) h9 hm)) (a1, a2, a3, a4, a5, a6, a7, a8, a9, a10, a11, a12, a13, a14) h
theorem lp15 {A1 A2 A3 A4 A5 A6 A7 A8 A9 A10 A11 A12 A13 A14 A15 : Type} (W : Nat → A1 → A2 → A3 → A4 → A5 → A6 → A7 → A8 → A9 → A10 → A11 → A12 → A13 → A14 → A15 → Prop) (I : A1 → A2 → A3 → A4 → A5 → A6 → A7 → A8 → A9 → A10 → A11 → A12 → A13 → A14 → A15 → Prop) (μ : A1 → A2 → A3 → A4 → A5 → A6 → A7 → A8 → A9 → A10 → A11 → A12 → A13 → A14 → A15 → Nat) (hs : ∀ (n : Nat) (a1 : A1) (a2 : A2) (a3 : A3) (a4 : A4) (a5 : A5) (a6 : A6) (a7 : A7) (a8 : A8) (a9 : A9) (a10 : A10) (a11 : A11) (a12 : A12) (a13 : A13) (a14 : A14) (a15 : A15), I a1 a2 a3 a4 a5 a6 a7 a8 a9 a10 a11 a12 a13 a14 a15 → (∀ (b1 : A1) (b2 : A2) (b3 : A3) (b4 : A4) (b5 : A5) (b6 : A6) (b7 : A7) (b8 : A8) (b9 : A9) (b10 : A10) (b11 : A11) (b12 : A12) (b13 : A13) (b14 : A14) (b15 : A15), I b1 b2 b3 b4 b5 b6 b7 b8 b9 b10 b11 b12 b13 b14 b15 → μ b1 b2 b3 b4 b5 b6 b7 b8 b9 b10 b11 b12 b13 b14 b15 < μ a1 a2 a3 a4 a5 a6 a7 a8 a9 a10 a11 a12 a13 a14 a15 → W n b1 b2 b3 b4 b5 b6 b7 b8 b9 b10 b11 b12 b13 b14 b15) → W (n + 1) a1 a2 a3 a4 a5 a6 a7 a8 a9 a10 a11 a12 a13 a14 a15) (a1 : A1) (a2 : A2) (a3 : A3) (a4 : A4) (a5 : A5) (a6 : A6) (a7 : A7) (a8 : A8) (a9 : A9) (a10 : A10) (a11 : A11) (a12 : A12) (a13 : A13) (a14 : A14) (a15 : A15) (h : I a1 a2 a3 a4 a5 a6 a7 a8 a9 a10 a11 a12 a13 a14 a15) : ∃ n, W n a1 a2 a3 a4 a5 a6 a7 a8 a9 a10 a11 a12 a13 a14 a15 :=
  loop_m (σ := A1 × A2 × A3 × A4 × A5 × A6 × A7 × A8 × A9 × A10 × A11 × A12 × A13 × A14 × A15) (fun n s => W n s.1 s.2.1 s.2.2.1 s.2.2.2.1 s.2.2.2.2.1 s.2.2.2.2.2.1 s.2.2.2.2.2.2.1 s.2.2.2.2.2.2.2.1 s.2.2.2.2.2.2.2.2.1 s.2.2.2.2.2.2.2.2.2.1 s.2.2.2.2.2.2.2.2.2.2.1 s.2.2.2.2.2.2.2.2.2.2.2.1 s.2.2.2.2.2.2.2.2.2.2.2.2.1 s.2.2.2.2.2.2.2.2.2.2.2.2.2.1 s.2.2.2.2.2.2.2.2.2.2.2.2.2.2) (fun s => I s.1 s.2.1 s.2.2.1 s.2.2.2.1 s.2.2.2.2.1 s.2.2.2.2.2.1 s.2.2.2.2.2.2.1 s.2.2.2.2.2.2.2.1 s.2.2.2.2.2.2.2.2.1 s.2.2.2.2.2.2.2.2.2.1 s.2.2.2.2.2.2.2.2.2.2.1 s.2.2.2.2.2.2.2.2.2.2.2.1 s.2.2.2.2.2.2.2.2.2.2.2.2.1 s.2.2.2.2.2.2.2.2.2.2.2.2.2.1 s.2.2.2.2.2.2.2.2.2.2.2.2.2.2) (fun s => μ s.1 s.2.1 s.2.2.1 s.2.2.2.1 s.2.2.2.2.1 s.2.2.2.2.2.1 s.2.2.2.2.2.2.1 s.2.2.2.2.2.2.2.1 s.2.2.2.2.2.2.2.2.1 s.2.2.2.2.2.2.2.2.2.1 s.2.2.2.2.2.2.2.2.2.2.1 s.2.2.2.2.2.2.2.2.2.2.2.1 s.2.2.2.2.2.2.2.2.2.2.2.2.1 s.2.2.2.2.2.2.2.2.2.2.2.2.2.1 s.2.2.2.2.2.2.2.2.2.2.2.2.2.2) (fun n s hI hk => hs n s.1 s.2.1 s.2.2.1 s.2.2.2.1 s.2.2.2.2.1 s.2.2.2.2.2.1 s.2.2.2.2.2.2.1 s.2.2.2.2.2.2.2.1 s.2.2.2.2.2.2.2.2.1 s.2.2.2.2.2.2.2.2.2.1 s.2.2.2.2.2.2.2.2.2.2.1 s.2.2.2.2.2.2.2.2.2.2.2.1 s.2.2.2.2.2.2.2.2.2.2.2.2.1 s.2.2.2.2.2.2.2.2.2.2.2.2.2.1 s.2.2.2.2.2.2.2.2.2.2.2.2.2.2 hI (fun b1 b2 b3 b4 b5 b6 b7 b8 b9 b10 b11 b12 b13 b14 b15 h9 hm => hk (b1, b2, b3, b4, b5, b6, b7, b8, b9, b10, b11, b12, b13, b14, b15) h9 hm)) (a1, a2, a3, a4, a5, a6, a7, a8, a9, a10, a11, a12, a13, a14, a15) h
theorem lp16 {A1 A2 A3 A4 A5 A6 A7 A8 A9 A10 A11 A12 A13 A14 A15 A16 : Type} (W : Nat → A1 → A2 → A3 → A4 → A5 → A6 → A7 → A8 → A9 → A10 → A11 → A12 → A13 → A14 → A15 → A16 → Prop) (I : A1 → A2 → A3 → A4 → A5 → A6 → A7 → A8 → A9 → A10 → A11 → A12 → A13 → A14 → A15 → A16 → Prop) (μ : A1 → A2 → A3 → A4 → A5 → A6 → A7 → A8 → A9 → A10 → A11 → A12 → A13 → A14 → A15 → A16 → Nat) (hs : ∀ (n : Nat) (a1 : A1) (a2 : A2) (a3 : A3) (a4 : A4) (a5 : A5) (a6 : A6) (a7 : A7) (a8 : A8) (a9 : A9) (a10 : A10) (a11 : A11) (a12 : A12) (a13 : A13) (a14 : A14) (a15 : A15) (a16 : A16), I a1 a2 a3 a4 a5 a6 a7 a8 a9 a10 a11 a12 a13 a14 a15 a16 → (∀ (b1 : A1) (b2 : A2) (b3 : A3) (b4 : A4) (b5 : A5) (b6 : A6) (b7 : A7) (b8 : A8) (b9 : A9) (b10 : A10) (b11 : A11) (b12 : A12) (b13 : A13) (b14 : A14) (b15 : A15) (b16 : A16), I b1 b2 b3 b4 b5 b6 b7 b8 b9 b10 b11 b12 b13 b14 b15 b16 → μ b1 b2 b3 b4 b5 b6 b7 b8 b9 b10 b11 b12 b13 b14 b15 b16 < μ a1 a2 a3 a4 a5 a6 a7 a8 a9 a10 a11 a12 a13 a14 a15 a16 → W n b1 b2 b3 b4 b5 b6 b7 b8 b9 b10 b11 b12 b13 b14 b15 b16) → W (n + 1) a1 a2 a3 a4 a5 a6 a7 a8 a9 a10 a11 a12 a13 a14 a15 a16) (a1 : A1) (a2 : A2) (a3 : A3) (a4 : A4) (a5 : A5) (a6 : A6) (a7 : A7) (a8 : A8) (a9 : A9) (a10 : A10) (a11 : A11) (a12 : A12) (a13 : A13) (a14 : A14) (a15 : A15) (a16 : A16) (h : I a1 a2 a3 a4 a5 a6 a7 a8 a9 a10 a11 a12 a13 a14 a15 a16) : ∃ n, W n a1 a2 a3 a4 a5 a6 a7 a8 a9 a10 a11 a12 a13 a14 a15 a16 :=
  loop_m (σ := A1 × A2 × A3 × A4 × A5 × A6 × A7 × A8 × A9 × A10 × A11 × A12 × A13 × A14 × A15 × A16) (fun n s => W n s.1 s.2.1 s.2.2.1 s.2.2.2.1 s.2.2.2.2.1 s.2.2.2.2.2.1 s.2.2.2.2.2.2.1 s.2.2.2.2.2.2.2.1 s.2.2.2.2.2.2.2.2.1 s.2.2.2.2.2.2.2.2.2.1 s.2.2.2.2.2.2.2.2.2.2.1 s.2.2.2.2.2.2.2.2.2.2.2.1 s.2.2.2.2.2.2.2.2.2.2.2.2.1 s.2.2.2.2.2.2.2.2.2.2.2.2.2.1 s.2.2.2.2.2.2.2.2.2.2.2.2.2.2.1 s.2.2.2.2.2.2.2.2.2.2.2.2.2.2.2) (fun s => I s.1 s.2.1 s.2.2.1 s.2.2.2.1 s.2.2.2.2.1 s.2.2.2.2.2.1 s.2.2.2.2.2.2.1 s.2.2.2.2.2.2.2.1 s.2.2.2.2.2.2.2.2.1 s.2.2.2.2.2.2.2.2.2.1 s.2.2.2.2.2.2.2.2.2.2.1 s.2.2.2.2.2.2.2.2.2.2.2.1 s.2.2.2.2.2.2.2.2.2.2.2.2.1 s.2.2.2.2.2.2.2.2.2.2.2.2.2.1 s.2.2.2.2.2.2.2.2.2.2.2.2.2.2.1 s.2.2.2.2.2.2.2.2.2.2.2.2.2.2.2) (fun s => μ s.1 s.2.1 s.2.2.1 s.2.2.2.1 s.2.2.2.2.1 s.2.2.2.2.2.1 s.2.2.2.2.2.2.1 s.2.2.2.2.2.2.2.1 s.2.2.2.2.2.2.2.2.1 s.2.2.2.2.2.2.2.2.2.1 s.2.2.2.2.2.2.2.2.2.2.1 s.2.2.2.2.2.2.2.2.2.2.2.1 s.2.2.2.2.2.2.2.2.2.2.2.2.1 s.2.2.2.2.2.2.2.2.2.2.2.2.2.1 s.2.2.2.2.2.2.2.2.2.2.2.2.2.2.1 s.2.2.2.2.2.2.2.2.2.2.2.2.2.2.2) (fun n s hI hk => hs n s.1 s.2.1 s.2.2.1 s.2.2.2.1 s.2.2.2.2.1 s.2.2.2.2.2.1 s.2.2.2.2.2.2.1 s.2.2.2.2.2.2.2.1 s.2.2.2.2.2.2.2.2.1 s.2.2.2.2.2.2.2.2.2.1 s.2.2.2.2.2.2.2.2.2.2.1 s.2.2.2.2.2.2.2.2.2.2.2.1 s.2.2.2.2.2.2.2.2.2.2.2.2.1 s.2.2.2.2.2.2.2.2.2.2.2.2.2.1 s.2.2.2.2.2.2.2.2.2.2.2.2.2.2.1 s.2.2.2.2.2.2.2.2.2.2.2.2.2.2.2 hI (fun b1 b2 b3 b4 b5 b6 b7 b8 b9 b10 b11 b12 b13 b14 b15 b16 h9 hm => hk (b1, b2, b3, b4, b5, b6, b7, b8, b9, b10, b11, b12, b13, b14, b15, b16) h9 hm)) (a1, a2, a3, a4, a5, a6, a7, a8, a9, a10, a11, a12, a13, a14, a15, a16) h
theorem pk_least (P : Nat → Prop) (h : ∃ k, P k) : ∃ k, P k ∧ ∀ j, j < k → ¬ P j := by
  obtain ⟨k, hk⟩ := h
  induction k using Nat.strongRecOn with
  | ind k ih =>
    by_cases e : ∃ j, j < k ∧ P j
    · obtain ⟨j, hj, pj⟩ := e
      exact ih j hj pj
    · exact ⟨k, hk, fun j hj pj => e ⟨j, hj, pj⟩⟩
theorem rp1 {ρ A1 : Type} (W : Nat → (ρ → Prop) → A1 → Prop) (ok : A1 → Prop) (μ : A1 → Nat) (val : A1 → ρ)
    (hs : ∀ (d : Nat) (post : ρ → Prop) (a1 : A1), ok a1 → post (val a1) → (∀ (post' : ρ → Prop) (b1 : A1), ok b1 → μ b1 < μ a1 → post' (val b1) → W d post' b1) → W (d + 1) post a1) :
    ∀ (d : Nat) (post : ρ → Prop) (a1 : A1), ok a1 → μ a1 < d → post (val a1) → W d post a1 := by
  intro d
  induction d with
  | zero => intro post a1 _ h; omega
  | succ d ih =>
    intro post a1 ho hm hp
    exact hs d post a1 ho hp (fun post' b1 ho' hm' hp' => ih post' b1 ho' (by omega) hp')
theorem rp2 {ρ A1 A2 : Type} (W : Nat → (ρ → Prop) → A1 → A2 → Prop) (ok : A1 → A2 → Prop) (μ : A1 → A2 → Nat) (val : A1 → A2 → ρ)
    (hs : ∀ (d : Nat) (post : ρ → Prop) (a1 : A1) (a2 : A2), ok a1 a2 → post (val a1 a2) → (∀ (post' : ρ → Prop) (b1 : A1) (b2 : A2), ok b1 b2 → μ b1 b2 < μ a1 a2 → post' (val b1 b2) → W d post' b1 b2) → W (d + 1) post a1 a2) :
    ∀ (d : Nat) (post : ρ → Prop) (a1 : A1) (a2 : A2), ok a1 a2 → μ a1 a2 < d → post (val a1 a2) → W d post a1 a2 := by
  intro d
  induction d with
  | zero => intro post a1 a2 _ h; omega
  | succ d ih =>
    intro post a1 a2 ho hm hp
    exact hs d post a1 a2 ho hp (fun post' b1 b2 ho' hm' hp' => ih post' b1 b2 ho' (by omega) hp')
theorem rp3 {ρ A1 A2 A3 : Type} (W : Nat → (ρ → Prop) → A1 → A2 → A3 → Prop) (ok : A1 → A2 → A3 → Prop) (μ : A1 → A2 → A3 → Nat) (val : A1 → A2 → A3 → ρ)
    (hs : ∀ (d : Nat) (post : ρ → Prop) (a1 : A1) (a2 : A2) (a3 : A3), ok a1 a2 a3 → post (val a1 a2 a3) → (∀ (post' : ρ → Prop) (b1 : A1) (b2 : A2) (b3 : A3), ok b1 b2 b3 → μ b1 b2 b3 < μ a1 a2 a3 → post' (val b1 b2 b3) → W d post' b1 b2 b3) → W (d + 1) post a1 a2 a3) :
    ∀ (d : Nat) (post : ρ → Prop) (a1 : A1) (a2 : A2) (a3 : A3), ok a1 a2 a3 → μ a1 a2 a3 < d → post (val a1 a2 a3) → W d post a1 a2 a3 := by
  intro d
  induction d with
  | zero => intro post a1 a2 a3 _ h; omega
  | succ d ih =>
    intro post a1 a2 a3 ho hm hp
    exact hs d post a1 a2 a3 ho hp (fun post' b1 b2 b3 ho' hm' hp' => ih post' b1 b2 b3 ho' (by omega) hp')
theorem rp4 {ρ A1 A2 A3 A4 : Type} (W : Nat → (ρ → Prop) → A1 → A2 → A3 → A4 → Prop) (ok : A1 → A2 → A3 → A4 → Prop) (μ : A1 → A2 → A3 → A4 → Nat) (val : A1 → A2 → A3 → A4 → ρ)
    (hs : ∀ (d : Nat) (post : ρ → Prop) (a1 : A1) (a2 : A2) (a3 : A3) (a4 : A4), ok a1 a2 a3 a4 → post (val a1 a2 a3 a4) → (∀ (post' : ρ → Prop) (b1 : A1) (b2 : A2) (b3 : A3) (b4 : A4), ok b1 b2 b3 b4 → μ b1 b2 b3 b4 < μ a1 a2 a3 a4 → post' (val b1 b2 b3 b4) → W d post' b1 b2 b3 b4) → W (d + 1) post a1 a2 a3 a4) :
    ∀ (d : Nat) (post : ρ → Prop) (a1 : A1) (a2 : A2) (a3 : A3) (a4 : A4), ok a1 a2 a3 a4 → μ a1 a2 a3 a4 < d → post (val a1 a2 a3 a4) → W d post a1 a2 a3 a4 := by
  intro d
  induction d with
  | zero => intro post a1 a2 a3 a4 _ h; omega
  | succ d ih =>
    intro post a1 a2 a3 a4 ho hm hp
    exact hs d post a1 a2 a3 a4 ho hp (fun post' b1 b2 b3 b4 ho' hm' hp' => ih post' b1 b2 b3 b4 ho' (by omega) hp')
theorem rp5 {ρ A1 A2 A3 A4 A5 : Type} (W : Nat → (ρ → Prop) → A1 → A2 → A3 → A4 → A5 → Prop) (ok : A1 → A2 → A3 → A4 → A5 → Prop) (μ : A1 → A2 → A3 → A4 → A5 → Nat) (val : A1 → A2 → A3 → A4 → A5 → ρ)
    (hs : ∀ (d : Nat) (post : ρ → Prop) (a1 : A1) (a2 : A2) (a3 : A3) (a4 : A4) (a5 : A5), ok a1 a2 a3 a4 a5 → post (val a1 a2 a3 a4 a5) → (∀ (post' : ρ → Prop) (b1 : A1) (b2 : A2) (b3 : A3) (b4 : A4) (b5 : A5), ok b1 b2 b3 b4 b5 → μ b1 b2 b3 b4 b5 < μ a1 a2 a3 a4 a5 → post' (val b1 b2 b3 b4 b5) → W d post' b1 b2 b3 b4 b5) → W (d + 1) post a1 a2 a3 a4 a5) :
    ∀ (d : Nat) (post : ρ → Prop) (a1 : A1) (a2 : A2) (a3 : A3) (a4 : A4) (a5 : A5), ok a1 a2 a3 a4 a5 → μ a1 a2 a3 a4 a5 < d → post (val a1 a2 a3 a4 a5) → W d post a1 a2 a3 a4 a5 := by
  intro d
  induction d with
  | zero => intro post a1 a2 a3 a4 a5 _ h; omega
  | succ d ih =>
    intro post a1 a2 a3 a4 a5 ho hm hp
    exact hs d post a1 a2 a3 a4 a5 ho hp (fun post' b1 b2 b3 b4 b5 ho' hm' hp' => ih post' b1 b2 b3 b4 b5 ho' (by omega) hp')
theorem rp6 {ρ A1 A2 A3 A4 A5 A6 : Type} (W : Nat → (ρ → Prop) → A1 → A2 → A3 → A4 → A5 → A6 → Prop) (ok : A1 → A2 → A3 → A4 → A5 → A6 → Prop) (μ : A1 → A2 → A3 → A4 → A5 → A6 → Nat) (val : A1 → A2 → A3 → A4 → A5 → A6 → ρ)
    (hs : ∀ (d : Nat) (post : ρ → Prop) (a1 : A1) (a2 : A2) (a3 : A3) (a4 : A4) (a5 : A5) (a6 : A6), ok a1 a2 a3 a4 a5 a6 → post (val a1 a2 a3 a4 a5 a6) → (∀ (post' : ρ → Prop) (b1 : A1) (b2 : A2) (b3 : A3) (b4 : A4) (b5 : A5) (b6 : A6), ok b1 b2 b3 b4 b5 b6 → μ b1 b2 b3 b4 b5 b6 < μ a1 a2 a3 a4 a5 a6 → post' (val b1 b2 b3 b4 b5 b6) → W d post' b1 b2 b3 b4 b5 b6) → W (d + 1) post a1 a2 a3 a4 a5 a6) :
    ∀ (d : Nat) (post : ρ → Prop) (a1 : A1) (a2 : A2) (a3 : A3) (a4 : A4) (a5 : A5) (a6 : A6), ok a1 a2 a3 a4 a5 a6 → μ a1 a2 a3 a4 a5 a6 < d → post (val a1 a2 a3 a4 a5 a6) → W d post a1 a2 a3 a4 a5 a6 := by
  intro d
  induction d with
  | zero => intro post a1 a2 a3 a4 a5 a6 _ h; omega
  | succ d ih =>
    intro post a1 a2 a3 a4 a5 a6 ho hm hp
    exact hs d post a1 a2 a3 a4 a5 a6 ho hp (fun post' b1 b2 b3 b4 b5 b6 ho' hm' hp' => ih post' b1 b2 b3 b4 b5 b6 ho' (by omega) hp')
theorem rec_p {σ ρ : Type} (W : Nat → (ρ → Prop) → σ → Prop) (ok : σ → Prop) (μ : σ → Nat) (val : σ → ρ)
    (hs : ∀ d s post, ok s → post (val s) → (∀ s' post', ok s' → μ s' < μ s → post' (val s') → W d post' s') → W (d + 1) post s) :
    ∀ d s post, ok s → μ s < d → post (val s) → W d post s := by
  intro d
  induction d with
  | zero => intro s post _ h; omega
  | succ d ih =>
    intro s post ho hm hp
    exact hs d s post ho hp (fun s' post' ho' hm' hp' => ih s' post' ho' (by omega) hp')
theorem rec_q {σ ρ : Type} (W : Nat → (ρ → Prop) → σ → Prop) (ok : σ → Prop) (μ : σ → Nat) (Q : σ → ρ → Prop)
    (hs : ∀ d s post, ok s → (∀ r, Q s r → post r) → (∀ s' post', ok s' → μ s' < μ s → (∀ r, Q s' r → post' r) → W d post' s') → W (d + 1) post s) :
    ∀ d s post, ok s → μ s < d → (∀ r, Q s r → post r) → W d post s := by
  intro d
  induction d with
  | zero => intro s post _ h; omega
  | succ d ih =>
    intro s post ho hm hp
    exact hs d s post ho hp (fun s' post' ho' hm' hp' => ih s' post' ho' (by omega) hp')
def bx_sum (f : Nat → Int32) : Nat → Int32
  | 0 => 0
  | n + 1 => bx_sum f n + f n
theorem ek_u {A : Prop} {B : Nat → Prop} {k N : Nat} (hk : k < N) (h : B k) : (some k = none → A) ∧ (∀ y : Nat, some k = some y → (y < N ∧ B y)) :=
  ⟨fun z => absurd z (Option.some_ne_none k), fun _ e => (by cases e; exact ⟨hk, h⟩)⟩
theorem ek_nu {A : Prop} {B : Nat → Prop} (h : A) : ((none : Option Nat) = none → A) ∧ (∀ y : Nat, (none : Option Nat) = some y → B y) :=
  ⟨fun _ => h, fun _ e => (by cases e)⟩
theorem ek_if {c d A B : Prop} (e : c ↔ d) (f : d → A) (g : ¬ d → B) : (c → A) ∧ (¬ c → B) :=
  ⟨fun z => f (e.mp z), fun z => g (fun y => z (e.mpr y))⟩
theorem ek_v {α : Sort _} {P : α → Prop} {a b : α} (e : a = b) (h : P b) : P a := e ▸ h
theorem co_some {x : Option Nat} {A : Prop} {B : Nat → Prop} (i : Nat) (h : B i) (hx : x = some i := by rfl) : (x = none → A) ∧ (∀ y : Nat, x = some y → B y) := by
  subst hx
  exact ⟨fun e => (nomatch e), fun y e => Option.some.inj e ▸ h⟩
theorem co_none {x : Option Nat} {A : Prop} {B : Nat → Prop} (h : A) (hx : x = none := by rfl) : (x = none → A) ∧ (∀ y : Nat, x = some y → B y) := by
  subst hx
  exact ⟨fun _ => h, fun y e => (nomatch e)⟩
theorem co_any {x : Option Nat} {A : Prop} {B : Nat → Prop} (hn : x = none → A) (hs : ∀ i : Nat, x = some i → B i) : (x = none → A) ∧ (∀ y : Nat, x = some y → B y) := ⟨hn, hs⟩
theorem co_2 {P : Nat → Prop} (h0 : P 0) (h1 : P 1) {i : Nat} (hi : i < 2) : P i :=
  match i, hi with
  | 0, _ => h0
  | 1, _ => h1
theorem co_3 {P : Nat → Prop} (h0 : P 0) (h1 : P 1) (h2 : P 2) {i : Nat} (hi : i < 3) : P i :=
  match i, hi with
  | 0, _ => h0
  | 1, _ => h1
  | 2, _ => h2
theorem co_4 {P : Nat → Prop} (h0 : P 0) (h1 : P 1) (h2 : P 2) (h3 : P 3) {i : Nat} (hi : i < 4) : P i :=
  match i, hi with
  | 0, _ => h0
  | 1, _ => h1
  | 2, _ => h2
  | 3, _ => h3
theorem co_dec {N : Nat} {P : Nat → Prop} [DecidablePred P] (h : (List.range N).all (fun i => decide (P i)) = true) {i : Nat} (hi : i < N) : P i := by
  have := List.all_eq_true.mp h i (List.mem_range.mpr hi)
  exact of_decide_eq_true this
theorem co_tab {α : Type} {l : List α} {d : α} {P : α → Prop} (h : ∀ a, a ∈ l → P a) {i : Nat} (hi : i < l.length) : P (l.getD i d) := by
  rw [List.getD_eq_getElem?_getD, List.getElem?_eq_getElem hi]
  exact h _ (List.getElem_mem hi)
theorem pk_mu {x : Int32} {L : Nat} (h0 : ¬ x < 0) (h : ¬ nI L ≤ x) (hL : L < 2 ^ 31) : ∃ j : Nat, j < L ∧ x = nI j ∧ x + 1 = nI (j + 1) ∧ x.toNatClampNeg = j ∧ L - (x + 1).toNatClampNeg < L - x.toNatClampNeg := by
  obtain ⟨j, hj, rfl⟩ := nI_of h0
  have hl : j < L := Nat.not_le.mp fun q => h (nI_le q hj)
  refine ⟨j, hl, rfl, nI_1 j, nI_clamp hj, ?_⟩
  rw [nI_1, nI_clamp (by omega), nI_clamp hj]
  omega
theorem op_s {α : Type} {r : Option α} {A : Prop} {B : α → Prop} {y : α} (h : r = some y) (b : B y) : (r = none → A) ∧ ∀ z, r = some z → B z :=
  ⟨fun e => (by rw [h] at e; cases e), fun z e => (by rw [h] at e; cases e; exact b)⟩
def l_holds {α : Type} (a : Nat → Option Nat) (LP : List Nat) (p : Nat → α) (c : Nat) (b : Nat → α) : Prop :=
  ∀ j, j < c → ∃ y, a j = some y ∧ y ∈ LP ∧ p y = b j
theorem l_holds_0 {α : Type} {a : Nat → Option Nat} {LP : List Nat} {p b : Nat → α} : l_holds a LP p 0 b := fun j h => absurd h (Nat.not_lt_zero j)
theorem l_in_new (LP : List Nat) (q : Nat) : q ∈ LP ++ [q] := List.mem_append.mpr (Or.inr (List.mem_singleton.mpr rfl))
def l_sum (b : Nat → Int32) : Nat → Int32
  | 0 => 0
  | k + 1 => l_sum b k + b k
theorem sb_shr0 (x : Int32) : x >>> ((0 : Int32) &&& 31) = x := by
  rw [show ((0 : Int32) &&& 31) = 0 by decide]
  simp
theorem sb_shl0 (x : Int32) : x <<< ((0 : Int32) &&& 31) = x := by
  rw [show ((0 : Int32) &&& 31) = 0 by decide]
  simp
theorem sb_cl0 : (0 : Int32).toNatClampNeg = 0 := by decide
theorem sb_m1 {p : Nat} (h : 0 < p) : nI p + (-1) = nI (p - 1) := by
  obtain ⟨q, rfl⟩ : ∃ q, p = q + 1 := ⟨p - 1, by omega⟩
  exact pk_m1 q
def sb_b (c : Nat) : Int32 := (nI c).toInt8.toInt32
theorem sb_byte : ∀ c, c < 256 → sb_b c &&& 255 = nI c ∧ ((nI c).toUInt32 % 65536).toInt32 = nI c ∧ nI c ≤ 255 := by decide +kernel
def sb_Fit (a : Nat → Int32) : Prop := ∀ j, fits .byte (.int (a j)) = true
def sb_Lat (t : Nat → Nat) (n : Nat) (a : Nat → Int32) : Prop := ∀ j, j < n → t j < 256 ∧ a j = sb_b (t j)
theorem sb_fitB (c : Nat) : fits .byte (.int (sb_b c)) = true := pk_fb _
theorem sb_fit0 : sb_Fit (fun _ => 0) := fun _ => by
  show fits .byte (.int 0) = true
  decide
theorem sb_fitU {a : Nat → Int32} {k : Nat} {x : Int32} (h : sb_Fit a) (hx : fits .byte (.int x) = true) : sb_Fit (upd a k x) := by
  intro j
  by_cases e : j = k
  · subst e
    rw [pk_us]
    exact hx
  · rw [pk_un e]
    exact h j
def sb_cat (t : Nat → Nat) (n : Nat) (s : Nat → Nat) : Nat → Nat := fun j => if j < n then t j else s (j - n)
theorem sb_cat_lo {t s : Nat → Nat} {n j : Nat} (h : j < n) : sb_cat t n s j = t j := if_pos h
theorem sb_cat_hi {t s : Nat → Nat} {n j : Nat} : sb_cat t n s (n + j) = s j := by
  show (if n + j < n then t (n + j) else s (n + j - n)) = s j
  rw [if_neg (by omega), Nat.add_sub_cancel_left]
theorem sb_latPut {t s : Nat → Nat} {n w : Nat} {a a' : Nat → Int32} (h : sb_Lat t n a) (hk : ∀ j, j < n → a' j = a j) (hs : ∀ i, i < w → s i < 256 ∧ a' (n + i) = sb_b (s i)) : sb_Lat (sb_cat t n s) (n + w) a' := by
  intro j hj
  by_cases e : j < n
  · rw [sb_cat_lo e, hk j e]
    exact h j e
  · obtain ⟨i, rfl⟩ : ∃ i, j = n + i := ⟨j - n, by omega⟩
    rw [sb_cat_hi]
    exact hs i (by omega)
theorem sb_latKeep {t : Nat → Nat} {n : Nat} {a a' : Nat → Int32} (h : sb_Lat t n a) (hk : ∀ j, j < n → a' j = a j) : sb_Lat t n a' := fun j hj => by
  rw [hk j hj]
  exact h j hj
def sb_cap (q m : Nat) : Nat := if q ≤ m then m else if 2 * m + 2 < q then q else 2 * m + 2
def sb_Room (q m mc ms : Nat) : Prop := q ≤ m ∨ (1 ≤ mc ∧ sb_cap q m ≤ ms ∧ sb_cap q m ≤ 65536)
theorem sb_cap_ge (q m : Nat) : q ≤ sb_cap q m := by
  unfold sb_cap
  split
  · omega
  · split <;> omega
theorem sb_cap_gem (q m : Nat) : m ≤ sb_cap q m := by
  unfold sb_cap
  split
  · omega
  · split <;> omega
theorem sb_cap_le {q m mc ms : Nat} (hm : m ≤ 65536) (hr : sb_Room q m mc ms) : sb_cap q m ≤ 65536 := by
  rcases hr with h | h
  · rw [sb_cap, if_pos h]
    exact hm
  · exact h.2.2
theorem sb_at {P : Int32 → Prop} {x y : Int32} (e : x = y) (h : P y) : P x := e ▸ h
def sb_dg (w : Nat) : Nat := if w < 10 then 1 else if w < 100 then 2 else if w < 1000 then 3 else if w < 10000 then 4 else if w < 100000 then 5 else if w < 1000000 then 6 else if w < 10000000 then 7 else if w < 100000000 then 8 else if w < 1000000000 then 9 else 10
def sb_dec (v : Nat) : Nat → Nat := fun i => 48 + v / 10 ^ (sb_dg v - 1 - i) % 10
theorem sb_dg_in (w : Nat) : 1 ≤ sb_dg w ∧ sb_dg w ≤ 10 := by
  unfold sb_dg
  constructor <;> (repeat' split) <;> omega
theorem sb_dg100 {w : Nat} (h : 100 ≤ w) (hw : w < 2 ^ 31) : sb_dg w = sb_dg (w / 100) + 2 := by
  rw [sb_dg, sb_dg, if_neg (show ¬ w < 10 by omega), if_neg (show ¬ w < 100 by omega)]
  by_cases h3 : w < 1000
  · rw [if_pos h3, if_pos (show w / 100 < 10 by omega)]
  rw [if_neg h3, if_neg (show ¬ w / 100 < 10 by omega)]
  by_cases h4 : w < 10000
  · rw [if_pos h4, if_pos (show w / 100 < 100 by omega)]
  rw [if_neg h4, if_neg (show ¬ w / 100 < 100 by omega)]
  by_cases h5 : w < 100000
  · rw [if_pos h5, if_pos (show w / 100 < 1000 by omega)]
  rw [if_neg h5, if_neg (show ¬ w / 100 < 1000 by omega)]
  by_cases h6 : w < 1000000
  · rw [if_pos h6, if_pos (show w / 100 < 10000 by omega)]
  rw [if_neg h6, if_neg (show ¬ w / 100 < 10000 by omega)]
  by_cases h7 : w < 10000000
  · rw [if_pos h7, if_pos (show w / 100 < 100000 by omega)]
  rw [if_neg h7, if_neg (show ¬ w / 100 < 100000 by omega)]
  by_cases h8 : w < 100000000
  · rw [if_pos h8, if_pos (show w / 100 < 1000000 by omega)]
  rw [if_neg h8, if_neg (show ¬ w / 100 < 1000000 by omega)]
  by_cases h9 : w < 1000000000
  · rw [if_pos h9, if_pos (show w / 100 < 10000000 by omega)]
  rw [if_neg h9, if_neg (show ¬ w / 100 < 10000000 by omega)]
  rw [if_pos (show w / 100 < 100000000 by omega)]
theorem sb_negT {w : Nat} (h : w < 2 ^ 31) : (-nI w).toInt = -(w : Int) := by
  rw [Int32.toInt_neg, nI_toInt h]
  exact Int.bmod_eq_of_le (by omega) (by omega)
theorem sb_nle {a b : Nat} (ha : a < 2 ^ 31) (hb : b < 2 ^ 31) : -nI a ≤ -nI b ↔ b ≤ a := by
  rw [Int32.le_iff_toInt_le, sb_negT ha, sb_negT hb]
  omega
theorem sb_nlt {a b : Nat} (ha : a < 2 ^ 31) (hb : b < 2 ^ 31) : -nI a < -nI b ↔ b < a := by
  rw [Int32.lt_iff_toInt_lt, sb_negT ha, sb_negT hb]
  omega
theorem sb_cmp {A B : Prop} {x : Int32} (v c : Nat) (f : c ≤ v → A) (g : v < c → B) (hv : v < 2 ^ 31) (hx : x = -nI c := by rfl) (hc : c < 2 ^ 31 := by omega) : (-nI v ≤ x → A) ∧ (¬ -nI v ≤ x → B) := by
  subst hx
  rw [sb_nle hv hc]
  exact ⟨f, fun z => g (by omega)⟩
theorem sb_ndiv {w : Nat} (hw : w < 2 ^ 31) : (-nI w) / 100 = -nI (w / 100) := by
  apply Int32.toInt_inj.mp
  have h100 : (100 : Int32).toInt = 100 := by decide
  rw [Int32.toInt_div, sb_negT hw, h100, sb_negT (by omega), Int.neg_tdiv, Int.tdiv_eq_ediv_of_nonneg (by omega), Int.bmod_eq_of_le (by omega) (by omega)]
  omega
theorem sb_nrem {w : Nat} (hw : w < 2 ^ 31) : (-nI (w / 100)) * 100 - (-nI w) = nI (w % 100) := by
  have h := pk_rem (a := w) (d := 100) hw (by decide) (by decide)
  rw [pk_div hw (by decide) (by decide)] at h
  rw [← h]
  show (-nI (w / 100)) * nI 100 - (-nI w) = nI w - nI (w / 100) * nI 100
  rw [Int32.neg_mul, Int32.sub_neg, Int32.add_comm, ← Int32.sub_eq_add_neg]
end
section
section DLB
/-! numbers, values -/
theorem dl_b0 : vp_nar .boolean 0 = 0 := by decide
theorem dl_b1 : vp_nar .boolean 1 = 1 := by decide
theorem dl_10 : ¬ (1 : Int32) = 0 := by decide
theorem dl_cl {n : Nat} (h : n < 2 ^ 31) : (nI n).toNatClampNeg = n := nI_clamp h
theorem dl_inj {a b : Nat} (ha : a < 2 ^ 31) (hb : b < 2 ^ 31) (h : nI a = nI b) : a = b := (nI_eq ha hb).mp h
theorem dl_nm1 {a : Nat} (h : a < 2 ^ 31) : ¬ nI a = -1 := by
  intro e
  have := nI_pos (n := a) h
  rw [e] at this
  exact this (by decide)
theorem dl_s1 {n : Nat} (h : 0 < n) : nI n - 1 = nI (n - 1) := by
  obtain ⟨m, rfl⟩ : ∃ m, n = m + 1 := ⟨n - 1, by omega⟩
  exact nI_pred m
theorem dl_m1 {n : Nat} (h : 0 < n) : nI n + (-1) = nI (n - 1) := by
  obtain ⟨m, rfl⟩ : ∃ m, n = m + 1 := ⟨n - 1, by omega⟩
  exact pk_m1 m
def dl_pv (p : Nat) : Int32 := nI (4 * p + 3)
theorem dl_pvA : ∀ p, p < 48 → dl_pv p &&& 3 = 3 := by decide +kernel
theorem dl_pvS : ∀ p, p < 48 → dl_pv p >>> ((2 : Int32) &&& 31) = nI p := by decide +kernel
theorem dl_pvM (p : Nat) : nI p * 4 + 3 = dl_pv p := by
  show nI p * nI 4 + nI 3 = nI (4 * p + 3)
  rw [pk_mul, nI_add, Nat.mul_comm]
theorem dl_pvI {p q : Nat} (hp : p < 48) (hq : q < 48) (h : dl_pv p = dl_pv q) : p = q := by
  have := (nI_eq (a := 4 * p + 3) (b := 4 * q + 3) (by omega) (by omega)).mp h
  omega
theorem dl_pvE {p q : Nat} (hp : p < 48) (hq : q < 48) : dl_pv p = dl_pv q ↔ p = q := ⟨dl_pvI hp hq, fun h => by rw [h]⟩
def dl_V (c : Nat) (v : Int32) : Prop := (v &&& 3 = 0 → v = 0) ∧ (v &&& 3 = 3 → ∃ p, p < c ∧ v = dl_pv p)
theorem dl_V0 (c : Nat) : dl_V c 0 := ⟨fun _ => rfl, fun h => absurd h (by decide)⟩
theorem dl_Vp {c p : Nat} (h : p < c) (hc : c ≤ 48) : dl_V c (dl_pv p) :=
  ⟨fun h0 => by rw [dl_pvA p (by omega)] at h0; exact absurd h0 (by decide), fun _ => ⟨p, h, rfl⟩⟩
theorem dl_k1 (x : Int32) : (x * 4 + 1) &&& 3 = 1 := by
  rw [pk_and (x * 4 + 1) (m := 3) 2 (by decide)]
  have e : (x * 4 + 1).toBitVec.toNat = ((x.toBitVec.toNat * 4) % 4294967296 + 1) % 4294967296 := by
    rw [Int32.toBitVec_add, Int32.toBitVec_mul, BitVec.toNat_add, BitVec.toNat_mul]; rfl
  have : (x * 4 + 1).toBitVec.toNat % 2 ^ 2 = 1 := by rw [e]; omega
  rw [this]; rfl
theorem dl_k2 (x : Int32) : (x * 4 + 2) &&& 3 = 2 := by
  rw [pk_and (x * 4 + 2) (m := 3) 2 (by decide)]
  have e : (x * 4 + 2).toBitVec.toNat = ((x.toBitVec.toNat * 4) % 4294967296 + 2) % 4294967296 := by
    rw [Int32.toBitVec_add, Int32.toBitVec_mul, BitVec.toNat_add, BitVec.toNat_mul]; rfl
  have : (x * 4 + 2).toBitVec.toNat % 2 ^ 2 = 2 := by rw [e]; omega
  rw [this]; rfl
theorem dl_V1 (c : Nat) (x : Int32) : dl_V c (x * 4 + 1) :=
  ⟨fun h => by rw [dl_k1] at h; exact absurd h (by decide), fun h => by rw [dl_k1] at h; exact absurd h (by decide)⟩
theorem dl_V2 (c : Nat) (x : Int32) : dl_V c (x * 4 + 2) :=
  ⟨fun h => by rw [dl_k2] at h; exact absurd h (by decide), fun h => by rw [dl_k2] at h; exact absurd h (by decide)⟩
theorem dl_Vu {c k : Nat} {a : Nat → Int32} {v : Int32} (h : ∀ i, dl_V c (a i)) (hv : dl_V c v) : ∀ i, dl_V c (upd a k v i) := by
  intro i
  by_cases e : i = k
  · rw [e, pk_us]; exact hv
  · rw [pk_un e]; exact h i
theorem dl_Vm {c d : Nat} {v : Int32} (h : dl_V c v) (hd : c ≤ d) : dl_V d v :=
  ⟨h.1, fun e => by obtain ⟨p, hp, hv⟩ := h.2 e; exact ⟨p, by omega, hv⟩⟩

/-! sums -/
def dl_sm (g : Nat → Nat) : Nat → Nat
  | 0 => 0
  | n + 1 => dl_sm g n + g n
theorem dl_smS (g : Nat → Nat) (n : Nat) : dl_sm g (n + 1) = dl_sm g n + g n := rfl
theorem dl_smC {g g' : Nat → Nat} : ∀ n, (∀ i, i < n → g i = g' i) → dl_sm g n = dl_sm g' n := by
  intro n
  induction n with
  | zero => intro _; rfl
  | succ n ih =>
    intro h
    rw [dl_smS, dl_smS, ih (fun i hi => h i (by omega)), h n (by omega)]
theorem dl_smU {g g' : Nat → Nat} {p : Nat} : ∀ n, p < n → (∀ i, i < n → i ≠ p → g' i = g i) → dl_sm g' n + g p = dl_sm g n + g' p := by
  intro n
  induction n with
  | zero => intro h; omega
  | succ n ih =>
    intro hp h
    rw [dl_smS, dl_smS]
    by_cases e : p = n
    · subst e
      rw [dl_smC (g := g') (g' := g) p (fun i hi => h i (by omega) (by omega))]
      omega
    · have := ih (by omega) (fun i hi hn => h i (by omega) hn)
      have := h n (by omega) (by omega)
      omega
theorem dl_smB {g : Nat → Nat} {c : Nat} : ∀ n, (∀ i, i < n → g i ≤ c) → dl_sm g n ≤ n * c := by
  intro n
  induction n with
  | zero => intro _; exact Nat.zero_le _
  | succ n ih =>
    intro h
    have := ih (fun i hi => h i (by omega))
    have := h n (by omega)
    rw [dl_smS, Nat.succ_mul]; omega
theorem dl_smL {g : Nat → Nat} {p : Nat} : ∀ n, (∀ i, i < n → g i ≤ 1) → p < n → g p = 0 → dl_sm g n < n := by
  intro n
  induction n with
  | zero => intro _ h; omega
  | succ n ih =>
    intro h hp h0
    rw [dl_smS]
    by_cases e : p = n
    · subst e
      have := dl_smB (g := g) (c := 1) p (fun i hi => h i (by omega))
      omega
    · have := ih (fun i hi => h i (by omega)) (by omega) h0
      have := h n (by omega)
      omega
theorem dl_smM {g g' : Nat → Nat} : ∀ n, (∀ i, i < n → g i ≤ g' i) → dl_sm g n ≤ dl_sm g' n := by
  intro n
  induction n with
  | zero => intro _; exact Nat.le_refl _
  | succ n ih =>
    intro h
    have := ih (fun i hi => h i (by omega))
    have := h n (by omega)
    rw [dl_smS, dl_smS]; omega
theorem dl_smA {f g : Nat → Nat} : ∀ n, dl_sm (fun i => f i + g i) n = dl_sm f n + dl_sm g n := by
  intro n
  induction n with
  | zero => rfl
  | succ n ih => rw [dl_smS, dl_smS, dl_smS, ih]; omega
theorem dl_smG {g : Nat → Nat} {p : Nat} : ∀ n, p < n → g p ≤ dl_sm g n := by
  intro n
  induction n with
  | zero => intro h; omega
  | succ n ih =>
    intro h
    rw [dl_smS]
    by_cases e : p = n
    · subst e; omega
    · have := ih (by omega); omega
theorem dl_sm1 : ∀ n, dl_sm (fun _ => 1) n = n := by
  intro n
  induction n with
  | zero => rfl
  | succ n ih => rw [dl_smS, ih]
theorem dl_sm0 {g : Nat → Nat} : ∀ n, (∀ i, i < n → g i = 0) → dl_sm g n = 0 := by
  intro n
  induction n with
  | zero => intro _; rfl
  | succ n ih => intro h; rw [dl_smS, ih (fun i hi => h i (by omega)), h n (by omega)]
def dl_on (f : Nat → Int32) (q : Nat) : Nat := if f q = 0 then 0 else 1
def dl_ct (f : Nat → Int32) : Nat := dl_sm (dl_on f) 48
theorem dl_on1 (f : Nat → Int32) (q : Nat) : dl_on f q ≤ 1 := by unfold dl_on; split <;> omega
theorem dl_ct48 (f : Nat → Int32) : dl_ct f ≤ 48 := by
  have := dl_smB (g := dl_on f) (c := 1) 48 (fun i _ => dl_on1 f i)
  unfold dl_ct; omega
theorem dl_ctC {f g : Nat → Int32} (h : ∀ q, q < 48 → (f q = 0 ↔ g q = 0)) : dl_ct f = dl_ct g := by
  unfold dl_ct
  apply dl_smC
  intro i hi
  unfold dl_on
  by_cases z : f i = 0
  · rw [if_pos z, if_pos ((h i hi).mp z)]
  · rw [if_neg z, if_neg (fun w => z ((h i hi).mpr w))]

/-! fills -/
def dl_fill (a : Nat → Int32) (v : Int32) (n : Nat) : Nat → Int32 := fun i => if i < n then v else a i
theorem dl_fill0 (a : Nat → Int32) (v : Int32) : dl_fill a v 0 = a := by
  funext i; unfold dl_fill; rw [if_neg (by omega)]
theorem dl_fillS (a : Nat → Int32) (v : Int32) (n : Nat) : upd (dl_fill a v n) n v = dl_fill a v (n + 1) := by
  funext i
  unfold upd dl_fill
  by_cases e : i = n
  · rw [if_pos e, if_pos (by omega)]
  · rw [if_neg e]
    by_cases h : i < n
    · rw [if_pos h, if_pos (by omega)]
    · rw [if_neg h, if_neg (by omega)]
theorem dl_fillI {a : Nat → Int32} {v : Int32} {n i : Nat} (h : i < n) : dl_fill a v n i = v := if_pos h
end DLB
end
section
section DLR
variable {car cdr : Nat → Int32} {ro : Nat → Prop} {seen queue inn base : Nat → Int32} {m p q : Nat} {v : Int32}
/-- the least set of pairs that holds the roots and what a member's halves hold -/
def dl_R (car cdr : Nat → Int32) (ro : Nat → Prop) (q : Nat) : Prop :=
  ∀ S : Nat → Prop, (∀ p, p < 48 → ro p → S p) → (∀ p q, S p → q < 48 → (car p = dl_pv q ∨ cdr p = dl_pv q) → S q) → S q
theorem dl_Rr (hp : p < 48) (h : ro p) : dl_R car cdr ro p := fun _ h1 _ => h1 p hp h
theorem dl_Rs (h : dl_R car cdr ro p) (hq : q < 48) (e : car p = dl_pv q ∨ cdr p = dl_pv q) : dl_R car cdr ro q :=
  fun S h1 h2 => h2 p q (h S h1 h2) hq e
theorem dl_Rm {ro' : Nat → Prop} (h : ∀ p, p < 48 → ro p → ro' p) (r : dl_R car cdr ro q) : dl_R car cdr ro' q :=
  fun S h1 h2 => r S (fun p hp hr => h1 p hp (h p hp hr)) h2

/-! X's walk -/
def dl_XI (car cdr : Nat → Int32) (ro : Nat → Prop) (seen queue : Nat → Int32) (m : Nat) : Prop :=
  (∀ q, q < 48 → seen q = 0 ∨ seen q = 1) ∧
  (∀ i, i < m → ∃ q, q < 48 ∧ queue i = nI q ∧ seen q = 1) ∧
  (∀ q, q < 48 → seen q = 1 → ∃ i, i < m ∧ queue i = nI q) ∧
  (∀ g : Nat → Nat, dl_sm (fun i => g (queue i).toNatClampNeg) m = dl_sm (fun q => if seen q = 0 then 0 else g q) 48) ∧
  (∀ q, q < 48 → seen q = 1 → dl_R car cdr ro q)
theorem dl_xi0 (h : ∀ q, q < 48 → seen q = 0) : dl_XI car cdr ro seen queue 0 :=
  ⟨fun q hq => Or.inl (h q hq), fun i hi => absurd hi (by omega), fun q hq e => by rw [h q hq] at e; exact absurd e (by decide),
   fun g => by
     rw [dl_sm0 48 (fun i hi => by rw [if_pos (h i hi)])]; rfl,
   fun q hq e => by rw [h q hq] at e; exact absurd e (by decide)⟩
theorem dl_xiM (I : dl_XI car cdr ro seen queue m) : m = dl_ct seen := by
  have h := I.2.2.2.1 (fun _ => 1)
  rw [dl_sm1] at h
  exact h
theorem dl_xi48 (I : dl_XI car cdr ro seen queue m) : m ≤ 48 := by
  rw [dl_xiM I]; exact dl_ct48 _
theorem dl_xiL (I : dl_XI car cdr ro seen queue m) (hp : p < 48) (h0 : seen p = 0) : m < 48 := by
  rw [dl_xiM I]
  exact dl_smL 48 (fun i _ => dl_on1 seen i) hp (if_pos h0)
theorem dl_xiP (I : dl_XI car cdr ro seen queue m) (hp : p < 48) (h0 : seen p = 0) (hR : dl_R car cdr ro p) :
    dl_XI car cdr ro (upd seen p 1) (upd queue m (nI p)) (m + 1) := by
  obtain ⟨h1, h2, h3, h4, h5⟩ := I
  refine ⟨?_, ?_, ?_, ?_, ?_⟩
  · intro q hq
    by_cases e : q = p
    · rw [e, pk_us]; exact Or.inr rfl
    · rw [pk_un e]; exact h1 q hq
  · intro i hi
    by_cases e : i = m
    · exact ⟨p, hp, by rw [e, pk_us], pk_us⟩
    · obtain ⟨q, hq, e1, e2⟩ := h2 i (by omega)
      refine ⟨q, hq, by rw [pk_un e]; exact e1, ?_⟩
      by_cases e3 : q = p
      · rw [e3, pk_us]
      · rw [pk_un e3]; exact e2
  · intro q hq e
    by_cases e3 : q = p
    · exact ⟨m, by omega, by rw [e3, pk_us]⟩
    · rw [pk_un e3] at e
      obtain ⟨i, hi, ei⟩ := h3 q hq e
      exact ⟨i, by omega, by rw [pk_un (by omega)]; exact ei⟩
  · intro g
    have a1 : dl_sm (fun i => g (upd queue m (nI p) i).toNatClampNeg) (m + 1) = dl_sm (fun i => g (queue i).toNatClampNeg) m + g p := by
      rw [dl_smS]
      have e1 : dl_sm (fun i => g (upd queue m (nI p) i).toNatClampNeg) m = dl_sm (fun i => g (queue i).toNatClampNeg) m := by
        apply dl_smC
        intro i hi
        show g (upd queue m (nI p) i).toNatClampNeg = g (queue i).toNatClampNeg
        rw [pk_un (by omega)]
      have e2 : (upd queue m (nI p) m).toNatClampNeg = p := by rw [pk_us, nI_clamp (by omega)]
      show _ + g (upd queue m (nI p) m).toNatClampNeg = _
      rw [e1, e2]
    have a2 := dl_smU (g := fun q => if seen q = 0 then 0 else g q) (g' := fun q => if upd seen p 1 q = 0 then 0 else g q) (p := p) 48 hp
      (fun i _ hn => by show (if upd seen p 1 i = 0 then 0 else g i) = (if seen i = 0 then 0 else g i); rw [pk_un hn])
    have a3 : (if seen p = 0 then 0 else g p) = 0 := if_pos h0
    have a4 : (if upd seen p 1 p = 0 then 0 else g p) = g p := by rw [pk_us]; exact if_neg (by decide)
    have a5 := h4 g
    try dsimp only at a2
    rw [a3, a4] at a2
    omega
  · intro q hq e
    by_cases e3 : q = p
    · rw [e3]; exact hR
    · rw [pk_un e3] at e; exact h5 q hq e
/-- what the first i of the queue hold has been seen -/
def dl_XC (car cdr seen queue : Nat → Int32) (i : Nat) : Prop :=
  ∀ j, j < i → ∀ p, p < 48 → queue j = nI p → ∀ q, q < 48 → (car p = dl_pv q ∨ cdr p = dl_pv q) → seen q = 1
/-- the end of X's walk -/
def dl_XF (car cdr : Nat → Int32) (ro : Nat → Prop) (seen queue : Nat → Int32) (m : Nat) : Prop :=
  dl_XI car cdr ro seen queue m ∧ (∀ q, q < 48 → (seen q = 1 ↔ dl_R car cdr ro q))
theorem dl_xf (I : dl_XI car cdr ro seen queue m) (C : dl_XC car cdr seen queue m) (hr : ∀ q, q < 48 → ro q → seen q = 1) : dl_XF car cdr ro seen queue m := by
  refine ⟨I, fun q hq => ⟨I.2.2.2.2 q hq, fun r => ?_⟩⟩
  have := r (fun q => q < 48 ∧ seen q = 1) (fun p hp h => ⟨hp, hr p hp h⟩) (fun p q hp hq e => ⟨hq, by
    obtain ⟨i, hi, ei⟩ := I.2.2.1 p hp.1 hp.2
    exact C i hi p hp.1 ei q hq e⟩)
  exact this.2

/-! Y's rounds -/
def dl_Z (f : Nat → Int32) : Prop := ∀ q, q < 48 → f q = 0 ∨ f q = 1
def dl_ad (inn : Nat → Int32) (v : Int32) : Nat → Int32 := if v &&& 3 = 3 then upd inn (v >>> ((2 : Int32) &&& 31)).toNatClampNeg 1 else inn
theorem dl_adP (hp : p < 48) : dl_ad inn (dl_pv p) = upd inn p 1 := by
  unfold dl_ad
  rw [if_pos (dl_pvA p hp), dl_pvS p hp, nI_clamp (by omega)]
theorem dl_adN (h : ¬ v &&& 3 = 3) : dl_ad inn v = inn := if_neg h
theorem dl_adZ (hv : dl_V 48 v) (h : dl_Z inn) : dl_Z (dl_ad inn v) := by
  by_cases e : v &&& 3 = 3
  · obtain ⟨p, hp, rfl⟩ := hv.2 e
    rw [dl_adP hp]
    intro q hq
    by_cases e : q = p
    · rw [e, pk_us]; exact Or.inr rfl
    · rw [pk_un e]; exact h q hq
  · rw [dl_adN e]; exact h
theorem dl_adM (hv : dl_V 48 v) (h : inn q = 1) : dl_ad inn v q = 1 := by
  by_cases e : v &&& 3 = 3
  · obtain ⟨p, hp, rfl⟩ := hv.2 e
    rw [dl_adP hp]
    by_cases e : q = p
    · rw [e, pk_us]
    · rw [pk_un e]; exact h
  · rw [dl_adN e]; exact h
theorem dl_adH (hq : q < 48) : dl_ad inn (dl_pv q) q = 1 := by rw [dl_adP hq, pk_us]
theorem dl_adO (hv : dl_V 48 v) (h : dl_ad inn v q = 1) : inn q = 1 ∨ v = dl_pv q := by
  by_cases e : v &&& 3 = 3
  · obtain ⟨p, hp, rfl⟩ := hv.2 e
    rw [dl_adP hp] at h
    by_cases e : q = p
    · rw [e]; exact Or.inr rfl
    · rw [pk_un e] at h; exact Or.inl h
  · rw [dl_adN e] at h; exact Or.inl h
theorem dl_ctU (hp : p < 48) (h0 : inn p = 0) : dl_ct (upd inn p 1) = dl_ct inn + 1 := by
  have a2 := dl_smU (g := dl_on inn) (g' := dl_on (upd inn p 1)) (p := p) 48 hp (fun i _ hn => by unfold dl_on; rw [pk_un hn])
  have a3 : dl_on inn p = 0 := if_pos h0
  have a4 : dl_on (upd inn p 1) p = 1 := by unfold dl_on; rw [pk_us]; exact if_neg (by decide)
  unfold dl_ct
  omega
theorem dl_adE (hz : dl_Z inn) (hv : dl_V 48 v) : dl_ad inn v = inn ∨ (dl_ct (dl_ad inn v) = dl_ct inn + 1 ∧ ∃ q, q < 48 ∧ v = dl_pv q ∧ inn q = 0) := by
  by_cases e : v &&& 3 = 3
  · obtain ⟨p, hp, rfl⟩ := hv.2 e
    rw [dl_adP hp]
    rcases hz p hp with h | h
    · exact Or.inr ⟨dl_ctU hp h, p, hp, rfl, h⟩
    · left
      funext j
      by_cases e : j = p
      · rw [e, pk_us, h]
      · rw [pk_un e]
  · rw [dl_adN e]; exact Or.inl rfl
def dl_YC (car cdr inn : Nat → Int32) : Prop := ∀ p, p < 48 → inn p = 1 → ∀ q, q < 48 → (car p = dl_pv q ∨ cdr p = dl_pv q) → inn q = 1
/-- a round of Y's at index p, begun with base -/
def dl_YP (car cdr base inn : Nat → Int32) (p : Nat) : Prop :=
  (¬ dl_YC car cdr base ∧ dl_ct base < dl_ct inn) ∨
  (inn = base ∧ ∀ p', p' < p → inn p' = 1 → ∀ q, q < 48 → (car p' = dl_pv q ∨ cdr p' = dl_pv q) → inn q = 1)
theorem dl_yp0 : dl_YP car cdr base base 0 := Or.inr ⟨rfl, fun _ h => absurd h (by omega)⟩
def dl_st (car cdr inn : Nat → Int32) (p : Nat) : Nat → Int32 := if inn p = 0 then inn else dl_ad (dl_ad inn (car p)) (cdr p)
theorem dl_ypS (hz : dl_Z inn) (hp : p < 48) (hc : dl_V 48 (car p)) (hd : dl_V 48 (cdr p)) (h : dl_YP car cdr base inn p) : dl_YP car cdr base (dl_st car cdr inn p) (p + 1) := by
  unfold dl_st
  by_cases z : inn p = 0
  · rw [if_pos z]
    rcases h with h | ⟨h1, h2⟩
    · exact Or.inl h
    · refine Or.inr ⟨h1, fun p' hp' e => ?_⟩
      by_cases e2 : p' = p
      · rw [e2, z] at e; exact absurd e (by decide)
      · exact h2 p' (by omega) e
  · rw [if_neg z]
    have z1 : inn p = 1 := by rcases hz p hp with h | h; exact absurd h z; exact h
    have hz1 := dl_adZ hc hz
    rcases dl_adE hz hc with e1 | ⟨e1, q1, hq1, v1, i1⟩
    · rcases dl_adE hz1 hd with e2 | ⟨e2, q2, hq2, v2, i2⟩
      · rw [e2]
        rcases h with h | ⟨h1, h2⟩
        · rw [e1]; exact Or.inl h
        · refine Or.inr ⟨by rw [e1]; exact h1, fun p' hp' e => ?_⟩
          by_cases e3 : p' = p
          · intro q hq hh
            rw [e3] at hh
            rcases hh with hh | hh
            · rw [hh]; exact dl_adH hq
            · rw [← e2, hh]; exact dl_adH hq
          · rw [e1] at e ⊢; exact h2 p' (by omega) e
      · rw [e1] at e2 i2 ⊢
        left
        rcases h with h | ⟨h1, h2⟩
        · exact ⟨h.1, by omega⟩
        · refine ⟨fun hh => ?_, by rw [← h1]; omega⟩
          rw [← h1] at hh
          have := hh p hp z1 q2 hq2 (Or.inr v2)
          rw [i2] at this; exact absurd this (by decide)
    · have e2 : dl_ct (dl_ad inn (car p)) ≤ dl_ct (dl_ad (dl_ad inn (car p)) (cdr p)) := by
        rcases dl_adE hz1 hd with e2 | ⟨e2, _⟩
        · rw [e2]; exact Nat.le_refl _
        · omega
      left
      rcases h with h | ⟨h1, h2⟩
      · exact ⟨h.1, by omega⟩
      · refine ⟨fun hh => ?_, by rw [← h1]; omega⟩
        rw [← h1] at hh
        have := hh p hp z1 q1 hq1 (Or.inl v1)
        rw [i1] at this; exact absurd this (by decide)
def dl_YI (car cdr : Nat → Int32) (ro : Nat → Prop) (inn : Nat → Int32) : Prop := dl_Z inn ∧ (∀ q, q < 48 → inn q = 1 → dl_R car cdr ro q)
theorem dl_yiA (I : dl_YI car cdr ro inn) (hv : dl_V 48 v) (hr : ∀ q, q < 48 → v = dl_pv q → dl_R car cdr ro q) : dl_YI car cdr ro (dl_ad inn v) :=
  ⟨dl_adZ hv I.1, fun q hq e => by rcases dl_adO hv e with h | h; exact I.2 q hq h; exact hr q hq h⟩
theorem dl_yiS (I : dl_YI car cdr ro inn) (hp : p < 48) (hc : dl_V 48 (car p)) (hd : dl_V 48 (cdr p)) : dl_YI car cdr ro (dl_st car cdr inn p) := by
  unfold dl_st
  by_cases z : inn p = 0
  · rw [if_pos z]; exact I
  · rw [if_neg z]
    have z1 : inn p = 1 := by rcases I.1 p hp with h | h; exact absurd h z; exact h
    have r := I.2 p hp z1
    exact dl_yiA (dl_yiA I hc (fun q hq e => dl_Rs r hq (Or.inl e))) hd (fun q hq e => dl_Rs r hq (Or.inr e))
theorem dl_stM (hc : dl_V 48 (car p)) (hd : dl_V 48 (cdr p)) (h : inn q = 1) : dl_st car cdr inn p q = 1 := by
  unfold dl_st
  by_cases z : inn p = 0
  · rw [if_pos z]; exact h
  · rw [if_neg z]; exact dl_adM hd (dl_adM hc h)
def dl_YN (car cdr inn : Nat → Int32) (k : Nat) : Prop := dl_YC car cdr inn ∨ k + 1 ≤ dl_ct inn
theorem dl_yn0 (hz : dl_Z inn) : dl_YN car cdr inn 0 := by
  by_cases h : 0 < dl_ct inn
  · exact Or.inr (by omega)
  · refine Or.inl (fun p hp e => ?_)
    have := dl_smG (g := dl_on inn) 48 hp
    have e1 : dl_on inn p = 1 := by unfold dl_on; rw [e]; exact if_neg (by decide)
    unfold dl_ct at h
    omega
theorem dl_ynS {k : Nat} (h : dl_YN car cdr base k) (hp : dl_YP car cdr base inn 48) : dl_YN car cdr inn (k + 1) := by
  rcases hp with ⟨h1, h2⟩ | ⟨_, h2⟩
  · rcases h with h | h
    · exact absurd h h1
    · exact Or.inr (by omega)
  · exact Or.inl h2
/-- the end of Y's rounds -/
def dl_YF (car cdr : Nat → Int32) (ro : Nat → Prop) (inn : Nat → Int32) : Prop := dl_Z inn ∧ ∀ q, q < 48 → (inn q = 1 ↔ dl_R car cdr ro q)
theorem dl_yf (I : dl_YI car cdr ro inn) (hr : ∀ q, q < 48 → ro q → inn q = 1) (h : dl_YN car cdr inn 48) : dl_YF car cdr ro inn := by
  have hc : dl_YC car cdr inn := by
    rcases h with h | h
    · exact h
    · have := dl_ct48 inn; omega
  refine ⟨I.1, fun q hq => ⟨I.2 q hq, fun r => ?_⟩⟩
  have := r (fun q => q < 48 ∧ inn q = 1) (fun p hp h => ⟨hp, hr p hp h⟩) (fun p q hp hq e => ⟨hq, hc p hp.1 hp.2 q hq e⟩)
  exact this.2
/-- both sets are the same -/
theorem dl_same (x : dl_XF car cdr ro seen queue m) (y : dl_YF car cdr ro inn) : ∀ q, q < 48 → (seen q = 0 ↔ inn q = 0) := by
  intro q hq
  have h1 := x.2 q hq
  have h2 := y.2 q hq
  rcases x.1.1 q hq with a | a <;> rcases y.1 q hq with b | b
  · exact ⟨fun _ => b, fun _ => a⟩
  · have := h1.mpr (h2.mp b); rw [a] at this; exact absurd this (by decide)
  · have := h2.mpr (h1.mp a); rw [b] at this; exact absurd this (by decide)
  · rw [a, b]
theorem dl_sameC (x : dl_XF car cdr ro seen queue m) (y : dl_YF car cdr ro inn) : m = dl_ct inn := by
  rw [dl_xiM x.1]; exact dl_ctC (dl_same x y)

theorem dl_xfR {ro' : Nat → Prop} (x : dl_XF car cdr ro seen queue m) (h : ∀ p, ro p ↔ ro' p) : dl_XF car cdr ro' seen queue m := by
  have : ro = ro' := funext (fun p => propext (h p))
  rw [← this]; exact x
theorem dl_rl {R : Nat} {reg : Nat → Int32} (h : R ≤ 8) (h2 : 2 ≤ R) (p : Nat) : (∃ r, r < R ∧ reg r = dl_pv p) ↔ (∃ r, r < 8 ∧ 0 ≤ r ∧ r ≤ R - 1 ∧ reg r = dl_pv p) := by
  constructor
  · rintro ⟨r, h1, h4⟩
    exact ⟨r, by omega, by omega, by omega, h4⟩
  · rintro ⟨r, h1, _, h3, h4⟩
    exact ⟨r, by omega, h4⟩

/-! edges -/
def dl_eq (v : Int32) (p : Nat) : Nat := if v = dl_pv p then 1 else 0
theorem dl_eq1 (v : Int32) (p : Nat) : dl_eq v p ≤ 1 := by unfold dl_eq; split <;> omega
def dl_ed (car cdr : Nat → Int32) (p q : Nat) : Nat := dl_eq (car q) p + dl_eq (cdr q) p
def dl_E (car cdr inn : Nat → Int32) (v : Int32) (p : Nat) : Nat := dl_eq v p + dl_sm (fun q => if inn q = 0 then 0 else dl_ed car cdr p q) 48
theorem dl_E97 : dl_E car cdr inn v p ≤ 97 := by
  have := dl_smB (g := fun q => if inn q = 0 then 0 else dl_ed car cdr p q) (c := 2) 48 (fun i _ => by
    try dsimp only
    split
    · omega
    · have := dl_eq1 (car i) p; have := dl_eq1 (cdr i) p; unfold dl_ed; omega)
  have := dl_eq1 v p
  unfold dl_E; omega
theorem dl_EC (h : ∀ q, q < 48 → (seen q = 0 ↔ inn q = 0)) : dl_E car cdr seen v p = dl_E car cdr inn v p := by
  unfold dl_E
  rw [dl_smC (g := fun q => if seen q = 0 then 0 else dl_ed car cdr p q) (g' := fun q => if inn q = 0 then 0 else dl_ed car cdr p q) 48 (fun i hi => by
    try dsimp only
    by_cases z : seen i = 0
    · rw [if_pos z, if_pos ((h i hi).mp z)]
    · rw [if_neg z, if_neg (fun w => z ((h i hi).mpr w))])]
end DLR
end
section
section DLX
variable {f_cap f_limit f_regs f_textLen f_fault f_found f_outLen f_nextLabel f_frames f_nextValue f_scanType f_scanValue f_tokens f_place f_depth f_elems : Int32} {a_reg a_carOf a_cdrOf a_text a_seen a_queue a_edgeCount a_image a_origin a_out a_labelOf a_frame a_frameTail a_digits a_tokType a_tokValue a_openFirst a_openTok a_lastElem a_inTail a_elemTok a_elemNext a_elemTail a_slot a_labelTok : Nat → Int32}
theorem xw_pair {post : Int32 → Prop} {v : Int32} (h1 : v &&& 3 = 3 → post 1) (h0 : ¬ v &&& 3 = 3 → post 0) : wpX_isPair post (f_cap, f_limit, f_regs, f_textLen, f_fault, f_found, f_outLen, f_nextLabel, f_frames, f_nextValue, f_scanType, f_scanValue, f_tokens, f_place, f_depth, f_elems, a_reg, a_carOf, a_cdrOf, a_text, a_seen, a_queue, a_edgeCount, a_image, a_origin, a_out, a_labelOf, a_frame, a_frameTail, a_digits, a_tokType, a_tokValue, a_openFirst, a_openTok, a_lastElem, a_inTail, a_elemTok, a_elemNext, a_elemTail, a_slot, a_labelTok) v := And.intro h1 h0
theorem xw_badT {post : Int32 → Prop} {r : Int32} (h : r < 0 ∨ f_regs ≤ r) (k : post 1) : wpX_badRegister post (f_cap, f_limit, f_regs, f_textLen, f_fault, f_found, f_outLen, f_nextLabel, f_frames, f_nextValue, f_scanType, f_scanValue, f_tokens, f_place, f_depth, f_elems, a_reg, a_carOf, a_cdrOf, a_text, a_seen, a_queue, a_edgeCount, a_image, a_origin, a_out, a_labelOf, a_frame, a_frameTail, a_digits, a_tokType, a_tokValue, a_openFirst, a_openTok, a_lastElem, a_inTail, a_elemTok, a_elemNext, a_elemTail, a_slot, a_labelTok) r := by
  unfold wpX_badRegister
  by_cases z : r < 0
  · exact br_t z k
  · rcases h with h | h
    · exact absurd h z
    · exact br_f z (br_f (Int32.not_lt.mpr h) k)
theorem xw_badF {post : Int32 → Prop} {R j : Nat} (hj : j < R) (hR : R < 2 ^ 31) (k : post 0) : wpX_badRegister post (f_cap, f_limit, nI R, f_textLen, f_fault, f_found, f_outLen, f_nextLabel, f_frames, f_nextValue, f_scanType, f_scanValue, f_tokens, f_place, f_depth, f_elems, a_reg, a_carOf, a_cdrOf, a_text, a_seen, a_queue, a_edgeCount, a_image, a_origin, a_out, a_labelOf, a_frame, a_frameTail, a_digits, a_tokType, a_tokValue, a_openFirst, a_openTok, a_lastElem, a_inTail, a_elemTok, a_elemNext, a_elemTail, a_slot, a_labelTok) (nI j) := by
  unfold wpX_badRegister
  exact br_f (nI_pos (by omega)) (br_t (nI_lt hj hR) k)
theorem xw_start {post : SX → Prop} (H : post (f_cap, f_limit, f_regs, f_textLen, f_fault, nI 0, f_outLen, f_nextLabel, f_frames, f_nextValue, f_scanType, f_scanValue, f_tokens, f_place, f_depth, f_elems, a_reg, a_carOf, a_cdrOf, a_text, dl_fill a_seen 0 48, a_queue, a_edgeCount, a_image, a_origin, a_out, a_labelOf, a_frame, a_frameTail, a_digits, a_tokType, a_tokValue, a_openFirst, a_openTok, a_lastElem, a_inTail, a_elemTok, a_elemNext, a_elemTail, a_slot, a_labelTok)) : wpX_startWalk post (f_cap, f_limit, f_regs, f_textLen, f_fault, f_found, f_outLen, f_nextLabel, f_frames, f_nextValue, f_scanType, f_scanValue, f_tokens, f_place, f_depth, f_elems, a_reg, a_carOf, a_cdrOf, a_text, a_seen, a_queue, a_edgeCount, a_image, a_origin, a_out, a_labelOf, a_frame, a_frameTail, a_digits, a_tokType, a_tokValue, a_openFirst, a_openTok, a_lastElem, a_inTail, a_elemTok, a_elemNext, a_elemTail, a_slot, a_labelTok) := by
  have L : ∀ n i, 49 ≤ n + i → i ≤ 48 → wX_startWalk_2 post f_cap f_limit f_regs f_textLen f_fault f_found f_outLen f_nextLabel f_frames f_nextValue f_scanType f_scanValue f_tokens f_place f_depth f_elems n (nI i) a_reg a_carOf a_cdrOf a_text (dl_fill a_seen 0 i) a_queue a_edgeCount a_image a_origin a_out a_labelOf a_frame a_frameTail a_digits a_tokType a_tokValue a_openFirst a_openTok a_lastElem a_inTail a_elemTok a_elemNext a_elemTail a_slot a_labelTok := by
    intro n
    induction n with
    | zero => intro i h1 h2; omega
    | succ n ih =>
      intro i h1 h2
      by_cases e : i = 48
      · subst e
        exact br_t (nI_le (a := 48) (by omega) (by omega)) H
      · refine br_f (nI_ge (b := 48) (by omega) (by decide)) ⟨vp_in_nI (by omega) (by decide), nm_r (e' := dl_fill a_seen 0 (i + 1)) ?_ (nm_r (nI_1 i) (ih (i + 1) (by omega) (by omega)))⟩
        rw [nI_clamp (by omega), dl_b0, dl_fillS]
  unfold wpX_startWalk
  have := L 49 0 (by omega) (by omega)
  rw [dl_fill0] at this
  exact ⟨49, this⟩
theorem xw_reach {post : SX → Prop} {ro : Nat → Prop} {m : Nat} {v : Int32} (I : dl_XI a_carOf a_cdrOf ro a_seen a_queue m) (hv : dl_V 48 v) (hr : ∀ q, q < 48 → v = dl_pv q → dl_R a_carOf a_cdrOf ro q)
    (H : ∀ seen queue m', dl_XI a_carOf a_cdrOf ro seen queue m' → m ≤ m' → (∀ i, i < m → queue i = a_queue i) → (∀ q, q < 48 → a_seen q = 1 → seen q = 1) → (∀ q, q < 48 → v = dl_pv q → seen q = 1) → post (f_cap, f_limit, f_regs, f_textLen, f_fault, nI m', f_outLen, f_nextLabel, f_frames, f_nextValue, f_scanType, f_scanValue, f_tokens, f_place, f_depth, f_elems, a_reg, a_carOf, a_cdrOf, a_text, seen, queue, a_edgeCount, a_image, a_origin, a_out, a_labelOf, a_frame, a_frameTail, a_digits, a_tokType, a_tokValue, a_openFirst, a_openTok, a_lastElem, a_inTail, a_elemTok, a_elemNext, a_elemTail, a_slot, a_labelTok)) :
    wpX_reach post (f_cap, f_limit, f_regs, f_textLen, f_fault, nI m, f_outLen, f_nextLabel, f_frames, f_nextValue, f_scanType, f_scanValue, f_tokens, f_place, f_depth, f_elems, a_reg, a_carOf, a_cdrOf, a_text, a_seen, a_queue, a_edgeCount, a_image, a_origin, a_out, a_labelOf, a_frame, a_frameTail, a_digits, a_tokType, a_tokValue, a_openFirst, a_openTok, a_lastElem, a_inTail, a_elemTok, a_elemNext, a_elemTail, a_slot, a_labelTok) v := by
  unfold wpX_reach
  refine xw_pair (fun hp => ?_) (fun hn => ?_)
  · obtain ⟨p, hp48, rfl⟩ := hv.2 hp
    refine br_f dl_10 (nm_r (dl_pvS p hp48) ?_)
    refine br_f (nI_pos (by omega)) (br_f (nI_ge (b := 48) hp48 (by decide)) ?_)
    refine And.intro (vp_in_nI hp48 (by decide)) ?_
    rcases I.1 p hp48 with z | z
    · have L := dl_xiL I hp48 z
      refine br_t (by rw [nI_clamp (by omega)]; exact z) (br_f (nI_ge (b := 48) L (by decide)) ⟨vp_in_nI hp48 (by decide), nm_r (e' := upd a_seen p 1) (by rw [nI_clamp (by omega), dl_b1]) ⟨vp_in_nI L (by decide), nm_r (e' := upd a_queue m (nI p)) (by rw [nI_clamp (by omega)]) (nm_r (nI_1 m) ?_)⟩⟩)
      refine H _ _ _ (dl_xiP I hp48 z (hr p hp48 rfl)) (by omega) (fun i hi => pk_un (by omega)) (fun q hq e => ?_) (fun q hq e => ?_)
      · by_cases e2 : q = p
        · rw [e2, pk_us]
        · rw [pk_un e2]; exact e
      · rw [dl_pvI hp48 hq e, pk_us]
    · refine br_f (by rw [nI_clamp (by omega), z]; decide) ?_
      exact H _ _ _ I (Nat.le_refl _) (fun _ _ => rfl) (fun _ _ h => h) (fun q hq e => by rw [← dl_pvI hp48 hq e]; exact z)
  · exact br_t rfl (H _ _ _ I (Nat.le_refl _) (fun _ _ => rfl) (fun _ _ h => h) (fun q hq e => absurd (by rw [e]; exact dl_pvA q hq) hn))
theorem xw_fin {post : SX → Prop} {ro : Nat → Prop} {m : Nat} (hc : ∀ i, dl_V 48 (a_carOf i)) (hd : ∀ i, dl_V 48 (a_cdrOf i)) (I : dl_XI a_carOf a_cdrOf ro a_seen a_queue m) (hr : ∀ q, q < 48 → ro q → a_seen q = 1)
    (H : ∀ seen queue m', dl_XF a_carOf a_cdrOf ro seen queue m' → post (f_cap, f_limit, f_regs, f_textLen, f_fault, nI m', f_outLen, f_nextLabel, f_frames, f_nextValue, f_scanType, f_scanValue, f_tokens, f_place, f_depth, f_elems, a_reg, a_carOf, a_cdrOf, a_text, seen, queue, a_edgeCount, a_image, a_origin, a_out, a_labelOf, a_frame, a_frameTail, a_digits, a_tokType, a_tokValue, a_openFirst, a_openTok, a_lastElem, a_inTail, a_elemTok, a_elemNext, a_elemTail, a_slot, a_labelTok)) :
    wpX_finishWalk post (f_cap, f_limit, f_regs, f_textLen, f_fault, nI m, f_outLen, f_nextLabel, f_frames, f_nextValue, f_scanType, f_scanValue, f_tokens, f_place, f_depth, f_elems, a_reg, a_carOf, a_cdrOf, a_text, a_seen, a_queue, a_edgeCount, a_image, a_origin, a_out, a_labelOf, a_frame, a_frameTail, a_digits, a_tokType, a_tokValue, a_openFirst, a_openTok, a_lastElem, a_inTail, a_elemTok, a_elemNext, a_elemTail, a_slot, a_labelTok) := by
  have L : ∀ n i m seen queue, 49 ≤ n + i → i ≤ m → dl_XI a_carOf a_cdrOf ro seen queue m → dl_XC a_carOf a_cdrOf seen queue i → (∀ q, q < 48 → ro q → seen q = 1) →
      wX_finishWalk_2 post n (nI i) f_cap f_limit f_regs f_textLen f_fault (nI m) f_outLen f_nextLabel f_frames f_nextValue f_scanType f_scanValue f_tokens f_place f_depth f_elems a_reg a_carOf a_cdrOf a_text seen queue a_edgeCount a_image a_origin a_out a_labelOf a_frame a_frameTail a_digits a_tokType a_tokValue a_openFirst a_openTok a_lastElem a_inTail a_elemTok a_elemNext a_elemTail a_slot a_labelTok := by
    intro n
    induction n with
    | zero => intro i m seen queue h1 h2 I; have := dl_xi48 I; omega
    | succ n ih =>
      intro i m seen queue h1 h2 I C hr
      have h48 := dl_xi48 I
      by_cases e : i = m
      · subst e
        exact br_t (nI_le (by omega) (by omega)) (H _ _ _ (dl_xf I C hr))
      · obtain ⟨p, hp, eq, es⟩ := I.2.1 i (by omega)
        have rp := I.2.2.2.2 p hp es
        refine br_f (nI_ge (by omega) (by omega)) (br_f (nI_ge (b := 48) (by omega) (by decide)) ⟨vp_in_nI (by omega) (by decide), nm_r (e' := nI p) (by rw [nI_clamp (by omega)]; exact eq) ⟨vp_in_nI hp (by decide), ?_⟩⟩)
        rw [nI_clamp (n := p) (by omega)]
        refine xw_reach I (hc p) (fun q hq e => dl_Rs rp hq (Or.inl e)) (fun seen1 queue1 m1 I1 hm1 hq1 hs1 hv1 => ?_)
        refine And.intro (vp_in_nI hp (by decide)) ?_
        refine xw_reach I1 (hd p) (fun q hq e => dl_Rs rp hq (Or.inr e)) (fun seen2 queue2 m2 I2 hm2 hq2 hs2 hv2 => ?_)
        refine nm_r (nI_1 i) (ih (i + 1) m2 seen2 queue2 (by omega) (by omega) I2 ?_ ?_)
        · intro j hj p' hp' e' q hq hh
          by_cases ej : j = i
          · subst ej
            rw [hq2 j (by omega), hq1 j (by omega), eq] at e'
            have : p = p' := dl_inj (by omega) (by omega) e'
            subst this
            rcases hh with hh | hh
            · exact hs2 q hq (hv1 q hq hh)
            · exact hv2 q hq hh
          · rw [hq2 j (by omega), hq1 j (by omega)] at e'
            exact hs2 q hq (hs1 q hq (C j (by omega) p' hp' e' q hq hh))
        · intro q hq h
          exact hs2 q hq (hs1 q hq (hr q hq h))
  unfold wpX_finishWalk
  exact ⟨49, L 49 0 m a_seen a_queue (by omega) (by omega) I (fun j hj => absurd hj (by omega)) hr⟩
theorem xw_walkR {post : SX → Prop} {r : Nat} (hr8 : r < 8) (hr : dl_V 48 (a_reg r)) (hc : ∀ i, dl_V 48 (a_carOf i)) (hd : ∀ i, dl_V 48 (a_cdrOf i))
    (H : ∀ seen queue m', dl_XF a_carOf a_cdrOf (fun p => a_reg r = dl_pv p) seen queue m' → post (f_cap, f_limit, f_regs, f_textLen, f_fault, nI m', f_outLen, f_nextLabel, f_frames, f_nextValue, f_scanType, f_scanValue, f_tokens, f_place, f_depth, f_elems, a_reg, a_carOf, a_cdrOf, a_text, seen, queue, a_edgeCount, a_image, a_origin, a_out, a_labelOf, a_frame, a_frameTail, a_digits, a_tokType, a_tokValue, a_openFirst, a_openTok, a_lastElem, a_inTail, a_elemTok, a_elemNext, a_elemTail, a_slot, a_labelTok)) :
    wpX_walkRegister post (f_cap, f_limit, f_regs, f_textLen, f_fault, f_found, f_outLen, f_nextLabel, f_frames, f_nextValue, f_scanType, f_scanValue, f_tokens, f_place, f_depth, f_elems, a_reg, a_carOf, a_cdrOf, a_text, a_seen, a_queue, a_edgeCount, a_image, a_origin, a_out, a_labelOf, a_frame, a_frameTail, a_digits, a_tokType, a_tokValue, a_openFirst, a_openTok, a_lastElem, a_inTail, a_elemTok, a_elemNext, a_elemTail, a_slot, a_labelTok) (nI r) := by
  unfold wpX_walkRegister
  refine xw_start ?_
  refine And.intro (vp_in_nI hr8 (by decide)) ?_
  rw [nI_clamp (n := r) (by omega)]
  refine xw_reach (ro := fun p => a_reg r = dl_pv p) (dl_xi0 (fun q hq => dl_fillI hq)) hr (fun q hq e => dl_Rr hq e) (fun seen1 queue1 m1 I1 hm1 hq1 hs1 hv1 => ?_)
  exact xw_fin hc hd I1 hv1 (fun seen2 queue2 m2 F => H _ _ _ F)
theorem xw_walkA {post : SX → Prop} {R : Nat} (hR : R ≤ 8) (hg : ∀ i, dl_V 48 (a_reg i)) (hc : ∀ i, dl_V 48 (a_carOf i)) (hd : ∀ i, dl_V 48 (a_cdrOf i))
    (H : ∀ seen queue m', dl_XF a_carOf a_cdrOf (fun p => ∃ r, r < R ∧ a_reg r = dl_pv p) seen queue m' → post (f_cap, f_limit, nI R, f_textLen, f_fault, nI m', f_outLen, f_nextLabel, f_frames, f_nextValue, f_scanType, f_scanValue, f_tokens, f_place, f_depth, f_elems, a_reg, a_carOf, a_cdrOf, a_text, seen, queue, a_edgeCount, a_image, a_origin, a_out, a_labelOf, a_frame, a_frameTail, a_digits, a_tokType, a_tokValue, a_openFirst, a_openTok, a_lastElem, a_inTail, a_elemTok, a_elemNext, a_elemTail, a_slot, a_labelTok)) :
    wpX_walkAll post (f_cap, f_limit, nI R, f_textLen, f_fault, f_found, f_outLen, f_nextLabel, f_frames, f_nextValue, f_scanType, f_scanValue, f_tokens, f_place, f_depth, f_elems, a_reg, a_carOf, a_cdrOf, a_text, a_seen, a_queue, a_edgeCount, a_image, a_origin, a_out, a_labelOf, a_frame, a_frameTail, a_digits, a_tokType, a_tokValue, a_openFirst, a_openTok, a_lastElem, a_inTail, a_elemTok, a_elemNext, a_elemTail, a_slot, a_labelTok) := by
  have L : ∀ n i m seen queue, 9 ≤ n + i → i ≤ R → dl_XI a_carOf a_cdrOf (fun p => ∃ r, r < R ∧ a_reg r = dl_pv p) seen queue m → (∀ q, q < 48 → (∃ r, r < i ∧ a_reg r = dl_pv q) → seen q = 1) →
      wX_walkAll_6 post n (nI i) f_cap f_limit (nI R) f_textLen f_fault (nI m) f_outLen f_nextLabel f_frames f_nextValue f_scanType f_scanValue f_tokens f_place f_depth f_elems a_reg a_carOf a_cdrOf a_text seen queue a_edgeCount a_image a_origin a_out a_labelOf a_frame a_frameTail a_digits a_tokType a_tokValue a_openFirst a_openTok a_lastElem a_inTail a_elemTok a_elemNext a_elemTail a_slot a_labelTok := by
    intro n
    induction n with
    | zero => intro i m seen queue h1 h2; omega
    | succ n ih =>
      intro i m seen queue h1 h2 I hr
      by_cases e : i = R
      · subst e
        refine br_t (nI_le (by omega) (by omega)) ?_
        exact xw_fin hc hd I hr (fun seen2 queue2 m2 F => H _ _ _ F)
      · refine br_f (nI_ge (by omega) (by omega)) ⟨vp_in_nI (by omega) (by decide), ?_⟩
        rw [nI_clamp (n := i) (by omega)]
        refine xw_reach I (hg i) (fun q hq e => dl_Rr hq ⟨i, by omega, e⟩) (fun seen1 queue1 m1 I1 hm1 hq1 hs1 hv1 => ?_)
        refine nm_r (nI_1 i) (ih (i + 1) m1 seen1 queue1 (by omega) (by omega) I1 ?_)
        intro q hq ⟨r, hr1, hr2⟩
        by_cases e3 : r = i
        · subst e3; exact hv1 q hq hr2
        · exact hs1 q hq (hr q hq ⟨r, by omega, hr2⟩)
  unfold wpX_walkAll
  refine xw_start ?_
  exact ⟨9, L 9 0 0 (dl_fill a_seen 0 48) a_queue (by omega) (by omega) (dl_xi0 (fun q hq => dl_fillI hq)) (fun q hq ⟨r, hr, _⟩ => absurd hr (by omega))⟩
end DLX
end
section
section DLY
variable {yf_cap yf_limit yf_regs yf_length yf_fault yf_written yf_top yf_tokens : Int32} {ya_reg ya_heads ya_tails ya_text ya_in ya_image ya_out ya_label ya_spell ya_what ya_which ya_type ya_num ya_cell : Nat → Int32}
theorem yw_badT {post : Int32 → Prop} {r : Int32} (h : r < 0 ∨ yf_regs ≤ r) (k : post 1) : wpY_bad post (yf_cap, yf_limit, yf_regs, yf_length, yf_fault, yf_written, yf_top, yf_tokens, ya_reg, ya_heads, ya_tails, ya_text, ya_in, ya_image, ya_out, ya_label, ya_spell, ya_what, ya_which, ya_type, ya_num, ya_cell) r := by
  unfold wpY_bad
  by_cases z : r < 0
  · exact br_t z k
  · rcases h with h | h
    · exact absurd h z
    · exact br_f z (br_f (Int32.not_lt.mpr h) k)
theorem yw_badF {post : Int32 → Prop} {R j : Nat} (hj : j < R) (hR : R < 2 ^ 31) (k : post 0) : wpY_bad post (yf_cap, yf_limit, nI R, yf_length, yf_fault, yf_written, yf_top, yf_tokens, ya_reg, ya_heads, ya_tails, ya_text, ya_in, ya_image, ya_out, ya_label, ya_spell, ya_what, ya_which, ya_type, ya_num, ya_cell) (nI j) := by
  unfold wpY_bad
  exact br_f (nI_pos (by omega)) (br_t (nI_lt hj hR) k)
theorem yw_193 {post : Int32 → SY → Prop} (H : post (nI (dl_ct ya_in)) (yf_cap, yf_limit, yf_regs, yf_length, yf_fault, yf_written, yf_top, yf_tokens, ya_reg, ya_heads, ya_tails, ya_text, ya_in, ya_image, ya_out, ya_label, ya_spell, ya_what, ya_which, ya_type, ya_num, ya_cell)) : ∃ n, wY_graph_193 post yf_cap yf_limit yf_regs yf_length yf_fault yf_written yf_top yf_tokens ya_reg ya_heads ya_tails ya_text ya_in ya_image ya_out ya_label ya_spell ya_what ya_which ya_type ya_num ya_cell n 0 0 := by
  have L : ∀ n i, 49 ≤ n + i → i ≤ 48 → wY_graph_193 post yf_cap yf_limit yf_regs yf_length yf_fault yf_written yf_top yf_tokens ya_reg ya_heads ya_tails ya_text ya_in ya_image ya_out ya_label ya_spell ya_what ya_which ya_type ya_num ya_cell n (nI (dl_sm (dl_on ya_in) i)) (nI i) := by
    intro n
    induction n with
    | zero => intro i h1 h2; omega
    | succ n ih =>
      intro i h1 h2
      by_cases e : i = 48
      · subst e
        exact br_t (nI_le (a := 48) (by omega) (by omega)) H
      · have J := ih (i + 1) (by omega) (by omega)
        rw [dl_smS] at J
        refine br_f (nI_ge (b := 48) (by omega) (by decide)) ⟨vp_in_nI (by omega) (by decide), ?_⟩
        rw [nI_clamp (n := i) (by omega)]
        by_cases z : ya_in i = 0
        · have e1 : dl_on ya_in i = 0 := if_pos z
          rw [e1] at J
          exact br_t z (nm_r (nI_1 i) J)
        · have e1 : dl_on ya_in i = 1 := if_neg z
          rw [e1] at J
          exact br_f z (nm_r (nI_1 _) (nm_r (nI_1 i) J))
  exact ⟨49, L 49 0 (by omega) (by omega)⟩
theorem yw_140 {post : Int32 → SY → Prop} {J85 J95 : Int32 → (Nat → Int32) → (Nat → Int32) → (Nat → Int32) → (Nat → Int32) → (Nat → Int32) → (Nat → Int32) → (Nat → Int32) → (Nat → Int32) → (Nat → Int32) → (Nat → Int32) → (Nat → Int32) → (Nat → Int32) → (Nat → Int32) → (Nat → Int32) → Prop}
    {x3 x4 : Int32} {p : Nat} {inn : Nat → Int32} (hp : p < 48) (hd : dl_V 48 (ya_tails p))
    (h : J95 (nI (p + 1)) ya_reg ya_heads ya_tails ya_text (if inn p = 0 then inn else dl_ad inn (ya_tails p)) ya_image ya_out ya_label ya_spell ya_what ya_which ya_type ya_num ya_cell) : wY_graph_140 post J85 J95 x3 x4 (nI p) yf_cap yf_limit yf_regs yf_length yf_fault yf_written yf_top yf_tokens ya_reg ya_heads ya_tails ya_text inn ya_image ya_out ya_label ya_spell ya_what ya_which ya_type ya_num ya_cell := by
  unfold wY_graph_140
  rw [nI_clamp (n := p) (by omega)]
  refine And.intro (vp_in_nI hp (by decide)) ?_
  by_cases z : inn p = 0
  · rw [if_pos z] at h
    exact br_t z (nm_r (nI_1 p) h)
  · rw [if_neg z] at h
    refine br_f z ⟨vp_in_nI hp (by decide), ?_⟩
    by_cases e : ya_tails p &&& 3 = 3
    · obtain ⟨q, hq, eq⟩ := hd.2 e
      rw [eq, dl_adP hq] at h
      refine br_t e ⟨vp_in_nI hp (by decide), ?_⟩
      rw [eq, dl_pvS q hq, nI_clamp (n := q) (by omega)]
      exact ⟨vp_in_nI hq (by decide), nm_r (by rw [dl_b1]) (nm_r (nI_1 p) h)⟩
    · rw [dl_adN e] at h
      exact br_f e (nm_r (nI_1 p) h)
theorem yw_95 {post : Int32 → SY → Prop} {J85 : Int32 → (Nat → Int32) → (Nat → Int32) → (Nat → Int32) → (Nat → Int32) → (Nat → Int32) → (Nat → Int32) → (Nat → Int32) → (Nat → Int32) → (Nat → Int32) → (Nat → Int32) → (Nat → Int32) → (Nat → Int32) → (Nat → Int32) → (Nat → Int32) → Prop}
    {x3 : Int32} {k : Nat} {ro : Nat → Prop} {base : Nat → Int32} (hc : ∀ i, dl_V 48 (ya_heads i)) (hd : ∀ i, dl_V 48 (ya_tails i))
    (H : ∀ inn, dl_YI ya_heads ya_tails ro inn → dl_YP ya_heads ya_tails base inn 48 → (∀ q, base q = 1 → inn q = 1) → J85 (nI (k + 1)) ya_reg ya_heads ya_tails ya_text inn ya_image ya_out ya_label ya_spell ya_what ya_which ya_type ya_num ya_cell) :
    ∀ n p inn, 49 ≤ n + p → p ≤ 48 → dl_YI ya_heads ya_tails ro inn → dl_YP ya_heads ya_tails base inn p → (∀ q, base q = 1 → inn q = 1) →
      wY_graph_95 post J85 x3 (nI k) yf_cap yf_limit yf_regs yf_length yf_fault yf_written yf_top yf_tokens n (nI p) ya_reg ya_heads ya_tails ya_text inn ya_image ya_out ya_label ya_spell ya_what ya_which ya_type ya_num ya_cell := by
  intro n
  induction n with
  | zero => intro p inn h1 h2; omega
  | succ n ih =>
    intro p inn h1 h2 I P M
    by_cases e : p = 48
    · subst e
      exact br_t (nI_le (a := 48) (by omega) (by omega)) (nm_r (nI_1 k) (H inn I P M))
    · have hp : p < 48 := by omega
      have J := ih (p + 1) (dl_st ya_heads ya_tails inn p) (by omega) (by omega) (dl_yiS I hp (hc p) (hd p)) (dl_ypS I.1 hp (hc p) (hd p) P) (fun q hq => dl_stM (hc p) (hd p) (M q hq))
      refine br_f (nI_ge (b := 48) hp (by decide)) ⟨vp_in_nI hp (by decide), ?_⟩
      rw [nI_clamp (n := p) (by omega)]
      by_cases z : inn p = 0
      · refine br_t z (yw_140 hp (hd p) ?_)
        have e1 : dl_st ya_heads ya_tails inn p = inn := if_pos z
        rw [e1] at J
        rw [if_pos z]; exact J
      · have z1 : inn p = 1 := by rcases I.1 p hp with h | h; exact absurd h z; exact h
        have z2 : ¬ dl_ad inn (ya_heads p) p = 0 := by rw [dl_adM (hc p) z1]; decide
        have e1 : dl_st ya_heads ya_tails inn p = dl_ad (dl_ad inn (ya_heads p)) (ya_tails p) := if_neg z
        rw [e1] at J
        refine br_f z ⟨vp_in_nI hp (by decide), ?_⟩
        by_cases e2 : ya_heads p &&& 3 = 3
        · obtain ⟨q, hq, eq⟩ := (hc p).2 e2
          refine br_t e2 ⟨vp_in_nI hp (by decide), ?_⟩
          have e3 : dl_ad inn (ya_heads p) = upd inn q 1 := by rw [eq]; exact dl_adP hq
          rw [e3] at J z2
          rw [eq, dl_pvS q hq, nI_clamp (n := q) (by omega)]
          refine ⟨vp_in_nI hq (by decide), nm_r (by rw [dl_b1]) (yw_140 hp (hd p) ?_)⟩
          rw [if_neg z2]; exact J
        · refine br_f e2 (yw_140 hp (hd p) ?_)
          rw [dl_adN e2] at J
          rw [if_neg z]; exact J
theorem yw_85 {post : Int32 → SY → Prop} {ro : Nat → Prop} {inn : Nat → Int32} (hc : ∀ i, dl_V 48 (ya_heads i)) (hd : ∀ i, dl_V 48 (ya_tails i)) (I : dl_YI ya_heads ya_tails ro inn) (hr : ∀ q, q < 48 → ro q → inn q = 1)
    (H : ∀ inn, dl_YF ya_heads ya_tails ro inn → post (nI (dl_ct inn)) (yf_cap, yf_limit, yf_regs, yf_length, yf_fault, yf_written, yf_top, yf_tokens, ya_reg, ya_heads, ya_tails, ya_text, inn, ya_image, ya_out, ya_label, ya_spell, ya_what, ya_which, ya_type, ya_num, ya_cell)) : ∃ n, wY_graph_85 post 0 yf_cap yf_limit yf_regs yf_length yf_fault yf_written yf_top yf_tokens n 0 ya_reg ya_heads ya_tails ya_text inn ya_image ya_out ya_label ya_spell ya_what ya_which ya_type ya_num ya_cell := by
  have L : ∀ n k inn, 49 ≤ n + k → k ≤ 48 → dl_YI ya_heads ya_tails ro inn → (∀ q, q < 48 → ro q → inn q = 1) → dl_YN ya_heads ya_tails inn k → wY_graph_85 post 0 yf_cap yf_limit yf_regs yf_length yf_fault yf_written yf_top yf_tokens n (nI k) ya_reg ya_heads ya_tails ya_text inn ya_image ya_out ya_label ya_spell ya_what ya_which ya_type ya_num ya_cell := by
    intro n
    induction n with
    | zero => intro k inn h1 h2; omega
    | succ n ih =>
      intro k inn h1 h2 I hr N
      by_cases e : k = 48
      · subst e
        exact br_t (nI_le (a := 48) (by omega) (by omega)) (yw_193 (H inn (dl_yf I hr N)))
      · refine br_f (nI_ge (b := 48) (by omega) (by decide)) ⟨49, ?_⟩
        refine yw_95 (k := k) (base := inn) (ro := ro) hc hd ?_ 49 0 inn (by omega) (by omega) I dl_yp0 (fun _ h => h)
        intro inn' I' P' M'
        exact ih (k + 1) inn' (by omega) (by omega) I' (fun q hq h => M' q (hr q hq h)) (dl_ynS N P')
  exact ⟨49, L 49 0 inn (by omega) (by omega) I hr (dl_yn0 I.1)⟩
theorem yw_graph {post : Int32 → SY → Prop} {a b : Nat} (ha : a < 8) (hb : b < 8) (hg : ∀ i, dl_V 48 (ya_reg i)) (hc : ∀ i, dl_V 48 (ya_heads i)) (hd : ∀ i, dl_V 48 (ya_tails i))
    (H : ∀ inn, dl_YF ya_heads ya_tails (fun p => ∃ r, r < 8 ∧ a ≤ r ∧ r ≤ b ∧ ya_reg r = dl_pv p) inn → post (nI (dl_ct inn)) (yf_cap, yf_limit, yf_regs, yf_length, yf_fault, yf_written, yf_top, yf_tokens, ya_reg, ya_heads, ya_tails, ya_text, inn, ya_image, ya_out, ya_label, ya_spell, ya_what, ya_which, ya_type, ya_num, ya_cell)) :
    wpY_graph post (yf_cap, yf_limit, yf_regs, yf_length, yf_fault, yf_written, yf_top, yf_tokens, ya_reg, ya_heads, ya_tails, ya_text, ya_in, ya_image, ya_out, ya_label, ya_spell, ya_what, ya_which, ya_type, ya_num, ya_cell) (nI a) (nI b) := by
  have L2 : ∀ n i inn, 9 ≤ n + i → i ≤ 8 → dl_YI ya_heads ya_tails (fun p => ∃ r, r < 8 ∧ a ≤ r ∧ r ≤ b ∧ ya_reg r = dl_pv p) inn → (∀ q, q < 48 → (∃ r, r < i ∧ a ≤ r ∧ r ≤ b ∧ ya_reg r = dl_pv q) → inn q = 1) →
      wY_graph_29 post (nI a) (nI b) 0 yf_cap yf_limit yf_regs yf_length yf_fault yf_written yf_top yf_tokens n (nI i) ya_reg ya_heads ya_tails ya_text inn ya_image ya_out ya_label ya_spell ya_what ya_which ya_type ya_num ya_cell := by
    intro n
    induction n with
    | zero => intro i inn h1 h2; omega
    | succ n ih =>
      intro i inn h1 h2 I hr
      by_cases e : i = 8
      · subst e
        exact br_t (nI_le (a := 8) (by omega) (by omega)) (yw_85 hc hd I hr H)
      · refine br_f (nI_ge (b := 8) (by omega) (by decide)) ?_
        by_cases h3 : i < a
        · refine br_t (nI_lt h3 (by omega)) (nm_r (nI_1 i) (ih (i + 1) inn (by omega) (by omega) I ?_))
          intro q hq ⟨r, hr1, hr2, hr3, hr4⟩
          omega
        · refine br_f (nI_nlt (by omega) (by omega)) ?_
          by_cases h4 : b < i
          · refine br_t (nI_lt h4 (by omega)) (nm_r (nI_1 i) (ih (i + 1) inn (by omega) (by omega) I ?_))
            intro q hq ⟨r, hr1, hr2, hr3, hr4⟩
            exact hr q hq ⟨r, by omega, hr2, hr3, hr4⟩
          · refine br_f (nI_nlt (by omega) (by omega)) ⟨vp_in_nI (by omega) (by decide), ?_⟩
            have J := ih (i + 1) (dl_ad inn (ya_reg i)) (by omega) (by omega) (dl_yiA I (hg i) (fun q hq e => dl_Rr hq ⟨i, by omega, by omega, by omega, e⟩)) (by
              intro q hq ⟨r, hr1, hr2, hr3, hr4⟩
              by_cases e3 : r = i
              · subst e3; rw [hr4]; exact dl_adH hq
              · exact dl_adM (hg i) (hr q hq ⟨r, by omega, hr2, hr3, hr4⟩))
            rw [nI_clamp (n := i) (by omega)]
            by_cases e2 : ya_reg i &&& 3 = 3
            · obtain ⟨q, hq, eq⟩ := (hg i).2 e2
              have e3 : dl_ad inn (ya_reg i) = upd inn q 1 := by rw [eq]; exact dl_adP hq
              rw [e3] at J
              refine br_t e2 ⟨vp_in_nI (by omega) (by decide), ?_⟩
              rw [eq, dl_pvS q hq, nI_clamp (n := q) (by omega)]
              exact ⟨vp_in_nI hq (by decide), nm_r (by rw [dl_b1]) (nm_r (nI_1 i) J)⟩
            · rw [dl_adN e2] at J
              exact br_f e2 (nm_r (nI_1 i) J)
  have L : ∀ n i, 49 ≤ n + i → i ≤ 48 → wY_graph_5 post (nI a) (nI b) 0 yf_cap yf_limit yf_regs yf_length yf_fault yf_written yf_top yf_tokens n (nI i) ya_reg ya_heads ya_tails ya_text (dl_fill ya_in 0 i) ya_image ya_out ya_label ya_spell ya_what ya_which ya_type ya_num ya_cell := by
    intro n
    induction n with
    | zero => intro i h1 h2; omega
    | succ n ih =>
      intro i h1 h2
      by_cases e : i = 48
      · subst e
        refine br_t (nI_le (a := 48) (by omega) (by omega)) ⟨9, ?_⟩
        refine L2 9 0 _ (by omega) (by omega) ⟨fun q hq => Or.inl (dl_fillI hq), fun q hq e => ?_⟩ (fun q hq ⟨r, hr, _⟩ => absurd hr (by omega))
        rw [dl_fillI hq] at e; exact absurd e (by decide)
      · refine br_f (nI_ge (b := 48) (by omega) (by decide)) ⟨vp_in_nI (by omega) (by decide), nm_r (e' := dl_fill ya_in 0 (i + 1)) ?_ (nm_r (nI_1 i) (ih (i + 1) (by omega) (by omega)))⟩
        rw [nI_clamp (by omega), dl_b0, dl_fillS]
  unfold wpY_graph
  have := L 49 0 (by omega) (by omega)
  rw [dl_fill0] at this
  exact ⟨49, this⟩
end DLY
end
section
section DLG
variable {cap limit regs len : Nat} {f_fault f_found f_outLen f_nextLabel f_frames f_nextValue f_scanType f_scanValue f_tokens f_place f_depth f_elems yf_written yf_top yf_tokens : Int32} {a_reg a_carOf a_cdrOf a_text a_seen a_queue a_edgeCount a_image a_origin a_out a_labelOf a_frame a_frameTail a_digits a_tokType a_tokValue a_openFirst a_openTok a_lastElem a_inTail a_elemTok a_elemNext a_elemTail a_slot a_labelTok ya_in ya_image ya_what ya_which ya_type ya_num ya_cell : Nat → Int32}
def dl_G (cap limit regs len : Nat) (reg car cdr : Nat → Int32) : Prop :=
  4 ≤ cap ∧ cap ≤ 48 ∧ 32 ≤ limit ∧ limit ≤ 256 ∧ 2 ≤ regs ∧ regs ≤ 8 ∧ len ≤ limit ∧ (∀ i, dl_V cap (reg i)) ∧ (∀ i, dl_V cap (car i)) ∧ (∀ i, dl_V cap (cdr i))
/-- the relation: near equality; the rest is scratch -/
def i_Rel (_ : Nat) (u : SX) (v : SY) : Prop := match u, v with
  | (f_cap, f_limit, f_regs, f_textLen, f_fault, f_found, f_outLen, f_nextLabel, f_frames, f_nextValue, f_scanType, f_scanValue, f_tokens, f_place, f_depth, f_elems, a_reg, a_carOf, a_cdrOf, a_text, a_seen, a_queue, a_edgeCount, a_image, a_origin, a_out, a_labelOf, a_frame, a_frameTail, a_digits, a_tokType, a_tokValue, a_openFirst, a_openTok, a_lastElem, a_inTail, a_elemTok, a_elemNext, a_elemTail, a_slot, a_labelTok), (yf_cap, yf_limit, yf_regs, yf_length, yf_fault, yf_written, yf_top, yf_tokens, ya_reg, ya_heads, ya_tails, ya_text, ya_in, ya_image, ya_out, ya_label, ya_spell, ya_what, ya_which, ya_type, ya_num, ya_cell) =>
    ∃ cap limit regs len : Nat, (f_cap = nI cap ∧ yf_cap = nI cap ∧ f_limit = nI limit ∧ yf_limit = nI limit ∧ f_regs = nI regs ∧ yf_regs = nI regs ∧ f_textLen = nI len ∧ yf_length = nI len) ∧
      (yf_fault = f_fault ∧ ya_reg = a_reg ∧ ya_heads = a_carOf ∧ ya_tails = a_cdrOf ∧ ya_text = a_text ∧ ya_out = a_out ∧ ya_label = a_labelOf ∧ ya_spell = a_digits) ∧
      dl_G cap limit regs len a_reg a_carOf a_cdrOf
theorem zz_el {k : Nat} {u : SX} {v : SY} {P : SX → SY → Prop} (h : ∀ (cap limit regs len : Nat) (f_fault f_found f_outLen f_nextLabel f_frames f_nextValue f_scanType f_scanValue f_tokens f_place f_depth f_elems : Int32) (a_reg a_carOf a_cdrOf a_text a_seen a_queue a_edgeCount a_image a_origin a_out a_labelOf a_frame a_frameTail a_digits a_tokType a_tokValue a_openFirst a_openTok a_lastElem a_inTail a_elemTok a_elemNext a_elemTail a_slot a_labelTok : Nat → Int32) (yf_written yf_top yf_tokens : Int32) (ya_in ya_image ya_what ya_which ya_type ya_num ya_cell : Nat → Int32), dl_G cap limit regs len a_reg a_carOf a_cdrOf → P (nI cap, nI limit, nI regs, nI len, f_fault, f_found, f_outLen, f_nextLabel, f_frames, f_nextValue, f_scanType, f_scanValue, f_tokens, f_place, f_depth, f_elems, a_reg, a_carOf, a_cdrOf, a_text, a_seen, a_queue, a_edgeCount, a_image, a_origin, a_out, a_labelOf, a_frame, a_frameTail, a_digits, a_tokType, a_tokValue, a_openFirst, a_openTok, a_lastElem, a_inTail, a_elemTok, a_elemNext, a_elemTail, a_slot, a_labelTok) (nI cap, nI limit, nI regs, nI len, f_fault, yf_written, yf_top, yf_tokens, a_reg, a_carOf, a_cdrOf, a_text, ya_in, ya_image, a_out, a_labelOf, a_digits, ya_what, ya_which, ya_type, ya_num, ya_cell)) (I : i_Rel k u v) : P u v :=
  match u, v, I with
  | (f_cap, f_limit, f_regs, f_textLen, f_fault, f_found, f_outLen, f_nextLabel, f_frames, f_nextValue, f_scanType, f_scanValue, f_tokens, f_place, f_depth, f_elems, a_reg, a_carOf, a_cdrOf, a_text, a_seen, a_queue, a_edgeCount, a_image, a_origin, a_out, a_labelOf, a_frame, a_frameTail, a_digits, a_tokType, a_tokValue, a_openFirst, a_openTok, a_lastElem, a_inTail, a_elemTok, a_elemNext, a_elemTail, a_slot, a_labelTok), (yf_cap, yf_limit, yf_regs, yf_length, yf_fault, yf_written, yf_top, yf_tokens, ya_reg, ya_heads, ya_tails, ya_text, ya_in, ya_image, ya_out, ya_label, ya_spell, ya_what, ya_which, ya_type, ya_num, ya_cell), ⟨cap, limit, regs, len, ⟨h1, h2, h3, h4, h5, h6, h7, h8⟩, ⟨e1, e2, e3, e4, e5, e6, e7, e8⟩, g⟩ => by
    subst h1 h2 h3 h4 h5 h6 h7 h8 e1 e2 e3 e4 e5 e6 e7 e8
    exact h _ _ _ _ _ _ _ _ _ _ _ _ _ _ _ _ _ _ _ _ _ _ _ _ _ _ _ _ _ _ _ _ _ _ _ _ _ _ _ _ _ _ _ _ _ _ _ _ _ _ _ g
theorem zz_in {k : Nat} (g : dl_G cap limit regs len a_reg a_carOf a_cdrOf) : i_Rel k (nI cap, nI limit, nI regs, nI len, f_fault, f_found, f_outLen, f_nextLabel, f_frames, f_nextValue, f_scanType, f_scanValue, f_tokens, f_place, f_depth, f_elems, a_reg, a_carOf, a_cdrOf, a_text, a_seen, a_queue, a_edgeCount, a_image, a_origin, a_out, a_labelOf, a_frame, a_frameTail, a_digits, a_tokType, a_tokValue, a_openFirst, a_openTok, a_lastElem, a_inTail, a_elemTok, a_elemNext, a_elemTail, a_slot, a_labelTok) (nI cap, nI limit, nI regs, nI len, f_fault, yf_written, yf_top, yf_tokens, a_reg, a_carOf, a_cdrOf, a_text, ya_in, ya_image, a_out, a_labelOf, a_digits, ya_what, ya_which, ya_type, ya_num, ya_cell) :=
  ⟨cap, limit, regs, len, ⟨rfl, rfl, rfl, rfl, rfl, rfl, rfl, rfl⟩, ⟨rfl, rfl, rfl, rfl, rfl, rfl, rfl, rfl⟩, g⟩
theorem i_up {k : Nat} {u : SX} {v : SY} (h : i_Rel k u v) : i_Rel (k + 4) u v := h
theorem dl_gV {cap limit regs len : Nat} {reg car cdr : Nat → Int32} (g : dl_G cap limit regs len reg car cdr) : (∀ i, dl_V 48 (reg i)) ∧ (∀ i, dl_V 48 (car i)) ∧ (∀ i, dl_V 48 (cdr i)) :=
  ⟨fun i => dl_Vm (g.2.2.2.2.2.2.2.1 i) g.2.1, fun i => dl_Vm (g.2.2.2.2.2.2.2.2.1 i) g.2.1, fun i => dl_Vm (g.2.2.2.2.2.2.2.2.2 i) g.2.1⟩
theorem dl_gR {cap limit regs len j : Nat} {reg car cdr : Nat → Int32} {v : Int32} (g : dl_G cap limit regs len reg car cdr) (h : dl_V cap v) : dl_G cap limit regs len (upd reg j v) car cdr := by
  obtain ⟨g1, g2, g3, g4, g5, g6, g7, g8, g9, g10⟩ := g
  exact ⟨g1, g2, g3, g4, g5, g6, g7, dl_Vu g8 h, g9, g10⟩
theorem dl_gA {cap limit regs len j : Nat} {reg car cdr : Nat → Int32} {v : Int32} (g : dl_G cap limit regs len reg car cdr) (h : dl_V cap v) : dl_G cap limit regs len reg (upd car j v) cdr := by
  obtain ⟨g1, g2, g3, g4, g5, g6, g7, g8, g9, g10⟩ := g
  exact ⟨g1, g2, g3, g4, g5, g6, g7, g8, dl_Vu g9 h, g10⟩
theorem dl_gD {cap limit regs len j : Nat} {reg car cdr : Nat → Int32} {v : Int32} (g : dl_G cap limit regs len reg car cdr) (h : dl_V cap v) : dl_G cap limit regs len reg car (upd cdr j v) := by
  obtain ⟨g1, g2, g3, g4, g5, g6, g7, g8, g9, g10⟩ := g
  exact ⟨g1, g2, g3, g4, g5, g6, g7, g8, g9, dl_Vu g10 h⟩
theorem dl_gL {cap limit regs len len' : Nat} {reg car cdr : Nat → Int32} (g : dl_G cap limit regs len reg car cdr) (h : len' ≤ limit) : dl_G cap limit regs len' reg car cdr := by
  obtain ⟨g1, g2, g3, g4, g5, g6, g7, g8, g9, g10⟩ := g
  exact ⟨g1, g2, g3, g4, g5, g6, h, g8, g9, g10⟩
end DLG
section DLC
/-! the constructor's clamp -/
def dl_clamp (x a b : Int32) : Int32 := if a ≤ x then (if x ≤ b then x else b) else a
theorem xw_clamp {post : Int32 → Prop} {u : SX} {x a b : Int32} (h : post (dl_clamp x a b)) : wpX_clamp post u x a b := by
  unfold dl_clamp at h
  by_cases h1 : a ≤ x
  · rw [if_pos h1] at h
    by_cases h2 : x ≤ b
    · rw [if_pos h2] at h; exact br_t h1 (br_t h2 h)
    · rw [if_neg h2] at h; exact br_t h1 (br_f h2 h)
  · rw [if_neg h1] at h; exact br_f h1 h
theorem yw_clamp {post : Int32 → Prop} {u : SY} {x a b : Int32} (h : post (dl_clamp x a b)) : wpY_clamp post u x a b := by
  unfold dl_clamp at h
  by_cases h1 : a ≤ x
  · rw [if_pos h1] at h
    by_cases h2 : x ≤ b
    · rw [if_pos h2] at h; exact br_t h1 (br_t h2 h)
    · rw [if_neg h2] at h; exact br_t h1 (br_f h2 h)
  · rw [if_neg h1] at h; exact br_f h1 h
theorem dl_clampN {x : Int32} {a b : Nat} (hab : a ≤ b) (hb : b < 2 ^ 31) : ∃ n : Nat, a ≤ n ∧ n ≤ b ∧ dl_clamp x (nI a) (nI b) = nI n := by
  unfold dl_clamp
  by_cases h1 : nI a ≤ x
  · rw [if_pos h1]
    by_cases h2 : x ≤ nI b
    · rw [if_pos h2]
      have h0 : ¬ x < 0 := fun h => by
        have := Int32.lt_of_le_of_lt h1 h
        exact absurd this (nI_pos (by omega))
      obtain ⟨j, hj, rfl⟩ := nI_of h0
      exact ⟨j, (nI_leI (by omega) hj).mp h1, (nI_leI hj hb).mp h2, rfl⟩
    · rw [if_neg h2]; exact ⟨b, hab, Nat.le_refl _, rfl⟩
  · rw [if_neg h1]; exact ⟨a, Nat.le_refl _, hab, rfl⟩
theorem i_vc0 (k0 : Int32) (k1 : Int32) (k2 : Int32) : wpX_init (fun u => wpY_init (fun v => i_Rel 3 u v) k0 k1 k2) k0 k1 k2 := by
  obtain ⟨c, hc1, hc2, ec⟩ := dl_clampN (x := k0) (a := 4) (b := 48) (by omega) (by omega)
  obtain ⟨l, hl1, hl2, el⟩ := dl_clampN (x := k1) (a := 32) (b := 256) (by omega) (by omega)
  obtain ⟨r, hr1, hr2, er⟩ := dl_clampN (x := k2) (a := 2) (b := 8) (by omega) (by omega)
  have ec' : dl_clamp k0 4 48 = nI c := ec
  have el' : dl_clamp k1 32 256 = nI l := el
  have er' : dl_clamp k2 2 8 = nI r := er
  unfold wpX_init
  refine xw_clamp ?_
  refine xw_clamp ?_
  refine xw_clamp ?_
  unfold wpY_init
  refine yw_clamp ?_
  refine yw_clamp ?_
  refine yw_clamp ?_
  rw [ec', el', er']
  exact zz_in (len := 0) ⟨hc1, hc2, hl1, hl2, hr1, hr2, Nat.zero_le _, fun _ => dl_V0 _, fun _ => dl_V0 _, fun _ => dl_V0 _⟩
end DLC
end
section
section DLBAD
def dl_bad (R : Nat) (x : Int32) : Prop := x < 0 ∨ nI R ≤ x
theorem dl_good {R : Nat} {x : Int32} (hR : R < 2 ^ 31) (h : ¬ dl_bad R x) : ∃ j, j < R ∧ x = nI j := by
  rcases pk_ix x hR with b | b | b
  · exact absurd (Or.inl b) h
  · exact absurd (Or.inr b) h
  · exact b
section
variable {f_cap f_limit f_regs f_textLen f_fault f_found f_outLen f_nextLabel f_frames f_nextValue f_scanType f_scanValue f_tokens f_place f_depth f_elems : Int32} {a_reg a_carOf a_cdrOf a_text a_seen a_queue a_edgeCount a_image a_origin a_out a_labelOf a_frame a_frameTail a_digits a_tokType a_tokValue a_openFirst a_openTok a_lastElem a_inTail a_elemTok a_elemNext a_elemTail a_slot a_labelTok : Nat → Int32}
theorem xw_setB {post : Int32 → SX → Prop} {R : Nat} {v1 v2 v3 : Int32} (hR : R < 2 ^ 31) (h : dl_bad R v1) (k : post (-1) (f_cap, f_limit, nI R, f_textLen, f_fault, f_found, f_outLen, f_nextLabel, f_frames, f_nextValue, f_scanType, f_scanValue, f_tokens, f_place, f_depth, f_elems, a_reg, a_carOf, a_cdrOf, a_text, a_seen, a_queue, a_edgeCount, a_image, a_origin, a_out, a_labelOf, a_frame, a_frameTail, a_digits, a_tokType, a_tokValue, a_openFirst, a_openTok, a_lastElem, a_inTail, a_elemTok, a_elemNext, a_elemTail, a_slot, a_labelTok)) : wpX_set post (f_cap, f_limit, nI R, f_textLen, f_fault, f_found, f_outLen, f_nextLabel, f_frames, f_nextValue, f_scanType, f_scanValue, f_tokens, f_place, f_depth, f_elems, a_reg, a_carOf, a_cdrOf, a_text, a_seen, a_queue, a_edgeCount, a_image, a_origin, a_out, a_labelOf, a_frame, a_frameTail, a_digits, a_tokType, a_tokValue, a_openFirst, a_openTok, a_lastElem, a_inTail, a_elemTok, a_elemNext, a_elemTail, a_slot, a_labelTok) v1 v2 v3 := by
  unfold wpX_set
  exact xw_badT h (br_f dl_10 k)
theorem xw_moveB {post : Int32 → SX → Prop} {R : Nat} {v1 v2 : Int32} (hR : R < 2 ^ 31) (h : dl_bad R v1 ∨ dl_bad R v2) (k : post (-1) (f_cap, f_limit, nI R, f_textLen, f_fault, f_found, f_outLen, f_nextLabel, f_frames, f_nextValue, f_scanType, f_scanValue, f_tokens, f_place, f_depth, f_elems, a_reg, a_carOf, a_cdrOf, a_text, a_seen, a_queue, a_edgeCount, a_image, a_origin, a_out, a_labelOf, a_frame, a_frameTail, a_digits, a_tokType, a_tokValue, a_openFirst, a_openTok, a_lastElem, a_inTail, a_elemTok, a_elemNext, a_elemTail, a_slot, a_labelTok)) : wpX_move post (f_cap, f_limit, nI R, f_textLen, f_fault, f_found, f_outLen, f_nextLabel, f_frames, f_nextValue, f_scanType, f_scanValue, f_tokens, f_place, f_depth, f_elems, a_reg, a_carOf, a_cdrOf, a_text, a_seen, a_queue, a_edgeCount, a_image, a_origin, a_out, a_labelOf, a_frame, a_frameTail, a_digits, a_tokType, a_tokValue, a_openFirst, a_openTok, a_lastElem, a_inTail, a_elemTok, a_elemNext, a_elemTail, a_slot, a_labelTok) v1 v2 := by
  unfold wpX_move
  by_cases c0 : dl_bad R v1
  · exact xw_badT c0 (br_f dl_10 k)
  · obtain ⟨j, hj, rfl⟩ := dl_good hR c0
    replace h := h.resolve_left c0
    refine xw_badF hj hR (br_t rfl ?_)
    exact xw_badT h (br_f dl_10 k)
theorem xw_consB {post : Int32 → SX → Prop} {R : Nat} {v1 v2 v3 : Int32} (hR : R < 2 ^ 31) (h : dl_bad R v1 ∨ dl_bad R v2 ∨ dl_bad R v3) (k : post (-1) (f_cap, f_limit, nI R, f_textLen, f_fault, f_found, f_outLen, f_nextLabel, f_frames, f_nextValue, f_scanType, f_scanValue, f_tokens, f_place, f_depth, f_elems, a_reg, a_carOf, a_cdrOf, a_text, a_seen, a_queue, a_edgeCount, a_image, a_origin, a_out, a_labelOf, a_frame, a_frameTail, a_digits, a_tokType, a_tokValue, a_openFirst, a_openTok, a_lastElem, a_inTail, a_elemTok, a_elemNext, a_elemTail, a_slot, a_labelTok)) : wpX_cons post (f_cap, f_limit, nI R, f_textLen, f_fault, f_found, f_outLen, f_nextLabel, f_frames, f_nextValue, f_scanType, f_scanValue, f_tokens, f_place, f_depth, f_elems, a_reg, a_carOf, a_cdrOf, a_text, a_seen, a_queue, a_edgeCount, a_image, a_origin, a_out, a_labelOf, a_frame, a_frameTail, a_digits, a_tokType, a_tokValue, a_openFirst, a_openTok, a_lastElem, a_inTail, a_elemTok, a_elemNext, a_elemTail, a_slot, a_labelTok) v1 v2 v3 := by
  unfold wpX_cons
  by_cases c0 : dl_bad R v1
  · exact xw_badT c0 (br_f dl_10 k)
  · obtain ⟨j, hj, rfl⟩ := dl_good hR c0
    replace h := h.resolve_left c0
    refine xw_badF hj hR (br_t rfl ?_)
    by_cases c1 : dl_bad R v2
    · exact xw_badT c1 (br_f dl_10 k)
    · obtain ⟨j, hj, rfl⟩ := dl_good hR c1
      replace h := h.resolve_left c1
      refine xw_badF hj hR (br_t rfl ?_)
      exact xw_badT h (br_f dl_10 k)
theorem xw_carB {post : Int32 → SX → Prop} {R : Nat} {v1 v2 : Int32} (hR : R < 2 ^ 31) (h : dl_bad R v1 ∨ dl_bad R v2) (k : post (-1) (f_cap, f_limit, nI R, f_textLen, f_fault, f_found, f_outLen, f_nextLabel, f_frames, f_nextValue, f_scanType, f_scanValue, f_tokens, f_place, f_depth, f_elems, a_reg, a_carOf, a_cdrOf, a_text, a_seen, a_queue, a_edgeCount, a_image, a_origin, a_out, a_labelOf, a_frame, a_frameTail, a_digits, a_tokType, a_tokValue, a_openFirst, a_openTok, a_lastElem, a_inTail, a_elemTok, a_elemNext, a_elemTail, a_slot, a_labelTok)) : wpX_car post (f_cap, f_limit, nI R, f_textLen, f_fault, f_found, f_outLen, f_nextLabel, f_frames, f_nextValue, f_scanType, f_scanValue, f_tokens, f_place, f_depth, f_elems, a_reg, a_carOf, a_cdrOf, a_text, a_seen, a_queue, a_edgeCount, a_image, a_origin, a_out, a_labelOf, a_frame, a_frameTail, a_digits, a_tokType, a_tokValue, a_openFirst, a_openTok, a_lastElem, a_inTail, a_elemTok, a_elemNext, a_elemTail, a_slot, a_labelTok) v1 v2 := by
  unfold wpX_car
  by_cases c0 : dl_bad R v1
  · exact xw_badT c0 (br_f dl_10 k)
  · obtain ⟨j, hj, rfl⟩ := dl_good hR c0
    replace h := h.resolve_left c0
    refine xw_badF hj hR (br_t rfl ?_)
    exact xw_badT h (br_f dl_10 k)
theorem xw_cdrB {post : Int32 → SX → Prop} {R : Nat} {v1 v2 : Int32} (hR : R < 2 ^ 31) (h : dl_bad R v1 ∨ dl_bad R v2) (k : post (-1) (f_cap, f_limit, nI R, f_textLen, f_fault, f_found, f_outLen, f_nextLabel, f_frames, f_nextValue, f_scanType, f_scanValue, f_tokens, f_place, f_depth, f_elems, a_reg, a_carOf, a_cdrOf, a_text, a_seen, a_queue, a_edgeCount, a_image, a_origin, a_out, a_labelOf, a_frame, a_frameTail, a_digits, a_tokType, a_tokValue, a_openFirst, a_openTok, a_lastElem, a_inTail, a_elemTok, a_elemNext, a_elemTail, a_slot, a_labelTok)) : wpX_cdr post (f_cap, f_limit, nI R, f_textLen, f_fault, f_found, f_outLen, f_nextLabel, f_frames, f_nextValue, f_scanType, f_scanValue, f_tokens, f_place, f_depth, f_elems, a_reg, a_carOf, a_cdrOf, a_text, a_seen, a_queue, a_edgeCount, a_image, a_origin, a_out, a_labelOf, a_frame, a_frameTail, a_digits, a_tokType, a_tokValue, a_openFirst, a_openTok, a_lastElem, a_inTail, a_elemTok, a_elemNext, a_elemTail, a_slot, a_labelTok) v1 v2 := by
  unfold wpX_cdr
  by_cases c0 : dl_bad R v1
  · exact xw_badT c0 (br_f dl_10 k)
  · obtain ⟨j, hj, rfl⟩ := dl_good hR c0
    replace h := h.resolve_left c0
    refine xw_badF hj hR (br_t rfl ?_)
    exact xw_badT h (br_f dl_10 k)
theorem xw_setCarB {post : Int32 → SX → Prop} {R : Nat} {v1 v2 : Int32} (hR : R < 2 ^ 31) (h : dl_bad R v1 ∨ dl_bad R v2) (k : post (-1) (f_cap, f_limit, nI R, f_textLen, f_fault, f_found, f_outLen, f_nextLabel, f_frames, f_nextValue, f_scanType, f_scanValue, f_tokens, f_place, f_depth, f_elems, a_reg, a_carOf, a_cdrOf, a_text, a_seen, a_queue, a_edgeCount, a_image, a_origin, a_out, a_labelOf, a_frame, a_frameTail, a_digits, a_tokType, a_tokValue, a_openFirst, a_openTok, a_lastElem, a_inTail, a_elemTok, a_elemNext, a_elemTail, a_slot, a_labelTok)) : wpX_setCar post (f_cap, f_limit, nI R, f_textLen, f_fault, f_found, f_outLen, f_nextLabel, f_frames, f_nextValue, f_scanType, f_scanValue, f_tokens, f_place, f_depth, f_elems, a_reg, a_carOf, a_cdrOf, a_text, a_seen, a_queue, a_edgeCount, a_image, a_origin, a_out, a_labelOf, a_frame, a_frameTail, a_digits, a_tokType, a_tokValue, a_openFirst, a_openTok, a_lastElem, a_inTail, a_elemTok, a_elemNext, a_elemTail, a_slot, a_labelTok) v1 v2 := by
  unfold wpX_setCar
  by_cases c0 : dl_bad R v1
  · exact xw_badT c0 (br_f dl_10 k)
  · obtain ⟨j, hj, rfl⟩ := dl_good hR c0
    replace h := h.resolve_left c0
    refine xw_badF hj hR (br_t rfl ?_)
    exact xw_badT h (br_f dl_10 k)
theorem xw_setCdrB {post : Int32 → SX → Prop} {R : Nat} {v1 v2 : Int32} (hR : R < 2 ^ 31) (h : dl_bad R v1 ∨ dl_bad R v2) (k : post (-1) (f_cap, f_limit, nI R, f_textLen, f_fault, f_found, f_outLen, f_nextLabel, f_frames, f_nextValue, f_scanType, f_scanValue, f_tokens, f_place, f_depth, f_elems, a_reg, a_carOf, a_cdrOf, a_text, a_seen, a_queue, a_edgeCount, a_image, a_origin, a_out, a_labelOf, a_frame, a_frameTail, a_digits, a_tokType, a_tokValue, a_openFirst, a_openTok, a_lastElem, a_inTail, a_elemTok, a_elemNext, a_elemTail, a_slot, a_labelTok)) : wpX_setCdr post (f_cap, f_limit, nI R, f_textLen, f_fault, f_found, f_outLen, f_nextLabel, f_frames, f_nextValue, f_scanType, f_scanValue, f_tokens, f_place, f_depth, f_elems, a_reg, a_carOf, a_cdrOf, a_text, a_seen, a_queue, a_edgeCount, a_image, a_origin, a_out, a_labelOf, a_frame, a_frameTail, a_digits, a_tokType, a_tokValue, a_openFirst, a_openTok, a_lastElem, a_inTail, a_elemTok, a_elemNext, a_elemTail, a_slot, a_labelTok) v1 v2 := by
  unfold wpX_setCdr
  by_cases c0 : dl_bad R v1
  · exact xw_badT c0 (br_f dl_10 k)
  · obtain ⟨j, hj, rfl⟩ := dl_good hR c0
    replace h := h.resolve_left c0
    refine xw_badF hj hR (br_t rfl ?_)
    exact xw_badT h (br_f dl_10 k)
theorem xw_kindB {post : Int32 → Prop} {R : Nat} {v1 : Int32} (hR : R < 2 ^ 31) (h : dl_bad R v1) (k : post (-1)) : wpX_kind post (f_cap, f_limit, nI R, f_textLen, f_fault, f_found, f_outLen, f_nextLabel, f_frames, f_nextValue, f_scanType, f_scanValue, f_tokens, f_place, f_depth, f_elems, a_reg, a_carOf, a_cdrOf, a_text, a_seen, a_queue, a_edgeCount, a_image, a_origin, a_out, a_labelOf, a_frame, a_frameTail, a_digits, a_tokType, a_tokValue, a_openFirst, a_openTok, a_lastElem, a_inTail, a_elemTok, a_elemNext, a_elemTail, a_slot, a_labelTok) v1 := by
  unfold wpX_kind
  exact xw_badT h (br_f dl_10 k)
theorem xw_valueOfB {post : Int32 → Prop} {R : Nat} {v1 : Int32} (hR : R < 2 ^ 31) (h : dl_bad R v1) (k : post (0)) : wpX_valueOf post (f_cap, f_limit, nI R, f_textLen, f_fault, f_found, f_outLen, f_nextLabel, f_frames, f_nextValue, f_scanType, f_scanValue, f_tokens, f_place, f_depth, f_elems, a_reg, a_carOf, a_cdrOf, a_text, a_seen, a_queue, a_edgeCount, a_image, a_origin, a_out, a_labelOf, a_frame, a_frameTail, a_digits, a_tokType, a_tokValue, a_openFirst, a_openTok, a_lastElem, a_inTail, a_elemTok, a_elemNext, a_elemTail, a_slot, a_labelTok) v1 := by
  unfold wpX_valueOf
  exact xw_badT h (br_f dl_10 k)
theorem xw_sameB {post : Int32 → Prop} {R : Nat} {v1 v2 : Int32} (hR : R < 2 ^ 31) (h : dl_bad R v1 ∨ dl_bad R v2) (k : post (0)) : wpX_same post (f_cap, f_limit, nI R, f_textLen, f_fault, f_found, f_outLen, f_nextLabel, f_frames, f_nextValue, f_scanType, f_scanValue, f_tokens, f_place, f_depth, f_elems, a_reg, a_carOf, a_cdrOf, a_text, a_seen, a_queue, a_edgeCount, a_image, a_origin, a_out, a_labelOf, a_frame, a_frameTail, a_digits, a_tokType, a_tokValue, a_openFirst, a_openTok, a_lastElem, a_inTail, a_elemTok, a_elemNext, a_elemTail, a_slot, a_labelTok) v1 v2 := by
  unfold wpX_same
  by_cases c0 : dl_bad R v1
  · exact xw_badT c0 (br_f dl_10 k)
  · obtain ⟨j, hj, rfl⟩ := dl_good hR c0
    replace h := h.resolve_left c0
    refine xw_badF hj hR (br_t rfl ?_)
    exact xw_badT h (br_f dl_10 k)
theorem xw_alikeB {post : Int32 → SX → Prop} {R : Nat} {v1 v2 : Int32} (hR : R < 2 ^ 31) (h : dl_bad R v1 ∨ dl_bad R v2) (k : post (0) (f_cap, f_limit, nI R, f_textLen, f_fault, f_found, f_outLen, f_nextLabel, f_frames, f_nextValue, f_scanType, f_scanValue, f_tokens, f_place, f_depth, f_elems, a_reg, a_carOf, a_cdrOf, a_text, a_seen, a_queue, a_edgeCount, a_image, a_origin, a_out, a_labelOf, a_frame, a_frameTail, a_digits, a_tokType, a_tokValue, a_openFirst, a_openTok, a_lastElem, a_inTail, a_elemTok, a_elemNext, a_elemTail, a_slot, a_labelTok)) : wpX_alike post (f_cap, f_limit, nI R, f_textLen, f_fault, f_found, f_outLen, f_nextLabel, f_frames, f_nextValue, f_scanType, f_scanValue, f_tokens, f_place, f_depth, f_elems, a_reg, a_carOf, a_cdrOf, a_text, a_seen, a_queue, a_edgeCount, a_image, a_origin, a_out, a_labelOf, a_frame, a_frameTail, a_digits, a_tokType, a_tokValue, a_openFirst, a_openTok, a_lastElem, a_inTail, a_elemTok, a_elemNext, a_elemTail, a_slot, a_labelTok) v1 v2 := by
  unfold wpX_alike
  by_cases c0 : dl_bad R v1
  · exact xw_badT c0 (br_f dl_10 k)
  · obtain ⟨j, hj, rfl⟩ := dl_good hR c0
    replace h := h.resolve_left c0
    refine xw_badF hj hR (br_t rfl ?_)
    exact xw_badT h (br_f dl_10 k)
theorem xw_sizeB {post : Int32 → SX → Prop} {R : Nat} {v1 : Int32} (hR : R < 2 ^ 31) (h : dl_bad R v1) (k : post (-1) (f_cap, f_limit, nI R, f_textLen, f_fault, f_found, f_outLen, f_nextLabel, f_frames, f_nextValue, f_scanType, f_scanValue, f_tokens, f_place, f_depth, f_elems, a_reg, a_carOf, a_cdrOf, a_text, a_seen, a_queue, a_edgeCount, a_image, a_origin, a_out, a_labelOf, a_frame, a_frameTail, a_digits, a_tokType, a_tokValue, a_openFirst, a_openTok, a_lastElem, a_inTail, a_elemTok, a_elemNext, a_elemTail, a_slot, a_labelTok)) : wpX_size post (f_cap, f_limit, nI R, f_textLen, f_fault, f_found, f_outLen, f_nextLabel, f_frames, f_nextValue, f_scanType, f_scanValue, f_tokens, f_place, f_depth, f_elems, a_reg, a_carOf, a_cdrOf, a_text, a_seen, a_queue, a_edgeCount, a_image, a_origin, a_out, a_labelOf, a_frame, a_frameTail, a_digits, a_tokType, a_tokValue, a_openFirst, a_openTok, a_lastElem, a_inTail, a_elemTok, a_elemNext, a_elemTail, a_slot, a_labelTok) v1 := by
  unfold wpX_size
  exact xw_badT h (br_f dl_10 k)
theorem xw_edgesB {post : Int32 → SX → Prop} {R : Nat} {v1 v2 : Int32} (hR : R < 2 ^ 31) (h : dl_bad R v1 ∨ dl_bad R v2) (k : post (-1) (f_cap, f_limit, nI R, f_textLen, f_fault, f_found, f_outLen, f_nextLabel, f_frames, f_nextValue, f_scanType, f_scanValue, f_tokens, f_place, f_depth, f_elems, a_reg, a_carOf, a_cdrOf, a_text, a_seen, a_queue, a_edgeCount, a_image, a_origin, a_out, a_labelOf, a_frame, a_frameTail, a_digits, a_tokType, a_tokValue, a_openFirst, a_openTok, a_lastElem, a_inTail, a_elemTok, a_elemNext, a_elemTail, a_slot, a_labelTok)) : wpX_edges post (f_cap, f_limit, nI R, f_textLen, f_fault, f_found, f_outLen, f_nextLabel, f_frames, f_nextValue, f_scanType, f_scanValue, f_tokens, f_place, f_depth, f_elems, a_reg, a_carOf, a_cdrOf, a_text, a_seen, a_queue, a_edgeCount, a_image, a_origin, a_out, a_labelOf, a_frame, a_frameTail, a_digits, a_tokType, a_tokValue, a_openFirst, a_openTok, a_lastElem, a_inTail, a_elemTok, a_elemNext, a_elemTail, a_slot, a_labelTok) v1 v2 := by
  unfold wpX_edges
  by_cases c0 : dl_bad R v1
  · exact xw_badT c0 (br_f dl_10 k)
  · obtain ⟨j, hj, rfl⟩ := dl_good hR c0
    replace h := h.resolve_left c0
    refine xw_badF hj hR (br_t rfl ?_)
    exact xw_badT h (br_f dl_10 k)
theorem xw_printB {post : Int32 → SX → Prop} {R : Nat} {v1 : Int32} (hR : R < 2 ^ 31) (h : dl_bad R v1) (k : post (-1) (f_cap, f_limit, nI R, f_textLen, f_fault, f_found, f_outLen, f_nextLabel, f_frames, f_nextValue, f_scanType, f_scanValue, f_tokens, f_place, f_depth, f_elems, a_reg, a_carOf, a_cdrOf, a_text, a_seen, a_queue, a_edgeCount, a_image, a_origin, a_out, a_labelOf, a_frame, a_frameTail, a_digits, a_tokType, a_tokValue, a_openFirst, a_openTok, a_lastElem, a_inTail, a_elemTok, a_elemNext, a_elemTail, a_slot, a_labelTok)) : wpX_print post (f_cap, f_limit, nI R, f_textLen, f_fault, f_found, f_outLen, f_nextLabel, f_frames, f_nextValue, f_scanType, f_scanValue, f_tokens, f_place, f_depth, f_elems, a_reg, a_carOf, a_cdrOf, a_text, a_seen, a_queue, a_edgeCount, a_image, a_origin, a_out, a_labelOf, a_frame, a_frameTail, a_digits, a_tokType, a_tokValue, a_openFirst, a_openTok, a_lastElem, a_inTail, a_elemTok, a_elemNext, a_elemTail, a_slot, a_labelTok) v1 := by
  unfold wpX_print
  exact xw_badT h (br_f dl_10 k)
theorem xw_readB {post : Int32 → SX → Prop} {R : Nat} {v1 : Int32} (hR : R < 2 ^ 31) (h : dl_bad R v1) (k : post (-1) (f_cap, f_limit, nI R, f_textLen, f_fault, f_found, f_outLen, f_nextLabel, f_frames, f_nextValue, f_scanType, f_scanValue, f_tokens, f_place, f_depth, f_elems, a_reg, a_carOf, a_cdrOf, a_text, a_seen, a_queue, a_edgeCount, a_image, a_origin, a_out, a_labelOf, a_frame, a_frameTail, a_digits, a_tokType, a_tokValue, a_openFirst, a_openTok, a_lastElem, a_inTail, a_elemTok, a_elemNext, a_elemTail, a_slot, a_labelTok)) : wpX_read post (f_cap, f_limit, nI R, f_textLen, f_fault, f_found, f_outLen, f_nextLabel, f_frames, f_nextValue, f_scanType, f_scanValue, f_tokens, f_place, f_depth, f_elems, a_reg, a_carOf, a_cdrOf, a_text, a_seen, a_queue, a_edgeCount, a_image, a_origin, a_out, a_labelOf, a_frame, a_frameTail, a_digits, a_tokType, a_tokValue, a_openFirst, a_openTok, a_lastElem, a_inTail, a_elemTok, a_elemNext, a_elemTail, a_slot, a_labelTok) v1 := by
  unfold wpX_read
  exact xw_badT h (br_f dl_10 k)
end
section
variable {yf_cap yf_limit yf_regs yf_length yf_fault yf_written yf_top yf_tokens : Int32} {ya_reg ya_heads ya_tails ya_text ya_in ya_image ya_out ya_label ya_spell ya_what ya_which ya_type ya_num ya_cell : Nat → Int32}
theorem yw_setB {post : Int32 → SY → Prop} {R : Nat} {v1 v2 v3 : Int32} (hR : R < 2 ^ 31) (h : dl_bad R v1) (k : post (-1) (yf_cap, yf_limit, nI R, yf_length, yf_fault, yf_written, yf_top, yf_tokens, ya_reg, ya_heads, ya_tails, ya_text, ya_in, ya_image, ya_out, ya_label, ya_spell, ya_what, ya_which, ya_type, ya_num, ya_cell)) : wpY_set post (yf_cap, yf_limit, nI R, yf_length, yf_fault, yf_written, yf_top, yf_tokens, ya_reg, ya_heads, ya_tails, ya_text, ya_in, ya_image, ya_out, ya_label, ya_spell, ya_what, ya_which, ya_type, ya_num, ya_cell) v1 v2 v3 := by
  unfold wpY_set
  exact yw_badT h (br_f dl_10 k)
theorem yw_moveB {post : Int32 → SY → Prop} {R : Nat} {v1 v2 : Int32} (hR : R < 2 ^ 31) (h : dl_bad R v1 ∨ dl_bad R v2) (k : post (-1) (yf_cap, yf_limit, nI R, yf_length, yf_fault, yf_written, yf_top, yf_tokens, ya_reg, ya_heads, ya_tails, ya_text, ya_in, ya_image, ya_out, ya_label, ya_spell, ya_what, ya_which, ya_type, ya_num, ya_cell)) : wpY_move post (yf_cap, yf_limit, nI R, yf_length, yf_fault, yf_written, yf_top, yf_tokens, ya_reg, ya_heads, ya_tails, ya_text, ya_in, ya_image, ya_out, ya_label, ya_spell, ya_what, ya_which, ya_type, ya_num, ya_cell) v1 v2 := by
  unfold wpY_move
  by_cases c0 : dl_bad R v1
  · exact yw_badT c0 (br_f dl_10 k)
  · obtain ⟨j, hj, rfl⟩ := dl_good hR c0
    replace h := h.resolve_left c0
    refine yw_badF hj hR (br_t rfl ?_)
    exact yw_badT h (br_f dl_10 k)
theorem yw_consB {post : Int32 → SY → Prop} {R : Nat} {v1 v2 v3 : Int32} (hR : R < 2 ^ 31) (h : dl_bad R v1 ∨ dl_bad R v2 ∨ dl_bad R v3) (k : post (-1) (yf_cap, yf_limit, nI R, yf_length, yf_fault, yf_written, yf_top, yf_tokens, ya_reg, ya_heads, ya_tails, ya_text, ya_in, ya_image, ya_out, ya_label, ya_spell, ya_what, ya_which, ya_type, ya_num, ya_cell)) : wpY_cons post (yf_cap, yf_limit, nI R, yf_length, yf_fault, yf_written, yf_top, yf_tokens, ya_reg, ya_heads, ya_tails, ya_text, ya_in, ya_image, ya_out, ya_label, ya_spell, ya_what, ya_which, ya_type, ya_num, ya_cell) v1 v2 v3 := by
  unfold wpY_cons
  by_cases c0 : dl_bad R v1
  · exact yw_badT c0 (br_f dl_10 k)
  · obtain ⟨j, hj, rfl⟩ := dl_good hR c0
    replace h := h.resolve_left c0
    refine yw_badF hj hR (br_t rfl ?_)
    by_cases c1 : dl_bad R v2
    · exact yw_badT c1 (br_f dl_10 k)
    · obtain ⟨j, hj, rfl⟩ := dl_good hR c1
      replace h := h.resolve_left c1
      refine yw_badF hj hR (br_t rfl ?_)
      exact yw_badT h (br_f dl_10 k)
theorem yw_carB {post : Int32 → SY → Prop} {R : Nat} {v1 v2 : Int32} (hR : R < 2 ^ 31) (h : dl_bad R v1 ∨ dl_bad R v2) (k : post (-1) (yf_cap, yf_limit, nI R, yf_length, yf_fault, yf_written, yf_top, yf_tokens, ya_reg, ya_heads, ya_tails, ya_text, ya_in, ya_image, ya_out, ya_label, ya_spell, ya_what, ya_which, ya_type, ya_num, ya_cell)) : wpY_car post (yf_cap, yf_limit, nI R, yf_length, yf_fault, yf_written, yf_top, yf_tokens, ya_reg, ya_heads, ya_tails, ya_text, ya_in, ya_image, ya_out, ya_label, ya_spell, ya_what, ya_which, ya_type, ya_num, ya_cell) v1 v2 := by
  unfold wpY_car
  by_cases c0 : dl_bad R v1
  · exact yw_badT c0 (br_f dl_10 k)
  · obtain ⟨j, hj, rfl⟩ := dl_good hR c0
    replace h := h.resolve_left c0
    refine yw_badF hj hR (br_t rfl ?_)
    exact yw_badT h (br_f dl_10 k)
theorem yw_cdrB {post : Int32 → SY → Prop} {R : Nat} {v1 v2 : Int32} (hR : R < 2 ^ 31) (h : dl_bad R v1 ∨ dl_bad R v2) (k : post (-1) (yf_cap, yf_limit, nI R, yf_length, yf_fault, yf_written, yf_top, yf_tokens, ya_reg, ya_heads, ya_tails, ya_text, ya_in, ya_image, ya_out, ya_label, ya_spell, ya_what, ya_which, ya_type, ya_num, ya_cell)) : wpY_cdr post (yf_cap, yf_limit, nI R, yf_length, yf_fault, yf_written, yf_top, yf_tokens, ya_reg, ya_heads, ya_tails, ya_text, ya_in, ya_image, ya_out, ya_label, ya_spell, ya_what, ya_which, ya_type, ya_num, ya_cell) v1 v2 := by
  unfold wpY_cdr
  by_cases c0 : dl_bad R v1
  · exact yw_badT c0 (br_f dl_10 k)
  · obtain ⟨j, hj, rfl⟩ := dl_good hR c0
    replace h := h.resolve_left c0
    refine yw_badF hj hR (br_t rfl ?_)
    exact yw_badT h (br_f dl_10 k)
theorem yw_setCarB {post : Int32 → SY → Prop} {R : Nat} {v1 v2 : Int32} (hR : R < 2 ^ 31) (h : dl_bad R v1 ∨ dl_bad R v2) (k : post (-1) (yf_cap, yf_limit, nI R, yf_length, yf_fault, yf_written, yf_top, yf_tokens, ya_reg, ya_heads, ya_tails, ya_text, ya_in, ya_image, ya_out, ya_label, ya_spell, ya_what, ya_which, ya_type, ya_num, ya_cell)) : wpY_setCar post (yf_cap, yf_limit, nI R, yf_length, yf_fault, yf_written, yf_top, yf_tokens, ya_reg, ya_heads, ya_tails, ya_text, ya_in, ya_image, ya_out, ya_label, ya_spell, ya_what, ya_which, ya_type, ya_num, ya_cell) v1 v2 := by
  unfold wpY_setCar
  by_cases c0 : dl_bad R v1
  · exact yw_badT c0 (br_f dl_10 k)
  · obtain ⟨j, hj, rfl⟩ := dl_good hR c0
    replace h := h.resolve_left c0
    refine yw_badF hj hR (br_t rfl ?_)
    exact yw_badT h (br_f dl_10 k)
theorem yw_setCdrB {post : Int32 → SY → Prop} {R : Nat} {v1 v2 : Int32} (hR : R < 2 ^ 31) (h : dl_bad R v1 ∨ dl_bad R v2) (k : post (-1) (yf_cap, yf_limit, nI R, yf_length, yf_fault, yf_written, yf_top, yf_tokens, ya_reg, ya_heads, ya_tails, ya_text, ya_in, ya_image, ya_out, ya_label, ya_spell, ya_what, ya_which, ya_type, ya_num, ya_cell)) : wpY_setCdr post (yf_cap, yf_limit, nI R, yf_length, yf_fault, yf_written, yf_top, yf_tokens, ya_reg, ya_heads, ya_tails, ya_text, ya_in, ya_image, ya_out, ya_label, ya_spell, ya_what, ya_which, ya_type, ya_num, ya_cell) v1 v2 := by
  unfold wpY_setCdr
  by_cases c0 : dl_bad R v1
  · exact yw_badT c0 (br_f dl_10 k)
  · obtain ⟨j, hj, rfl⟩ := dl_good hR c0
    replace h := h.resolve_left c0
    refine yw_badF hj hR (br_t rfl ?_)
    exact yw_badT h (br_f dl_10 k)
theorem yw_kindB {post : Int32 → Prop} {R : Nat} {v1 : Int32} (hR : R < 2 ^ 31) (h : dl_bad R v1) (k : post (-1)) : wpY_kind post (yf_cap, yf_limit, nI R, yf_length, yf_fault, yf_written, yf_top, yf_tokens, ya_reg, ya_heads, ya_tails, ya_text, ya_in, ya_image, ya_out, ya_label, ya_spell, ya_what, ya_which, ya_type, ya_num, ya_cell) v1 := by
  unfold wpY_kind
  exact yw_badT h (br_f dl_10 k)
theorem yw_valueOfB {post : Int32 → Prop} {R : Nat} {v1 : Int32} (hR : R < 2 ^ 31) (h : dl_bad R v1) (k : post (0)) : wpY_valueOf post (yf_cap, yf_limit, nI R, yf_length, yf_fault, yf_written, yf_top, yf_tokens, ya_reg, ya_heads, ya_tails, ya_text, ya_in, ya_image, ya_out, ya_label, ya_spell, ya_what, ya_which, ya_type, ya_num, ya_cell) v1 := by
  unfold wpY_valueOf
  exact yw_badT h (br_f dl_10 k)
theorem yw_sameB {post : Int32 → Prop} {R : Nat} {v1 v2 : Int32} (hR : R < 2 ^ 31) (h : dl_bad R v1 ∨ dl_bad R v2) (k : post (0)) : wpY_same post (yf_cap, yf_limit, nI R, yf_length, yf_fault, yf_written, yf_top, yf_tokens, ya_reg, ya_heads, ya_tails, ya_text, ya_in, ya_image, ya_out, ya_label, ya_spell, ya_what, ya_which, ya_type, ya_num, ya_cell) v1 v2 := by
  unfold wpY_same
  by_cases c0 : dl_bad R v1
  · exact yw_badT c0 (br_f dl_10 k)
  · obtain ⟨j, hj, rfl⟩ := dl_good hR c0
    replace h := h.resolve_left c0
    refine yw_badF hj hR (br_t rfl ?_)
    exact yw_badT h (br_f dl_10 k)
theorem yw_alikeB {post : Int32 → SY → Prop} {R : Nat} {v1 v2 : Int32} (hR : R < 2 ^ 31) (h : dl_bad R v1 ∨ dl_bad R v2) (k : post (0) (yf_cap, yf_limit, nI R, yf_length, yf_fault, yf_written, yf_top, yf_tokens, ya_reg, ya_heads, ya_tails, ya_text, ya_in, ya_image, ya_out, ya_label, ya_spell, ya_what, ya_which, ya_type, ya_num, ya_cell)) : wpY_alike post (yf_cap, yf_limit, nI R, yf_length, yf_fault, yf_written, yf_top, yf_tokens, ya_reg, ya_heads, ya_tails, ya_text, ya_in, ya_image, ya_out, ya_label, ya_spell, ya_what, ya_which, ya_type, ya_num, ya_cell) v1 v2 := by
  unfold wpY_alike
  by_cases c0 : dl_bad R v1
  · exact yw_badT c0 (br_f dl_10 k)
  · obtain ⟨j, hj, rfl⟩ := dl_good hR c0
    replace h := h.resolve_left c0
    refine yw_badF hj hR (br_t rfl ?_)
    exact yw_badT h (br_f dl_10 k)
theorem yw_sizeB {post : Int32 → SY → Prop} {R : Nat} {v1 : Int32} (hR : R < 2 ^ 31) (h : dl_bad R v1) (k : post (-1) (yf_cap, yf_limit, nI R, yf_length, yf_fault, yf_written, yf_top, yf_tokens, ya_reg, ya_heads, ya_tails, ya_text, ya_in, ya_image, ya_out, ya_label, ya_spell, ya_what, ya_which, ya_type, ya_num, ya_cell)) : wpY_size post (yf_cap, yf_limit, nI R, yf_length, yf_fault, yf_written, yf_top, yf_tokens, ya_reg, ya_heads, ya_tails, ya_text, ya_in, ya_image, ya_out, ya_label, ya_spell, ya_what, ya_which, ya_type, ya_num, ya_cell) v1 := by
  unfold wpY_size
  exact yw_badT h (br_f dl_10 k)
theorem yw_edgesB {post : Int32 → SY → Prop} {R : Nat} {v1 v2 : Int32} (hR : R < 2 ^ 31) (h : dl_bad R v1 ∨ dl_bad R v2) (k : post (-1) (yf_cap, yf_limit, nI R, yf_length, yf_fault, yf_written, yf_top, yf_tokens, ya_reg, ya_heads, ya_tails, ya_text, ya_in, ya_image, ya_out, ya_label, ya_spell, ya_what, ya_which, ya_type, ya_num, ya_cell)) : wpY_edges post (yf_cap, yf_limit, nI R, yf_length, yf_fault, yf_written, yf_top, yf_tokens, ya_reg, ya_heads, ya_tails, ya_text, ya_in, ya_image, ya_out, ya_label, ya_spell, ya_what, ya_which, ya_type, ya_num, ya_cell) v1 v2 := by
  unfold wpY_edges
  by_cases c0 : dl_bad R v1
  · exact yw_badT c0 (br_f dl_10 k)
  · obtain ⟨j, hj, rfl⟩ := dl_good hR c0
    replace h := h.resolve_left c0
    refine yw_badF hj hR (br_t rfl ?_)
    exact yw_badT h (br_f dl_10 k)
theorem yw_printB {post : Int32 → SY → Prop} {R : Nat} {v1 : Int32} (hR : R < 2 ^ 31) (h : dl_bad R v1) (k : post (-1) (yf_cap, yf_limit, nI R, yf_length, yf_fault, yf_written, yf_top, yf_tokens, ya_reg, ya_heads, ya_tails, ya_text, ya_in, ya_image, ya_out, ya_label, ya_spell, ya_what, ya_which, ya_type, ya_num, ya_cell)) : wpY_print post (yf_cap, yf_limit, nI R, yf_length, yf_fault, yf_written, yf_top, yf_tokens, ya_reg, ya_heads, ya_tails, ya_text, ya_in, ya_image, ya_out, ya_label, ya_spell, ya_what, ya_which, ya_type, ya_num, ya_cell) v1 := by
  unfold wpY_print
  exact yw_badT h (br_f dl_10 k)
theorem yw_readB {post : Int32 → SY → Prop} {R : Nat} {v1 : Int32} (hR : R < 2 ^ 31) (h : dl_bad R v1) (k : post (-1) (yf_cap, yf_limit, nI R, yf_length, yf_fault, yf_written, yf_top, yf_tokens, ya_reg, ya_heads, ya_tails, ya_text, ya_in, ya_image, ya_out, ya_label, ya_spell, ya_what, ya_which, ya_type, ya_num, ya_cell)) : wpY_read post (yf_cap, yf_limit, nI R, yf_length, yf_fault, yf_written, yf_top, yf_tokens, ya_reg, ya_heads, ya_tails, ya_text, ya_in, ya_image, ya_out, ya_label, ya_spell, ya_what, ya_which, ya_type, ya_num, ya_cell) v1 := by
  unfold wpY_read
  exact yw_badT h (br_f dl_10 k)
end
end DLBAD
end
section
section DLEZ
/-! set -/
def dl_sc (k x : Int32) : Int32 := if k = 0 then 0 else if k = 1 then (if x < (-99999) then -3 else if x ≤ 99999 then 0 else -3) else if k = 2 then (if x < 1 then -3 else if x ≤ 475254 then 0 else -3) else -2
def dl_sv (k x : Int32) : Int32 := if k = 0 then 0 else x * 4 + k
theorem dl_sv_V {c : Nat} {k x : Int32} (h : dl_sc k x = 0) : dl_V c (dl_sv k x) := by
  unfold dl_sv
  by_cases z : k = 0
  · rw [if_pos z]; exact dl_V0 c
  · rw [if_neg z]
    unfold dl_sc at h
    rw [if_neg z] at h
    by_cases z1 : k = 1
    · rw [z1]; exact dl_V1 c x
    · rw [if_neg z1] at h
      by_cases z2 : k = 2
      · rw [z2]; exact dl_V2 c x
      · rw [if_neg z2] at h; exact absurd h (by decide)
section
variable {f_cap f_limit f_regs f_textLen f_fault f_found f_outLen f_nextLabel f_frames f_nextValue f_scanType f_scanValue f_tokens f_place f_depth f_elems : Int32} {a_reg a_carOf a_cdrOf a_text a_seen a_queue a_edgeCount a_image a_origin a_out a_labelOf a_frame a_frameTail a_digits a_tokType a_tokValue a_openFirst a_openTok a_lastElem a_inTail a_elemTok a_elemNext a_elemTail a_slot a_labelTok : Nat → Int32}
variable {yf_cap yf_limit yf_regs yf_length yf_fault yf_written yf_top yf_tokens : Int32} {ya_reg ya_heads ya_tails ya_text ya_in ya_image ya_out ya_label ya_spell ya_what ya_which ya_type ya_num ya_cell : Nat → Int32}
theorem xw_set66 {post : Int32 → SX → Prop} {j : Nat} {k x : Int32} (hj : j < 8) (h : post 0 (f_cap, f_limit, f_regs, f_textLen, f_fault, f_found, f_outLen, f_nextLabel, f_frames, f_nextValue, f_scanType, f_scanValue, f_tokens, f_place, f_depth, f_elems, upd a_reg j (dl_sv k x), a_carOf, a_cdrOf, a_text, a_seen, a_queue, a_edgeCount, a_image, a_origin, a_out, a_labelOf, a_frame, a_frameTail, a_digits, a_tokType, a_tokValue, a_openFirst, a_openTok, a_lastElem, a_inTail, a_elemTok, a_elemNext, a_elemTail, a_slot, a_labelTok)) : wX_set_66 post (nI j) k x f_cap f_limit f_regs f_textLen f_fault f_found f_outLen f_nextLabel f_frames f_nextValue f_scanType f_scanValue f_tokens f_place f_depth f_elems a_reg a_carOf a_cdrOf a_text a_seen a_queue a_edgeCount a_image a_origin a_out a_labelOf a_frame a_frameTail a_digits a_tokType a_tokValue a_openFirst a_openTok a_lastElem a_inTail a_elemTok a_elemNext a_elemTail a_slot a_labelTok := by
  unfold wX_set_66
  rw [nI_clamp (n := j) (by omega)]
  unfold dl_sv at h
  by_cases z : k = 0
  · rw [if_pos z] at h
    exact br_t z ⟨vp_in_nI hj (by decide), nm_e h⟩
  · rw [if_neg z] at h
    exact br_f z ⟨vp_in_nI hj (by decide), nm_e h⟩
theorem xw_set47 {post : Int32 → SX → Prop} {j : Nat} {k x : Int32} (hj : j < 8) (hk : ¬ k = 1) (hk2 : k = 0 ∨ k = 2) (h : dl_sc k x = 0 → post 0 (f_cap, f_limit, f_regs, f_textLen, f_fault, f_found, f_outLen, f_nextLabel, f_frames, f_nextValue, f_scanType, f_scanValue, f_tokens, f_place, f_depth, f_elems, upd a_reg j (dl_sv k x), a_carOf, a_cdrOf, a_text, a_seen, a_queue, a_edgeCount, a_image, a_origin, a_out, a_labelOf, a_frame, a_frameTail, a_digits, a_tokType, a_tokValue, a_openFirst, a_openTok, a_lastElem, a_inTail, a_elemTok, a_elemNext, a_elemTail, a_slot, a_labelTok)) (h1 : ¬ dl_sc k x = 0 → post (dl_sc k x) (f_cap, f_limit, f_regs, f_textLen, f_fault, f_found, f_outLen, f_nextLabel, f_frames, f_nextValue, f_scanType, f_scanValue, f_tokens, f_place, f_depth, f_elems, a_reg, a_carOf, a_cdrOf, a_text, a_seen, a_queue, a_edgeCount, a_image, a_origin, a_out, a_labelOf, a_frame, a_frameTail, a_digits, a_tokType, a_tokValue, a_openFirst, a_openTok, a_lastElem, a_inTail, a_elemTok, a_elemNext, a_elemTail, a_slot, a_labelTok)) : wX_set_47 post (nI j) k x f_cap f_limit f_regs f_textLen f_fault f_found f_outLen f_nextLabel f_frames f_nextValue f_scanType f_scanValue f_tokens f_place f_depth f_elems a_reg a_carOf a_cdrOf a_text a_seen a_queue a_edgeCount a_image a_origin a_out a_labelOf a_frame a_frameTail a_digits a_tokType a_tokValue a_openFirst a_openTok a_lastElem a_inTail a_elemTok a_elemNext a_elemTail a_slot a_labelTok := by
  unfold wX_set_47
  rcases hk2 with e | e
  · subst e
    exact br_f (by decide) (xw_set66 hj (h rfl))
  · subst e
    have e2 : dl_sc 2 x = (if x < 1 then -3 else if x ≤ 475254 then 0 else -3) := rfl
    rw [e2] at h h1
    refine br_t rfl ?_
    by_cases z : x < 1
    · rw [if_pos z] at h1
      exact br_t z (h1 (by decide))
    · rw [if_neg z] at h h1
      refine br_f z ?_
      by_cases z2 : x ≤ 475254
      · rw [if_pos z2] at h
        exact br_t z2 (xw_set66 hj (h rfl))
      · rw [if_neg z2] at h1
        exact br_f z2 (h1 (by decide))
theorem xw_set27 {post : Int32 → SX → Prop} {j : Nat} {k x : Int32} (hj : j < 8) (hk2 : k = 0 ∨ k = 1 ∨ k = 2) (h : dl_sc k x = 0 → post 0 (f_cap, f_limit, f_regs, f_textLen, f_fault, f_found, f_outLen, f_nextLabel, f_frames, f_nextValue, f_scanType, f_scanValue, f_tokens, f_place, f_depth, f_elems, upd a_reg j (dl_sv k x), a_carOf, a_cdrOf, a_text, a_seen, a_queue, a_edgeCount, a_image, a_origin, a_out, a_labelOf, a_frame, a_frameTail, a_digits, a_tokType, a_tokValue, a_openFirst, a_openTok, a_lastElem, a_inTail, a_elemTok, a_elemNext, a_elemTail, a_slot, a_labelTok)) (h1 : ¬ dl_sc k x = 0 → post (dl_sc k x) (f_cap, f_limit, f_regs, f_textLen, f_fault, f_found, f_outLen, f_nextLabel, f_frames, f_nextValue, f_scanType, f_scanValue, f_tokens, f_place, f_depth, f_elems, a_reg, a_carOf, a_cdrOf, a_text, a_seen, a_queue, a_edgeCount, a_image, a_origin, a_out, a_labelOf, a_frame, a_frameTail, a_digits, a_tokType, a_tokValue, a_openFirst, a_openTok, a_lastElem, a_inTail, a_elemTok, a_elemNext, a_elemTail, a_slot, a_labelTok)) : wX_set_27 post (nI j) k x f_cap f_limit f_regs f_textLen f_fault f_found f_outLen f_nextLabel f_frames f_nextValue f_scanType f_scanValue f_tokens f_place f_depth f_elems a_reg a_carOf a_cdrOf a_text a_seen a_queue a_edgeCount a_image a_origin a_out a_labelOf a_frame a_frameTail a_digits a_tokType a_tokValue a_openFirst a_openTok a_lastElem a_inTail a_elemTok a_elemNext a_elemTail a_slot a_labelTok := by
  unfold wX_set_27
  by_cases e : k = 1
  · subst e
    have e2 : dl_sc 1 x = (if x < (-99999) then -3 else if x ≤ 99999 then 0 else -3) := rfl
    rw [e2] at h h1
    refine br_t rfl ?_
    by_cases z : x < (-99999)
    · rw [if_pos z] at h1
      exact br_t z (h1 (by decide))
    · rw [if_neg z] at h h1
      refine br_f z ?_
      by_cases z2 : x ≤ 99999
      · rw [if_pos z2] at h
        refine br_t z2 ?_
        unfold wX_set_47
        exact br_f (by decide) (xw_set66 hj (h rfl))
      · rw [if_neg z2] at h1
        exact br_f z2 (h1 (by decide))
  · refine br_f e (xw_set47 hj e ?_ h h1)
    rcases hk2 with a | a | a
    · exact Or.inl a
    · exact absurd a e
    · exact Or.inr a
theorem xw_set {post : Int32 → SX → Prop} {R j : Nat} {k x : Int32} (hj : j < R) (hR : R ≤ 8) (h : dl_sc k x = 0 → post 0 (f_cap, f_limit, nI R, f_textLen, f_fault, f_found, f_outLen, f_nextLabel, f_frames, f_nextValue, f_scanType, f_scanValue, f_tokens, f_place, f_depth, f_elems, upd a_reg j (dl_sv k x), a_carOf, a_cdrOf, a_text, a_seen, a_queue, a_edgeCount, a_image, a_origin, a_out, a_labelOf, a_frame, a_frameTail, a_digits, a_tokType, a_tokValue, a_openFirst, a_openTok, a_lastElem, a_inTail, a_elemTok, a_elemNext, a_elemTail, a_slot, a_labelTok)) (h1 : ¬ dl_sc k x = 0 → post (dl_sc k x) (f_cap, f_limit, nI R, f_textLen, f_fault, f_found, f_outLen, f_nextLabel, f_frames, f_nextValue, f_scanType, f_scanValue, f_tokens, f_place, f_depth, f_elems, a_reg, a_carOf, a_cdrOf, a_text, a_seen, a_queue, a_edgeCount, a_image, a_origin, a_out, a_labelOf, a_frame, a_frameTail, a_digits, a_tokType, a_tokValue, a_openFirst, a_openTok, a_lastElem, a_inTail, a_elemTok, a_elemNext, a_elemTail, a_slot, a_labelTok)) : wpX_set post (f_cap, f_limit, nI R, f_textLen, f_fault, f_found, f_outLen, f_nextLabel, f_frames, f_nextValue, f_scanType, f_scanValue, f_tokens, f_place, f_depth, f_elems, a_reg, a_carOf, a_cdrOf, a_text, a_seen, a_queue, a_edgeCount, a_image, a_origin, a_out, a_labelOf, a_frame, a_frameTail, a_digits, a_tokType, a_tokValue, a_openFirst, a_openTok, a_lastElem, a_inTail, a_elemTok, a_elemNext, a_elemTail, a_slot, a_labelTok) (nI j) k x := by
  unfold wpX_set
  refine xw_badF hj (by omega) (br_t rfl ?_)
  by_cases z0 : k = 0
  · exact br_t z0 (xw_set27 (by omega) (Or.inl z0) h h1)
  · refine br_f z0 ?_
    by_cases z1 : k = 1
    · exact br_t z1 (xw_set27 (by omega) (Or.inr (Or.inl z1)) h h1)
    · refine br_f z1 ?_
      by_cases z2 : k = 2
      · exact br_t z2 (xw_set27 (by omega) (Or.inr (Or.inr z2)) h h1)
      · have e : dl_sc k x = -2 := by unfold dl_sc; rw [if_neg z0, if_neg z1, if_neg z2]
        rw [e] at h1
        exact br_f z2 (h1 (by decide))
theorem xw_move {post : Int32 → SX → Prop} {R i j : Nat} (hi : i < R) (hj : j < R) (hR : R ≤ 8) (h : post 0 (f_cap, f_limit, nI R, f_textLen, f_fault, f_found, f_outLen, f_nextLabel, f_frames, f_nextValue, f_scanType, f_scanValue, f_tokens, f_place, f_depth, f_elems, upd a_reg i (a_reg j), a_carOf, a_cdrOf, a_text, a_seen, a_queue, a_edgeCount, a_image, a_origin, a_out, a_labelOf, a_frame, a_frameTail, a_digits, a_tokType, a_tokValue, a_openFirst, a_openTok, a_lastElem, a_inTail, a_elemTok, a_elemNext, a_elemTail, a_slot, a_labelTok)) : wpX_move post (f_cap, f_limit, nI R, f_textLen, f_fault, f_found, f_outLen, f_nextLabel, f_frames, f_nextValue, f_scanType, f_scanValue, f_tokens, f_place, f_depth, f_elems, a_reg, a_carOf, a_cdrOf, a_text, a_seen, a_queue, a_edgeCount, a_image, a_origin, a_out, a_labelOf, a_frame, a_frameTail, a_digits, a_tokType, a_tokValue, a_openFirst, a_openTok, a_lastElem, a_inTail, a_elemTok, a_elemNext, a_elemTail, a_slot, a_labelTok) (nI i) (nI j) := by
  unfold wpX_move
  refine xw_badF hi (by omega) (br_t rfl ?_)
  refine xw_badF hj (by omega) (br_t rfl ?_)
  rw [nI_clamp (n := i) (by omega), nI_clamp (n := j) (by omega)]
  exact ⟨vp_in_nI (by omega) (by decide), vp_in_nI (by omega) (by decide), nm_e h⟩
theorem xw_kind {post : Int32 → Prop} {R i : Nat} (hi : i < R) (hR : R ≤ 8) (h : post (a_reg i &&& 3)) : wpX_kind post (f_cap, f_limit, nI R, f_textLen, f_fault, f_found, f_outLen, f_nextLabel, f_frames, f_nextValue, f_scanType, f_scanValue, f_tokens, f_place, f_depth, f_elems, a_reg, a_carOf, a_cdrOf, a_text, a_seen, a_queue, a_edgeCount, a_image, a_origin, a_out, a_labelOf, a_frame, a_frameTail, a_digits, a_tokType, a_tokValue, a_openFirst, a_openTok, a_lastElem, a_inTail, a_elemTok, a_elemNext, a_elemTail, a_slot, a_labelTok) (nI i) := by
  unfold wpX_kind
  refine xw_badF hi (by omega) (br_t rfl ?_)
  rw [nI_clamp (n := i) (by omega)]
  exact ⟨vp_in_nI (by omega) (by decide), h⟩
theorem xw_same {post : Int32 → Prop} {R i j : Nat} (hi : i < R) (hj : j < R) (hR : R ≤ 8) (h : post (if a_reg i = a_reg j then 1 else 0)) : wpX_same post (f_cap, f_limit, nI R, f_textLen, f_fault, f_found, f_outLen, f_nextLabel, f_frames, f_nextValue, f_scanType, f_scanValue, f_tokens, f_place, f_depth, f_elems, a_reg, a_carOf, a_cdrOf, a_text, a_seen, a_queue, a_edgeCount, a_image, a_origin, a_out, a_labelOf, a_frame, a_frameTail, a_digits, a_tokType, a_tokValue, a_openFirst, a_openTok, a_lastElem, a_inTail, a_elemTok, a_elemNext, a_elemTail, a_slot, a_labelTok) (nI i) (nI j) := by
  unfold wpX_same
  refine xw_badF hi (by omega) (br_t rfl ?_)
  refine xw_badF hj (by omega) (br_t rfl ?_)
  rw [nI_clamp (n := i) (by omega), nI_clamp (n := j) (by omega)]
  refine ⟨vp_in_nI (by omega) (by decide), vp_in_nI (by omega) (by decide), ?_⟩
  by_cases z : a_reg i = a_reg j
  · rw [if_pos z] at h; exact br_t z h
  · rw [if_neg z] at h; exact br_f z h
theorem yw_set66 {post : Int32 → SY → Prop} {j : Nat} {k x : Int32} (hj : j < 8) (h : post 0 (yf_cap, yf_limit, yf_regs, yf_length, yf_fault, yf_written, yf_top, yf_tokens, upd ya_reg j (dl_sv k x), ya_heads, ya_tails, ya_text, ya_in, ya_image, ya_out, ya_label, ya_spell, ya_what, ya_which, ya_type, ya_num, ya_cell)) : wY_set_66 post (nI j) k x yf_cap yf_limit yf_regs yf_length yf_fault yf_written yf_top yf_tokens ya_reg ya_heads ya_tails ya_text ya_in ya_image ya_out ya_label ya_spell ya_what ya_which ya_type ya_num ya_cell := by
  unfold wY_set_66
  rw [nI_clamp (n := j) (by omega)]
  unfold dl_sv at h
  by_cases z : k = 0
  · rw [if_pos z] at h
    exact br_t z ⟨vp_in_nI hj (by decide), nm_e h⟩
  · rw [if_neg z] at h
    exact br_f z ⟨vp_in_nI hj (by decide), nm_e h⟩
theorem yw_set47 {post : Int32 → SY → Prop} {j : Nat} {k x : Int32} (hj : j < 8) (hk : ¬ k = 1) (hk2 : k = 0 ∨ k = 2) (h : dl_sc k x = 0 → post 0 (yf_cap, yf_limit, yf_regs, yf_length, yf_fault, yf_written, yf_top, yf_tokens, upd ya_reg j (dl_sv k x), ya_heads, ya_tails, ya_text, ya_in, ya_image, ya_out, ya_label, ya_spell, ya_what, ya_which, ya_type, ya_num, ya_cell)) (h1 : ¬ dl_sc k x = 0 → post (dl_sc k x) (yf_cap, yf_limit, yf_regs, yf_length, yf_fault, yf_written, yf_top, yf_tokens, ya_reg, ya_heads, ya_tails, ya_text, ya_in, ya_image, ya_out, ya_label, ya_spell, ya_what, ya_which, ya_type, ya_num, ya_cell)) : wY_set_47 post (nI j) k x yf_cap yf_limit yf_regs yf_length yf_fault yf_written yf_top yf_tokens ya_reg ya_heads ya_tails ya_text ya_in ya_image ya_out ya_label ya_spell ya_what ya_which ya_type ya_num ya_cell := by
  unfold wY_set_47
  rcases hk2 with e | e
  · subst e
    exact br_f (by decide) (yw_set66 hj (h rfl))
  · subst e
    have e2 : dl_sc 2 x = (if x < 1 then -3 else if x ≤ 475254 then 0 else -3) := rfl
    rw [e2] at h h1
    refine br_t rfl ?_
    by_cases z : x < 1
    · rw [if_pos z] at h1
      exact br_t z (h1 (by decide))
    · rw [if_neg z] at h h1
      refine br_f z ?_
      by_cases z2 : x ≤ 475254
      · rw [if_pos z2] at h
        exact br_t z2 (yw_set66 hj (h rfl))
      · rw [if_neg z2] at h1
        exact br_f z2 (h1 (by decide))
theorem yw_set27 {post : Int32 → SY → Prop} {j : Nat} {k x : Int32} (hj : j < 8) (hk2 : k = 0 ∨ k = 1 ∨ k = 2) (h : dl_sc k x = 0 → post 0 (yf_cap, yf_limit, yf_regs, yf_length, yf_fault, yf_written, yf_top, yf_tokens, upd ya_reg j (dl_sv k x), ya_heads, ya_tails, ya_text, ya_in, ya_image, ya_out, ya_label, ya_spell, ya_what, ya_which, ya_type, ya_num, ya_cell)) (h1 : ¬ dl_sc k x = 0 → post (dl_sc k x) (yf_cap, yf_limit, yf_regs, yf_length, yf_fault, yf_written, yf_top, yf_tokens, ya_reg, ya_heads, ya_tails, ya_text, ya_in, ya_image, ya_out, ya_label, ya_spell, ya_what, ya_which, ya_type, ya_num, ya_cell)) : wY_set_27 post (nI j) k x yf_cap yf_limit yf_regs yf_length yf_fault yf_written yf_top yf_tokens ya_reg ya_heads ya_tails ya_text ya_in ya_image ya_out ya_label ya_spell ya_what ya_which ya_type ya_num ya_cell := by
  unfold wY_set_27
  by_cases e : k = 1
  · subst e
    have e2 : dl_sc 1 x = (if x < (-99999) then -3 else if x ≤ 99999 then 0 else -3) := rfl
    rw [e2] at h h1
    refine br_t rfl ?_
    by_cases z : x < (-99999)
    · rw [if_pos z] at h1
      exact br_t z (h1 (by decide))
    · rw [if_neg z] at h h1
      refine br_f z ?_
      by_cases z2 : x ≤ 99999
      · rw [if_pos z2] at h
        refine br_t z2 ?_
        unfold wY_set_47
        exact br_f (by decide) (yw_set66 hj (h rfl))
      · rw [if_neg z2] at h1
        exact br_f z2 (h1 (by decide))
  · refine br_f e (yw_set47 hj e ?_ h h1)
    rcases hk2 with a | a | a
    · exact Or.inl a
    · exact absurd a e
    · exact Or.inr a
theorem yw_set {post : Int32 → SY → Prop} {R j : Nat} {k x : Int32} (hj : j < R) (hR : R ≤ 8) (h : dl_sc k x = 0 → post 0 (yf_cap, yf_limit, nI R, yf_length, yf_fault, yf_written, yf_top, yf_tokens, upd ya_reg j (dl_sv k x), ya_heads, ya_tails, ya_text, ya_in, ya_image, ya_out, ya_label, ya_spell, ya_what, ya_which, ya_type, ya_num, ya_cell)) (h1 : ¬ dl_sc k x = 0 → post (dl_sc k x) (yf_cap, yf_limit, nI R, yf_length, yf_fault, yf_written, yf_top, yf_tokens, ya_reg, ya_heads, ya_tails, ya_text, ya_in, ya_image, ya_out, ya_label, ya_spell, ya_what, ya_which, ya_type, ya_num, ya_cell)) : wpY_set post (yf_cap, yf_limit, nI R, yf_length, yf_fault, yf_written, yf_top, yf_tokens, ya_reg, ya_heads, ya_tails, ya_text, ya_in, ya_image, ya_out, ya_label, ya_spell, ya_what, ya_which, ya_type, ya_num, ya_cell) (nI j) k x := by
  unfold wpY_set
  refine yw_badF hj (by omega) (br_t rfl ?_)
  by_cases z0 : k = 0
  · exact br_t z0 (yw_set27 (by omega) (Or.inl z0) h h1)
  · refine br_f z0 ?_
    by_cases z1 : k = 1
    · exact br_t z1 (yw_set27 (by omega) (Or.inr (Or.inl z1)) h h1)
    · refine br_f z1 ?_
      by_cases z2 : k = 2
      · exact br_t z2 (yw_set27 (by omega) (Or.inr (Or.inr z2)) h h1)
      · have e : dl_sc k x = -2 := by unfold dl_sc; rw [if_neg z0, if_neg z1, if_neg z2]
        rw [e] at h1
        exact br_f z2 (h1 (by decide))
theorem yw_move {post : Int32 → SY → Prop} {R i j : Nat} (hi : i < R) (hj : j < R) (hR : R ≤ 8) (h : post 0 (yf_cap, yf_limit, nI R, yf_length, yf_fault, yf_written, yf_top, yf_tokens, upd ya_reg i (ya_reg j), ya_heads, ya_tails, ya_text, ya_in, ya_image, ya_out, ya_label, ya_spell, ya_what, ya_which, ya_type, ya_num, ya_cell)) : wpY_move post (yf_cap, yf_limit, nI R, yf_length, yf_fault, yf_written, yf_top, yf_tokens, ya_reg, ya_heads, ya_tails, ya_text, ya_in, ya_image, ya_out, ya_label, ya_spell, ya_what, ya_which, ya_type, ya_num, ya_cell) (nI i) (nI j) := by
  unfold wpY_move
  refine yw_badF hi (by omega) (br_t rfl ?_)
  refine yw_badF hj (by omega) (br_t rfl ?_)
  rw [nI_clamp (n := i) (by omega), nI_clamp (n := j) (by omega)]
  exact ⟨vp_in_nI (by omega) (by decide), vp_in_nI (by omega) (by decide), nm_e h⟩
theorem yw_kind {post : Int32 → Prop} {R i : Nat} (hi : i < R) (hR : R ≤ 8) (h : post (ya_reg i &&& 3)) : wpY_kind post (yf_cap, yf_limit, nI R, yf_length, yf_fault, yf_written, yf_top, yf_tokens, ya_reg, ya_heads, ya_tails, ya_text, ya_in, ya_image, ya_out, ya_label, ya_spell, ya_what, ya_which, ya_type, ya_num, ya_cell) (nI i) := by
  unfold wpY_kind
  refine yw_badF hi (by omega) (br_t rfl ?_)
  rw [nI_clamp (n := i) (by omega)]
  exact ⟨vp_in_nI (by omega) (by decide), h⟩
theorem yw_same {post : Int32 → Prop} {R i j : Nat} (hi : i < R) (hj : j < R) (hR : R ≤ 8) (h : post (if ya_reg i = ya_reg j then 1 else 0)) : wpY_same post (yf_cap, yf_limit, nI R, yf_length, yf_fault, yf_written, yf_top, yf_tokens, ya_reg, ya_heads, ya_tails, ya_text, ya_in, ya_image, ya_out, ya_label, ya_spell, ya_what, ya_which, ya_type, ya_num, ya_cell) (nI i) (nI j) := by
  unfold wpY_same
  refine yw_badF hi (by omega) (br_t rfl ?_)
  refine yw_badF hj (by omega) (br_t rfl ?_)
  rw [nI_clamp (n := i) (by omega), nI_clamp (n := j) (by omega)]
  refine ⟨vp_in_nI (by omega) (by decide), vp_in_nI (by omega) (by decide), ?_⟩
  by_cases z : ya_reg i = ya_reg j
  · rw [if_pos z] at h; exact br_t z h
  · rw [if_neg z] at h; exact br_f z h
theorem xw_valueOf {post : Int32 → Prop} {R i : Nat} (hi : i < R) (hR : R ≤ 8) (hv : dl_V 48 (a_reg i)) (h : post (if a_reg i &&& 3 = 3 then 0 else a_reg i >>> ((2 : Int32) &&& 31))) : wpX_valueOf post (f_cap, f_limit, nI R, f_textLen, f_fault, f_found, f_outLen, f_nextLabel, f_frames, f_nextValue, f_scanType, f_scanValue, f_tokens, f_place, f_depth, f_elems, a_reg, a_carOf, a_cdrOf, a_text, a_seen, a_queue, a_edgeCount, a_image, a_origin, a_out, a_labelOf, a_frame, a_frameTail, a_digits, a_tokType, a_tokValue, a_openFirst, a_openTok, a_lastElem, a_inTail, a_elemTok, a_elemNext, a_elemTail, a_slot, a_labelTok) (nI i) := by
  unfold wpX_valueOf
  refine xw_badF hi (by omega) (br_t rfl ?_)
  rw [nI_clamp (n := i) (by omega)]
  refine ⟨vp_in_nI (by omega) (by decide), nm_e ?_⟩
  by_cases z1 : a_reg i &&& 3 = 1
  · rw [if_neg (by rw [z1]; decide)] at h
    exact br_t z1 ⟨vp_in_nI (by omega) (by decide), h⟩
  · refine br_f z1 ?_
    by_cases z2 : a_reg i &&& 3 = 2
    · rw [if_neg (by rw [z2]; decide)] at h
      exact br_t z2 ⟨vp_in_nI (by omega) (by decide), h⟩
    · refine br_f z2 ?_
      by_cases z3 : a_reg i &&& 3 = 3
      · rw [if_pos z3] at h; exact h
      · rw [if_neg z3] at h
        obtain ⟨j, hj, e⟩ := pk_andE (a_reg i) (m := 3) 2 (by decide)
        have hj' : j = 0 := by
          have n1 : j ≠ 1 := fun h => z1 (by rw [e, h]; rfl)
          have n2 : j ≠ 2 := fun h => z2 (by rw [e, h]; rfl)
          have n3 : j ≠ 3 := fun h => z3 (by rw [e, h]; rfl)
          omega
        have e0 := hv.1 (by rw [e, hj']; rfl)
        rw [e0] at h
        exact h
theorem xw_car {post : Int32 → SX → Prop} {R i j : Nat} (hi : i < R) (hj : j < R) (hR : R ≤ 8) (hv : dl_V 48 (a_reg j)) (hN : ¬ a_reg j &&& 3 = 3 → post (-4) (f_cap, f_limit, nI R, f_textLen, f_fault, f_found, f_outLen, f_nextLabel, f_frames, f_nextValue, f_scanType, f_scanValue, f_tokens, f_place, f_depth, f_elems, a_reg, a_carOf, a_cdrOf, a_text, a_seen, a_queue, a_edgeCount, a_image, a_origin, a_out, a_labelOf, a_frame, a_frameTail, a_digits, a_tokType, a_tokValue, a_openFirst, a_openTok, a_lastElem, a_inTail, a_elemTok, a_elemNext, a_elemTail, a_slot, a_labelTok)) (hP : ∀ p, p < 48 → a_reg j = dl_pv p → post 0 (f_cap, f_limit, nI R, f_textLen, f_fault, f_found, f_outLen, f_nextLabel, f_frames, f_nextValue, f_scanType, f_scanValue, f_tokens, f_place, f_depth, f_elems, upd a_reg i (a_carOf p), a_carOf, a_cdrOf, a_text, a_seen, a_queue, a_edgeCount, a_image, a_origin, a_out, a_labelOf, a_frame, a_frameTail, a_digits, a_tokType, a_tokValue, a_openFirst, a_openTok, a_lastElem, a_inTail, a_elemTok, a_elemNext, a_elemTail, a_slot, a_labelTok)) : wpX_car post (f_cap, f_limit, nI R, f_textLen, f_fault, f_found, f_outLen, f_nextLabel, f_frames, f_nextValue, f_scanType, f_scanValue, f_tokens, f_place, f_depth, f_elems, a_reg, a_carOf, a_cdrOf, a_text, a_seen, a_queue, a_edgeCount, a_image, a_origin, a_out, a_labelOf, a_frame, a_frameTail, a_digits, a_tokType, a_tokValue, a_openFirst, a_openTok, a_lastElem, a_inTail, a_elemTok, a_elemNext, a_elemTail, a_slot, a_labelTok) (nI i) (nI j) := by
  unfold wpX_car
  refine xw_badF hi (by omega) (br_t rfl ?_)
  refine xw_badF hj (by omega) (br_t rfl ?_)
  rw [nI_clamp (n := i) (by omega), nI_clamp (n := j) (by omega)]
  refine ⟨vp_in_nI (by omega) (by decide), ?_⟩
  refine xw_pair (fun hp => ?_) (fun hn => br_t rfl (hN hn))
  obtain ⟨p, hp, e⟩ := hv.2 hp
  rw [e, dl_pvS p hp, nI_clamp (n := p) (by omega)]
  exact br_f dl_10 ⟨vp_in_nI (by omega) (by decide), vp_in_nI hp (by decide), vp_in_nI (by omega) (by decide), nm_e (hP p hp e)⟩
theorem xw_cdr {post : Int32 → SX → Prop} {R i j : Nat} (hi : i < R) (hj : j < R) (hR : R ≤ 8) (hv : dl_V 48 (a_reg j)) (hN : ¬ a_reg j &&& 3 = 3 → post (-4) (f_cap, f_limit, nI R, f_textLen, f_fault, f_found, f_outLen, f_nextLabel, f_frames, f_nextValue, f_scanType, f_scanValue, f_tokens, f_place, f_depth, f_elems, a_reg, a_carOf, a_cdrOf, a_text, a_seen, a_queue, a_edgeCount, a_image, a_origin, a_out, a_labelOf, a_frame, a_frameTail, a_digits, a_tokType, a_tokValue, a_openFirst, a_openTok, a_lastElem, a_inTail, a_elemTok, a_elemNext, a_elemTail, a_slot, a_labelTok)) (hP : ∀ p, p < 48 → a_reg j = dl_pv p → post 0 (f_cap, f_limit, nI R, f_textLen, f_fault, f_found, f_outLen, f_nextLabel, f_frames, f_nextValue, f_scanType, f_scanValue, f_tokens, f_place, f_depth, f_elems, upd a_reg i (a_cdrOf p), a_carOf, a_cdrOf, a_text, a_seen, a_queue, a_edgeCount, a_image, a_origin, a_out, a_labelOf, a_frame, a_frameTail, a_digits, a_tokType, a_tokValue, a_openFirst, a_openTok, a_lastElem, a_inTail, a_elemTok, a_elemNext, a_elemTail, a_slot, a_labelTok)) : wpX_cdr post (f_cap, f_limit, nI R, f_textLen, f_fault, f_found, f_outLen, f_nextLabel, f_frames, f_nextValue, f_scanType, f_scanValue, f_tokens, f_place, f_depth, f_elems, a_reg, a_carOf, a_cdrOf, a_text, a_seen, a_queue, a_edgeCount, a_image, a_origin, a_out, a_labelOf, a_frame, a_frameTail, a_digits, a_tokType, a_tokValue, a_openFirst, a_openTok, a_lastElem, a_inTail, a_elemTok, a_elemNext, a_elemTail, a_slot, a_labelTok) (nI i) (nI j) := by
  unfold wpX_cdr
  refine xw_badF hi (by omega) (br_t rfl ?_)
  refine xw_badF hj (by omega) (br_t rfl ?_)
  rw [nI_clamp (n := i) (by omega), nI_clamp (n := j) (by omega)]
  refine ⟨vp_in_nI (by omega) (by decide), ?_⟩
  refine xw_pair (fun hp => ?_) (fun hn => br_t rfl (hN hn))
  obtain ⟨p, hp, e⟩ := hv.2 hp
  rw [e, dl_pvS p hp, nI_clamp (n := p) (by omega)]
  exact br_f dl_10 ⟨vp_in_nI (by omega) (by decide), vp_in_nI hp (by decide), vp_in_nI (by omega) (by decide), nm_e (hP p hp e)⟩
theorem xw_setCar {post : Int32 → SX → Prop} {R i j : Nat} (hi : i < R) (hj : j < R) (hR : R ≤ 8) (hv : dl_V 48 (a_reg i)) (hN : ¬ a_reg i &&& 3 = 3 → post (-4) (f_cap, f_limit, nI R, f_textLen, f_fault, f_found, f_outLen, f_nextLabel, f_frames, f_nextValue, f_scanType, f_scanValue, f_tokens, f_place, f_depth, f_elems, a_reg, a_carOf, a_cdrOf, a_text, a_seen, a_queue, a_edgeCount, a_image, a_origin, a_out, a_labelOf, a_frame, a_frameTail, a_digits, a_tokType, a_tokValue, a_openFirst, a_openTok, a_lastElem, a_inTail, a_elemTok, a_elemNext, a_elemTail, a_slot, a_labelTok)) (hP : ∀ p, p < 48 → a_reg i = dl_pv p → post 0 (f_cap, f_limit, nI R, f_textLen, f_fault, f_found, f_outLen, f_nextLabel, f_frames, f_nextValue, f_scanType, f_scanValue, f_tokens, f_place, f_depth, f_elems, a_reg, upd a_carOf p (a_reg j), a_cdrOf, a_text, a_seen, a_queue, a_edgeCount, a_image, a_origin, a_out, a_labelOf, a_frame, a_frameTail, a_digits, a_tokType, a_tokValue, a_openFirst, a_openTok, a_lastElem, a_inTail, a_elemTok, a_elemNext, a_elemTail, a_slot, a_labelTok)) : wpX_setCar post (f_cap, f_limit, nI R, f_textLen, f_fault, f_found, f_outLen, f_nextLabel, f_frames, f_nextValue, f_scanType, f_scanValue, f_tokens, f_place, f_depth, f_elems, a_reg, a_carOf, a_cdrOf, a_text, a_seen, a_queue, a_edgeCount, a_image, a_origin, a_out, a_labelOf, a_frame, a_frameTail, a_digits, a_tokType, a_tokValue, a_openFirst, a_openTok, a_lastElem, a_inTail, a_elemTok, a_elemNext, a_elemTail, a_slot, a_labelTok) (nI i) (nI j) := by
  unfold wpX_setCar
  refine xw_badF hi (by omega) (br_t rfl ?_)
  refine xw_badF hj (by omega) (br_t rfl ?_)
  rw [nI_clamp (n := i) (by omega), nI_clamp (n := j) (by omega)]
  refine ⟨vp_in_nI (by omega) (by decide), ?_⟩
  refine xw_pair (fun hp => ?_) (fun hn => br_t rfl (hN hn))
  obtain ⟨p, hp, e⟩ := hv.2 hp
  rw [e, dl_pvS p hp, nI_clamp (n := p) (by omega)]
  exact br_f dl_10 ⟨vp_in_nI (by omega) (by decide), vp_in_nI (by omega) (by decide), vp_in_nI hp (by decide), nm_e (hP p hp e)⟩
theorem xw_setCdr {post : Int32 → SX → Prop} {R i j : Nat} (hi : i < R) (hj : j < R) (hR : R ≤ 8) (hv : dl_V 48 (a_reg i)) (hN : ¬ a_reg i &&& 3 = 3 → post (-4) (f_cap, f_limit, nI R, f_textLen, f_fault, f_found, f_outLen, f_nextLabel, f_frames, f_nextValue, f_scanType, f_scanValue, f_tokens, f_place, f_depth, f_elems, a_reg, a_carOf, a_cdrOf, a_text, a_seen, a_queue, a_edgeCount, a_image, a_origin, a_out, a_labelOf, a_frame, a_frameTail, a_digits, a_tokType, a_tokValue, a_openFirst, a_openTok, a_lastElem, a_inTail, a_elemTok, a_elemNext, a_elemTail, a_slot, a_labelTok)) (hP : ∀ p, p < 48 → a_reg i = dl_pv p → post 0 (f_cap, f_limit, nI R, f_textLen, f_fault, f_found, f_outLen, f_nextLabel, f_frames, f_nextValue, f_scanType, f_scanValue, f_tokens, f_place, f_depth, f_elems, a_reg, a_carOf, upd a_cdrOf p (a_reg j), a_text, a_seen, a_queue, a_edgeCount, a_image, a_origin, a_out, a_labelOf, a_frame, a_frameTail, a_digits, a_tokType, a_tokValue, a_openFirst, a_openTok, a_lastElem, a_inTail, a_elemTok, a_elemNext, a_elemTail, a_slot, a_labelTok)) : wpX_setCdr post (f_cap, f_limit, nI R, f_textLen, f_fault, f_found, f_outLen, f_nextLabel, f_frames, f_nextValue, f_scanType, f_scanValue, f_tokens, f_place, f_depth, f_elems, a_reg, a_carOf, a_cdrOf, a_text, a_seen, a_queue, a_edgeCount, a_image, a_origin, a_out, a_labelOf, a_frame, a_frameTail, a_digits, a_tokType, a_tokValue, a_openFirst, a_openTok, a_lastElem, a_inTail, a_elemTok, a_elemNext, a_elemTail, a_slot, a_labelTok) (nI i) (nI j) := by
  unfold wpX_setCdr
  refine xw_badF hi (by omega) (br_t rfl ?_)
  refine xw_badF hj (by omega) (br_t rfl ?_)
  rw [nI_clamp (n := i) (by omega), nI_clamp (n := j) (by omega)]
  refine ⟨vp_in_nI (by omega) (by decide), ?_⟩
  refine xw_pair (fun hp => ?_) (fun hn => br_t rfl (hN hn))
  obtain ⟨p, hp, e⟩ := hv.2 hp
  rw [e, dl_pvS p hp, nI_clamp (n := p) (by omega)]
  exact br_f dl_10 ⟨vp_in_nI (by omega) (by decide), vp_in_nI (by omega) (by decide), vp_in_nI hp (by decide), nm_e (hP p hp e)⟩
end
section
variable {yf_cap yf_limit yf_regs yf_length yf_fault yf_written yf_top yf_tokens : Int32} {ya_reg ya_heads ya_tails ya_text ya_in ya_image ya_out ya_label ya_spell ya_what ya_which ya_type ya_num ya_cell : Nat → Int32}
theorem yw_valueOf {post : Int32 → Prop} {R i : Nat} (hi : i < R) (hR : R ≤ 8) (h : post (if ya_reg i &&& 3 = 3 then 0 else ya_reg i >>> ((2 : Int32) &&& 31))) : wpY_valueOf post (yf_cap, yf_limit, nI R, yf_length, yf_fault, yf_written, yf_top, yf_tokens, ya_reg, ya_heads, ya_tails, ya_text, ya_in, ya_image, ya_out, ya_label, ya_spell, ya_what, ya_which, ya_type, ya_num, ya_cell) (nI i) := by
  unfold wpY_valueOf
  refine yw_badF hi (by omega) (br_t rfl ?_)
  rw [nI_clamp (n := i) (by omega)]
  refine ⟨vp_in_nI (by omega) (by decide), ?_⟩
  by_cases z3 : ya_reg i &&& 3 = 3
  · rw [if_pos z3] at h; exact br_t z3 h
  · rw [if_neg z3] at h; exact br_f z3 ⟨vp_in_nI (by omega) (by decide), h⟩
theorem yw_car {post : Int32 → SY → Prop} {R i j : Nat} (hi : i < R) (hj : j < R) (hR : R ≤ 8) (hv : dl_V 48 (ya_reg j)) (hN : ¬ ya_reg j &&& 3 = 3 → post (-4) (yf_cap, yf_limit, nI R, yf_length, yf_fault, yf_written, yf_top, yf_tokens, ya_reg, ya_heads, ya_tails, ya_text, ya_in, ya_image, ya_out, ya_label, ya_spell, ya_what, ya_which, ya_type, ya_num, ya_cell)) (hP : ∀ p, p < 48 → ya_reg j = dl_pv p → post 0 (yf_cap, yf_limit, nI R, yf_length, yf_fault, yf_written, yf_top, yf_tokens, upd ya_reg i (ya_heads p), ya_heads, ya_tails, ya_text, ya_in, ya_image, ya_out, ya_label, ya_spell, ya_what, ya_which, ya_type, ya_num, ya_cell)) : wpY_car post (yf_cap, yf_limit, nI R, yf_length, yf_fault, yf_written, yf_top, yf_tokens, ya_reg, ya_heads, ya_tails, ya_text, ya_in, ya_image, ya_out, ya_label, ya_spell, ya_what, ya_which, ya_type, ya_num, ya_cell) (nI i) (nI j) := by
  unfold wpY_car
  refine yw_badF hi (by omega) (br_t rfl ?_)
  refine yw_badF hj (by omega) (br_t rfl ?_)
  rw [nI_clamp (n := i) (by omega), nI_clamp (n := j) (by omega)]
  refine ⟨vp_in_nI (by omega) (by decide), br_c (fun hp => ?_) (fun hn => hN hn)⟩
  obtain ⟨p, hp, e⟩ := hv.2 hp
  rw [e, dl_pvS p hp, nI_clamp (n := p) (by omega)]
  exact ⟨vp_in_nI (by omega) (by decide), vp_in_nI hp (by decide), vp_in_nI (by omega) (by decide), nm_e (hP p hp e)⟩
theorem yw_cdr {post : Int32 → SY → Prop} {R i j : Nat} (hi : i < R) (hj : j < R) (hR : R ≤ 8) (hv : dl_V 48 (ya_reg j)) (hN : ¬ ya_reg j &&& 3 = 3 → post (-4) (yf_cap, yf_limit, nI R, yf_length, yf_fault, yf_written, yf_top, yf_tokens, ya_reg, ya_heads, ya_tails, ya_text, ya_in, ya_image, ya_out, ya_label, ya_spell, ya_what, ya_which, ya_type, ya_num, ya_cell)) (hP : ∀ p, p < 48 → ya_reg j = dl_pv p → post 0 (yf_cap, yf_limit, nI R, yf_length, yf_fault, yf_written, yf_top, yf_tokens, upd ya_reg i (ya_tails p), ya_heads, ya_tails, ya_text, ya_in, ya_image, ya_out, ya_label, ya_spell, ya_what, ya_which, ya_type, ya_num, ya_cell)) : wpY_cdr post (yf_cap, yf_limit, nI R, yf_length, yf_fault, yf_written, yf_top, yf_tokens, ya_reg, ya_heads, ya_tails, ya_text, ya_in, ya_image, ya_out, ya_label, ya_spell, ya_what, ya_which, ya_type, ya_num, ya_cell) (nI i) (nI j) := by
  unfold wpY_cdr
  refine yw_badF hi (by omega) (br_t rfl ?_)
  refine yw_badF hj (by omega) (br_t rfl ?_)
  rw [nI_clamp (n := i) (by omega), nI_clamp (n := j) (by omega)]
  refine ⟨vp_in_nI (by omega) (by decide), br_c (fun hp => ?_) (fun hn => hN hn)⟩
  obtain ⟨p, hp, e⟩ := hv.2 hp
  rw [e, dl_pvS p hp, nI_clamp (n := p) (by omega)]
  exact ⟨vp_in_nI (by omega) (by decide), vp_in_nI hp (by decide), vp_in_nI (by omega) (by decide), nm_e (hP p hp e)⟩
theorem yw_setCar {post : Int32 → SY → Prop} {R i j : Nat} (hi : i < R) (hj : j < R) (hR : R ≤ 8) (hv : dl_V 48 (ya_reg i)) (hN : ¬ ya_reg i &&& 3 = 3 → post (-4) (yf_cap, yf_limit, nI R, yf_length, yf_fault, yf_written, yf_top, yf_tokens, ya_reg, ya_heads, ya_tails, ya_text, ya_in, ya_image, ya_out, ya_label, ya_spell, ya_what, ya_which, ya_type, ya_num, ya_cell)) (hP : ∀ p, p < 48 → ya_reg i = dl_pv p → post 0 (yf_cap, yf_limit, nI R, yf_length, yf_fault, yf_written, yf_top, yf_tokens, ya_reg, upd ya_heads p (ya_reg j), ya_tails, ya_text, ya_in, ya_image, ya_out, ya_label, ya_spell, ya_what, ya_which, ya_type, ya_num, ya_cell)) : wpY_setCar post (yf_cap, yf_limit, nI R, yf_length, yf_fault, yf_written, yf_top, yf_tokens, ya_reg, ya_heads, ya_tails, ya_text, ya_in, ya_image, ya_out, ya_label, ya_spell, ya_what, ya_which, ya_type, ya_num, ya_cell) (nI i) (nI j) := by
  unfold wpY_setCar
  refine yw_badF hi (by omega) (br_t rfl ?_)
  refine yw_badF hj (by omega) (br_t rfl ?_)
  rw [nI_clamp (n := i) (by omega), nI_clamp (n := j) (by omega)]
  refine ⟨vp_in_nI (by omega) (by decide), br_c (fun hp => ?_) (fun hn => hN hn)⟩
  obtain ⟨p, hp, e⟩ := hv.2 hp
  rw [e, dl_pvS p hp, nI_clamp (n := p) (by omega)]
  exact ⟨vp_in_nI (by omega) (by decide), vp_in_nI (by omega) (by decide), vp_in_nI hp (by decide), nm_e (hP p hp e)⟩
theorem yw_setCdr {post : Int32 → SY → Prop} {R i j : Nat} (hi : i < R) (hj : j < R) (hR : R ≤ 8) (hv : dl_V 48 (ya_reg i)) (hN : ¬ ya_reg i &&& 3 = 3 → post (-4) (yf_cap, yf_limit, nI R, yf_length, yf_fault, yf_written, yf_top, yf_tokens, ya_reg, ya_heads, ya_tails, ya_text, ya_in, ya_image, ya_out, ya_label, ya_spell, ya_what, ya_which, ya_type, ya_num, ya_cell)) (hP : ∀ p, p < 48 → ya_reg i = dl_pv p → post 0 (yf_cap, yf_limit, nI R, yf_length, yf_fault, yf_written, yf_top, yf_tokens, ya_reg, ya_heads, upd ya_tails p (ya_reg j), ya_text, ya_in, ya_image, ya_out, ya_label, ya_spell, ya_what, ya_which, ya_type, ya_num, ya_cell)) : wpY_setCdr post (yf_cap, yf_limit, nI R, yf_length, yf_fault, yf_written, yf_top, yf_tokens, ya_reg, ya_heads, ya_tails, ya_text, ya_in, ya_image, ya_out, ya_label, ya_spell, ya_what, ya_which, ya_type, ya_num, ya_cell) (nI i) (nI j) := by
  unfold wpY_setCdr
  refine yw_badF hi (by omega) (br_t rfl ?_)
  refine yw_badF hj (by omega) (br_t rfl ?_)
  rw [nI_clamp (n := i) (by omega), nI_clamp (n := j) (by omega)]
  refine ⟨vp_in_nI (by omega) (by decide), br_c (fun hp => ?_) (fun hn => hN hn)⟩
  obtain ⟨p, hp, e⟩ := hv.2 hp
  rw [e, dl_pvS p hp, nI_clamp (n := p) (by omega)]
  exact ⟨vp_in_nI (by omega) (by decide), vp_in_nI (by omega) (by decide), vp_in_nI hp (by decide), nm_e (hP p hp e)⟩
end
end DLEZ
end
section
theorem i_vc_set {k : Nat} {u : SX} {v : SY} (I : i_Rel k u v) (hk : k + 4 ≤ 2051) (v1 : Int32) (v2 : Int32) (v3 : Int32) : wpX_set (fun r u' => wpY_set (fun r' v' => r' = r ∧ i_Rel (k + 4) u' v') v v1 v2 v3) u v1 v2 v3 := by
  refine zz_el (P := fun u v => wpX_set (fun r u' => wpY_set (fun r' v' => r' = r ∧ i_Rel (k + 4) u' v') v v1 v2 v3) u v1 v2 v3) ?_ I
  clear I
  intro cap limit regs len f_fault f_found f_outLen f_nextLabel f_frames f_nextValue f_scanType f_scanValue f_tokens f_place f_depth f_elems a_reg a_carOf a_cdrOf a_text a_seen a_queue a_edgeCount a_image a_origin a_out a_labelOf a_frame a_frameTail a_digits a_tokType a_tokValue a_openFirst a_openTok a_lastElem a_inTail a_elemTok a_elemNext a_elemTail a_slot a_labelTok yf_written yf_top yf_tokens ya_in ya_image ya_what ya_which ya_type ya_num ya_cell g
  try dsimp only
  obtain ⟨V1, V2, V3⟩ := dl_gV g
  obtain ⟨g1, g2, g3, g4, g5, g6, g7, _⟩ := id g
  have gR : regs < 2 ^ 31 := by omega
  by_cases hb : dl_bad regs v1
  · exact xw_setB gR hb (yw_setB gR hb ⟨rfl, zz_in g⟩)
  · obtain ⟨i, hi, rfl⟩ := dl_good gR hb
    refine xw_set hi g6 (fun h0 => ?_) (fun h0 => ?_)
    · exact yw_set hi g6 (fun _ => ⟨rfl, zz_in (dl_gR g (dl_sv_V h0))⟩) (fun h1 => absurd h0 h1)
    · exact yw_set hi g6 (fun h1 => absurd h1 h0) (fun _ => ⟨rfl, zz_in g⟩)
theorem i_vc_move {k : Nat} {u : SX} {v : SY} (I : i_Rel k u v) (hk : k + 4 ≤ 2051) (v1 : Int32) (v2 : Int32) : wpX_move (fun r u' => wpY_move (fun r' v' => r' = r ∧ i_Rel (k + 4) u' v') v v1 v2) u v1 v2 := by
  refine zz_el (P := fun u v => wpX_move (fun r u' => wpY_move (fun r' v' => r' = r ∧ i_Rel (k + 4) u' v') v v1 v2) u v1 v2) ?_ I
  clear I
  intro cap limit regs len f_fault f_found f_outLen f_nextLabel f_frames f_nextValue f_scanType f_scanValue f_tokens f_place f_depth f_elems a_reg a_carOf a_cdrOf a_text a_seen a_queue a_edgeCount a_image a_origin a_out a_labelOf a_frame a_frameTail a_digits a_tokType a_tokValue a_openFirst a_openTok a_lastElem a_inTail a_elemTok a_elemNext a_elemTail a_slot a_labelTok yf_written yf_top yf_tokens ya_in ya_image ya_what ya_which ya_type ya_num ya_cell g
  try dsimp only
  obtain ⟨V1, V2, V3⟩ := dl_gV g
  obtain ⟨g1, g2, g3, g4, g5, g6, g7, _⟩ := id g
  have gR : regs < 2 ^ 31 := by omega
  by_cases hb : dl_bad regs v1 ∨ dl_bad regs v2
  · exact xw_moveB gR hb (yw_moveB gR hb ⟨rfl, zz_in g⟩)
  · obtain ⟨i, hi, rfl⟩ := dl_good gR (fun h => hb (Or.inl h))
    obtain ⟨j, hj, rfl⟩ := dl_good gR (fun h => hb (Or.inr h))
    exact xw_move hi hj g6 (yw_move hi hj g6 ⟨rfl, zz_in (dl_gR g (g.2.2.2.2.2.2.2.1 j))⟩)
theorem i_vc_car {k : Nat} {u : SX} {v : SY} (I : i_Rel k u v) (hk : k + 4 ≤ 2051) (v1 : Int32) (v2 : Int32) : wpX_car (fun r u' => wpY_car (fun r' v' => r' = r ∧ i_Rel (k + 4) u' v') v v1 v2) u v1 v2 := by
  refine zz_el (P := fun u v => wpX_car (fun r u' => wpY_car (fun r' v' => r' = r ∧ i_Rel (k + 4) u' v') v v1 v2) u v1 v2) ?_ I
  clear I
  intro cap limit regs len f_fault f_found f_outLen f_nextLabel f_frames f_nextValue f_scanType f_scanValue f_tokens f_place f_depth f_elems a_reg a_carOf a_cdrOf a_text a_seen a_queue a_edgeCount a_image a_origin a_out a_labelOf a_frame a_frameTail a_digits a_tokType a_tokValue a_openFirst a_openTok a_lastElem a_inTail a_elemTok a_elemNext a_elemTail a_slot a_labelTok yf_written yf_top yf_tokens ya_in ya_image ya_what ya_which ya_type ya_num ya_cell g
  try dsimp only
  obtain ⟨V1, V2, V3⟩ := dl_gV g
  obtain ⟨g1, g2, g3, g4, g5, g6, g7, _⟩ := id g
  have gR : regs < 2 ^ 31 := by omega
  by_cases hb : dl_bad regs v1 ∨ dl_bad regs v2
  · exact xw_carB gR hb (yw_carB gR hb ⟨rfl, zz_in g⟩)
  · obtain ⟨i, hi, rfl⟩ := dl_good gR (fun h => hb (Or.inl h))
    obtain ⟨j, hj, rfl⟩ := dl_good gR (fun h => hb (Or.inr h))
    refine xw_car hi hj g6 (V1 j) (fun hn => ?_) (fun p hp e => ?_)
    · exact yw_car hi hj g6 (V1 j) (fun _ => ⟨rfl, zz_in g⟩) (fun p hp e => absurd (by rw [e]; exact dl_pvA p hp) hn)
    · refine yw_car hi hj g6 (V1 j) (fun hn => absurd (by rw [e]; exact dl_pvA p hp) hn) (fun p' hp' e' => ?_)
      rw [e] at e'
      cases dl_pvI hp hp' e'
      exact ⟨rfl, zz_in (dl_gR g (g.2.2.2.2.2.2.2.2.1 p))⟩
theorem i_vc_cdr {k : Nat} {u : SX} {v : SY} (I : i_Rel k u v) (hk : k + 4 ≤ 2051) (v1 : Int32) (v2 : Int32) : wpX_cdr (fun r u' => wpY_cdr (fun r' v' => r' = r ∧ i_Rel (k + 4) u' v') v v1 v2) u v1 v2 := by
  refine zz_el (P := fun u v => wpX_cdr (fun r u' => wpY_cdr (fun r' v' => r' = r ∧ i_Rel (k + 4) u' v') v v1 v2) u v1 v2) ?_ I
  clear I
  intro cap limit regs len f_fault f_found f_outLen f_nextLabel f_frames f_nextValue f_scanType f_scanValue f_tokens f_place f_depth f_elems a_reg a_carOf a_cdrOf a_text a_seen a_queue a_edgeCount a_image a_origin a_out a_labelOf a_frame a_frameTail a_digits a_tokType a_tokValue a_openFirst a_openTok a_lastElem a_inTail a_elemTok a_elemNext a_elemTail a_slot a_labelTok yf_written yf_top yf_tokens ya_in ya_image ya_what ya_which ya_type ya_num ya_cell g
  try dsimp only
  obtain ⟨V1, V2, V3⟩ := dl_gV g
  obtain ⟨g1, g2, g3, g4, g5, g6, g7, _⟩ := id g
  have gR : regs < 2 ^ 31 := by omega
  by_cases hb : dl_bad regs v1 ∨ dl_bad regs v2
  · exact xw_cdrB gR hb (yw_cdrB gR hb ⟨rfl, zz_in g⟩)
  · obtain ⟨i, hi, rfl⟩ := dl_good gR (fun h => hb (Or.inl h))
    obtain ⟨j, hj, rfl⟩ := dl_good gR (fun h => hb (Or.inr h))
    refine xw_cdr hi hj g6 (V1 j) (fun hn => ?_) (fun p hp e => ?_)
    · exact yw_cdr hi hj g6 (V1 j) (fun _ => ⟨rfl, zz_in g⟩) (fun p hp e => absurd (by rw [e]; exact dl_pvA p hp) hn)
    · refine yw_cdr hi hj g6 (V1 j) (fun hn => absurd (by rw [e]; exact dl_pvA p hp) hn) (fun p' hp' e' => ?_)
      rw [e] at e'
      cases dl_pvI hp hp' e'
      exact ⟨rfl, zz_in (dl_gR g (g.2.2.2.2.2.2.2.2.2 p))⟩
theorem i_vc_setCar {k : Nat} {u : SX} {v : SY} (I : i_Rel k u v) (hk : k + 4 ≤ 2051) (v1 : Int32) (v2 : Int32) : wpX_setCar (fun r u' => wpY_setCar (fun r' v' => r' = r ∧ i_Rel (k + 4) u' v') v v1 v2) u v1 v2 := by
  refine zz_el (P := fun u v => wpX_setCar (fun r u' => wpY_setCar (fun r' v' => r' = r ∧ i_Rel (k + 4) u' v') v v1 v2) u v1 v2) ?_ I
  clear I
  intro cap limit regs len f_fault f_found f_outLen f_nextLabel f_frames f_nextValue f_scanType f_scanValue f_tokens f_place f_depth f_elems a_reg a_carOf a_cdrOf a_text a_seen a_queue a_edgeCount a_image a_origin a_out a_labelOf a_frame a_frameTail a_digits a_tokType a_tokValue a_openFirst a_openTok a_lastElem a_inTail a_elemTok a_elemNext a_elemTail a_slot a_labelTok yf_written yf_top yf_tokens ya_in ya_image ya_what ya_which ya_type ya_num ya_cell g
  try dsimp only
  obtain ⟨V1, V2, V3⟩ := dl_gV g
  obtain ⟨g1, g2, g3, g4, g5, g6, g7, _⟩ := id g
  have gR : regs < 2 ^ 31 := by omega
  by_cases hb : dl_bad regs v1 ∨ dl_bad regs v2
  · exact xw_setCarB gR hb (yw_setCarB gR hb ⟨rfl, zz_in g⟩)
  · obtain ⟨i, hi, rfl⟩ := dl_good gR (fun h => hb (Or.inl h))
    obtain ⟨j, hj, rfl⟩ := dl_good gR (fun h => hb (Or.inr h))
    refine xw_setCar hi hj g6 (V1 i) (fun hn => ?_) (fun p hp e => ?_)
    · exact yw_setCar hi hj g6 (V1 i) (fun _ => ⟨rfl, zz_in g⟩) (fun p hp e => absurd (by rw [e]; exact dl_pvA p hp) hn)
    · refine yw_setCar hi hj g6 (V1 i) (fun hn => absurd (by rw [e]; exact dl_pvA p hp) hn) (fun p' hp' e' => ?_)
      rw [e] at e'
      cases dl_pvI hp hp' e'
      exact ⟨rfl, zz_in (dl_gA g (g.2.2.2.2.2.2.2.1 j))⟩
theorem i_vc_setCdr {k : Nat} {u : SX} {v : SY} (I : i_Rel k u v) (hk : k + 4 ≤ 2051) (v1 : Int32) (v2 : Int32) : wpX_setCdr (fun r u' => wpY_setCdr (fun r' v' => r' = r ∧ i_Rel (k + 4) u' v') v v1 v2) u v1 v2 := by
  refine zz_el (P := fun u v => wpX_setCdr (fun r u' => wpY_setCdr (fun r' v' => r' = r ∧ i_Rel (k + 4) u' v') v v1 v2) u v1 v2) ?_ I
  clear I
  intro cap limit regs len f_fault f_found f_outLen f_nextLabel f_frames f_nextValue f_scanType f_scanValue f_tokens f_place f_depth f_elems a_reg a_carOf a_cdrOf a_text a_seen a_queue a_edgeCount a_image a_origin a_out a_labelOf a_frame a_frameTail a_digits a_tokType a_tokValue a_openFirst a_openTok a_lastElem a_inTail a_elemTok a_elemNext a_elemTail a_slot a_labelTok yf_written yf_top yf_tokens ya_in ya_image ya_what ya_which ya_type ya_num ya_cell g
  try dsimp only
  obtain ⟨V1, V2, V3⟩ := dl_gV g
  obtain ⟨g1, g2, g3, g4, g5, g6, g7, _⟩ := id g
  have gR : regs < 2 ^ 31 := by omega
  by_cases hb : dl_bad regs v1 ∨ dl_bad regs v2
  · exact xw_setCdrB gR hb (yw_setCdrB gR hb ⟨rfl, zz_in g⟩)
  · obtain ⟨i, hi, rfl⟩ := dl_good gR (fun h => hb (Or.inl h))
    obtain ⟨j, hj, rfl⟩ := dl_good gR (fun h => hb (Or.inr h))
    refine xw_setCdr hi hj g6 (V1 i) (fun hn => ?_) (fun p hp e => ?_)
    · exact yw_setCdr hi hj g6 (V1 i) (fun _ => ⟨rfl, zz_in g⟩) (fun p hp e => absurd (by rw [e]; exact dl_pvA p hp) hn)
    · refine yw_setCdr hi hj g6 (V1 i) (fun hn => absurd (by rw [e]; exact dl_pvA p hp) hn) (fun p' hp' e' => ?_)
      rw [e] at e'
      cases dl_pvI hp hp' e'
      exact ⟨rfl, zz_in (dl_gD g (g.2.2.2.2.2.2.2.1 j))⟩
theorem i_vc_kind {k : Nat} {u : SX} {v : SY} (I : i_Rel k u v) (hk : k + 4 ≤ 2051) (v1 : Int32) : wpX_kind (fun r => wpY_kind (fun r' => r' = r ∧ i_Rel (k + 4) u v) v v1) u v1 := by
  refine zz_el (P := fun u v => wpX_kind (fun r => wpY_kind (fun r' => r' = r ∧ i_Rel (k + 4) u v) v v1) u v1) ?_ I
  clear I
  intro cap limit regs len f_fault f_found f_outLen f_nextLabel f_frames f_nextValue f_scanType f_scanValue f_tokens f_place f_depth f_elems a_reg a_carOf a_cdrOf a_text a_seen a_queue a_edgeCount a_image a_origin a_out a_labelOf a_frame a_frameTail a_digits a_tokType a_tokValue a_openFirst a_openTok a_lastElem a_inTail a_elemTok a_elemNext a_elemTail a_slot a_labelTok yf_written yf_top yf_tokens ya_in ya_image ya_what ya_which ya_type ya_num ya_cell g
  try dsimp only
  obtain ⟨V1, V2, V3⟩ := dl_gV g
  obtain ⟨g1, g2, g3, g4, g5, g6, g7, _⟩ := id g
  have gR : regs < 2 ^ 31 := by omega
  by_cases hb : dl_bad regs v1
  · exact xw_kindB gR hb (yw_kindB gR hb ⟨rfl, zz_in g⟩)
  · obtain ⟨i, hi, rfl⟩ := dl_good gR hb
    exact xw_kind hi g6 (yw_kind hi g6 ⟨rfl, zz_in g⟩)
theorem i_vc_valueOf {k : Nat} {u : SX} {v : SY} (I : i_Rel k u v) (hk : k + 4 ≤ 2051) (v1 : Int32) : wpX_valueOf (fun r => wpY_valueOf (fun r' => r' = r ∧ i_Rel (k + 4) u v) v v1) u v1 := by
  refine zz_el (P := fun u v => wpX_valueOf (fun r => wpY_valueOf (fun r' => r' = r ∧ i_Rel (k + 4) u v) v v1) u v1) ?_ I
  clear I
  intro cap limit regs len f_fault f_found f_outLen f_nextLabel f_frames f_nextValue f_scanType f_scanValue f_tokens f_place f_depth f_elems a_reg a_carOf a_cdrOf a_text a_seen a_queue a_edgeCount a_image a_origin a_out a_labelOf a_frame a_frameTail a_digits a_tokType a_tokValue a_openFirst a_openTok a_lastElem a_inTail a_elemTok a_elemNext a_elemTail a_slot a_labelTok yf_written yf_top yf_tokens ya_in ya_image ya_what ya_which ya_type ya_num ya_cell g
  try dsimp only
  obtain ⟨V1, V2, V3⟩ := dl_gV g
  obtain ⟨g1, g2, g3, g4, g5, g6, g7, _⟩ := id g
  have gR : regs < 2 ^ 31 := by omega
  by_cases hb : dl_bad regs v1
  · exact xw_valueOfB gR hb (yw_valueOfB gR hb ⟨rfl, zz_in g⟩)
  · obtain ⟨i, hi, rfl⟩ := dl_good gR hb
    exact xw_valueOf hi g6 (V1 i) (yw_valueOf hi g6 ⟨rfl, zz_in g⟩)
theorem i_vc_same {k : Nat} {u : SX} {v : SY} (I : i_Rel k u v) (hk : k + 4 ≤ 2051) (v1 : Int32) (v2 : Int32) : wpX_same (fun r => wpY_same (fun r' => r' = r ∧ i_Rel (k + 4) u v) v v1 v2) u v1 v2 := by
  refine zz_el (P := fun u v => wpX_same (fun r => wpY_same (fun r' => r' = r ∧ i_Rel (k + 4) u v) v v1 v2) u v1 v2) ?_ I
  clear I
  intro cap limit regs len f_fault f_found f_outLen f_nextLabel f_frames f_nextValue f_scanType f_scanValue f_tokens f_place f_depth f_elems a_reg a_carOf a_cdrOf a_text a_seen a_queue a_edgeCount a_image a_origin a_out a_labelOf a_frame a_frameTail a_digits a_tokType a_tokValue a_openFirst a_openTok a_lastElem a_inTail a_elemTok a_elemNext a_elemTail a_slot a_labelTok yf_written yf_top yf_tokens ya_in ya_image ya_what ya_which ya_type ya_num ya_cell g
  try dsimp only
  obtain ⟨V1, V2, V3⟩ := dl_gV g
  obtain ⟨g1, g2, g3, g4, g5, g6, g7, _⟩ := id g
  have gR : regs < 2 ^ 31 := by omega
  by_cases hb : dl_bad regs v1 ∨ dl_bad regs v2
  · exact xw_sameB gR hb (yw_sameB gR hb ⟨rfl, zz_in g⟩)
  · obtain ⟨i, hi, rfl⟩ := dl_good gR (fun h => hb (Or.inl h))
    obtain ⟨j, hj, rfl⟩ := dl_good gR (fun h => hb (Or.inr h))
    exact xw_same hi hj g6 (yw_same hi hj g6 ⟨rfl, zz_in g⟩)
theorem i_vc_clearText {k : Nat} {u : SX} {v : SY} (I : i_Rel k u v) (hk : k + 4 ≤ 2051) : wpX_clearText (fun u' => wpY_clearText (fun v' => i_Rel (k + 4) u' v') v) u := by
  refine zz_el (P := fun u v => wpX_clearText (fun u' => wpY_clearText (fun v' => i_Rel (k + 4) u' v') v) u) ?_ I
  clear I
  intro cap limit regs len f_fault f_found f_outLen f_nextLabel f_frames f_nextValue f_scanType f_scanValue f_tokens f_place f_depth f_elems a_reg a_carOf a_cdrOf a_text a_seen a_queue a_edgeCount a_image a_origin a_out a_labelOf a_frame a_frameTail a_digits a_tokType a_tokValue a_openFirst a_openTok a_lastElem a_inTail a_elemTok a_elemNext a_elemTail a_slot a_labelTok yf_written yf_top yf_tokens ya_in ya_image ya_what ya_which ya_type ya_num ya_cell g
  try dsimp only
  obtain ⟨V1, V2, V3⟩ := dl_gV g
  obtain ⟨g1, g2, g3, g4, g5, g6, g7, _⟩ := id g
  have gR : regs < 2 ^ 31 := by omega
  unfold wpX_clearText
  dsimp only
  unfold wpY_clearText
  dsimp only
  exact zz_in (len := 0) (dl_gL g (Nat.zero_le _))
theorem i_vc_textLength {k : Nat} {u : SX} {v : SY} (I : i_Rel k u v) (hk : k + 4 ≤ 2051) : wpX_textLength (fun r => wpY_textLength (fun r' => r' = r ∧ i_Rel (k + 4) u v) v) u := by
  refine zz_el (P := fun u v => wpX_textLength (fun r => wpY_textLength (fun r' => r' = r ∧ i_Rel (k + 4) u v) v) u) ?_ I
  clear I
  intro cap limit regs len f_fault f_found f_outLen f_nextLabel f_frames f_nextValue f_scanType f_scanValue f_tokens f_place f_depth f_elems a_reg a_carOf a_cdrOf a_text a_seen a_queue a_edgeCount a_image a_origin a_out a_labelOf a_frame a_frameTail a_digits a_tokType a_tokValue a_openFirst a_openTok a_lastElem a_inTail a_elemTok a_elemNext a_elemTail a_slot a_labelTok yf_written yf_top yf_tokens ya_in ya_image ya_what ya_which ya_type ya_num ya_cell g
  try dsimp only
  obtain ⟨V1, V2, V3⟩ := dl_gV g
  obtain ⟨g1, g2, g3, g4, g5, g6, g7, _⟩ := id g
  have gR : regs < 2 ^ 31 := by omega
  exact ⟨rfl, zz_in g⟩
theorem i_vc_faultAt {k : Nat} {u : SX} {v : SY} (I : i_Rel k u v) (hk : k + 4 ≤ 2051) : wpX_faultAt (fun r => wpY_faultAt (fun r' => r' = r ∧ i_Rel (k + 4) u v) v) u := by
  refine zz_el (P := fun u v => wpX_faultAt (fun r => wpY_faultAt (fun r' => r' = r ∧ i_Rel (k + 4) u v) v) u) ?_ I
  clear I
  intro cap limit regs len f_fault f_found f_outLen f_nextLabel f_frames f_nextValue f_scanType f_scanValue f_tokens f_place f_depth f_elems a_reg a_carOf a_cdrOf a_text a_seen a_queue a_edgeCount a_image a_origin a_out a_labelOf a_frame a_frameTail a_digits a_tokType a_tokValue a_openFirst a_openTok a_lastElem a_inTail a_elemTok a_elemNext a_elemTail a_slot a_labelTok yf_written yf_top yf_tokens ya_in ya_image ya_what ya_which ya_type ya_num ya_cell g
  try dsimp only
  obtain ⟨V1, V2, V3⟩ := dl_gV g
  obtain ⟨g1, g2, g3, g4, g5, g6, g7, _⟩ := id g
  have gR : regs < 2 ^ 31 := by omega
  exact ⟨rfl, zz_in g⟩
theorem i_vc_charAt {k : Nat} {u : SX} {v : SY} (I : i_Rel k u v) (hk : k + 4 ≤ 2051) (v1 : Int32) : wpX_charAt (fun r => wpY_charAt (fun r' => r' = r ∧ i_Rel (k + 4) u v) v v1) u v1 := by
  refine zz_el (P := fun u v => wpX_charAt (fun r => wpY_charAt (fun r' => r' = r ∧ i_Rel (k + 4) u v) v v1) u v1) ?_ I
  clear I
  intro cap limit regs len f_fault f_found f_outLen f_nextLabel f_frames f_nextValue f_scanType f_scanValue f_tokens f_place f_depth f_elems a_reg a_carOf a_cdrOf a_text a_seen a_queue a_edgeCount a_image a_origin a_out a_labelOf a_frame a_frameTail a_digits a_tokType a_tokValue a_openFirst a_openTok a_lastElem a_inTail a_elemTok a_elemNext a_elemTail a_slot a_labelTok yf_written yf_top yf_tokens ya_in ya_image ya_what ya_which ya_type ya_num ya_cell g
  try dsimp only
  obtain ⟨V1, V2, V3⟩ := dl_gV g
  obtain ⟨g1, g2, g3, g4, g5, g6, g7, _⟩ := id g
  have gR : regs < 2 ^ 31 := by omega
  unfold wpX_charAt wpY_charAt
  try dsimp only
  by_cases h0 : v1 < 0
  · exact br_t h0 (br_t h0 ⟨rfl, zz_in g⟩)
  · refine br_f h0 ?_
    obtain ⟨j, hj, rfl⟩ := nI_of h0
    by_cases h1 : j < len
    · exact br_t (nI_lt h1 (by omega)) ⟨vp_in_nI (by omega) (by decide), br_f h0 (br_t (nI_lt h1 (by omega)) ⟨vp_in_nI (by omega) (by decide), ⟨rfl, zz_in g⟩⟩)⟩
    · exact br_f (nI_nlt (by omega) hj) (br_f h0 (br_f (nI_nlt (by omega) hj) ⟨rfl, zz_in g⟩))
theorem i_vc_size {k : Nat} {u : SX} {v : SY} (I : i_Rel k u v) (hk : k + 4 ≤ 2051) (v1 : Int32) : wpX_size (fun r u' => wpY_size (fun r' v' => r' = r ∧ i_Rel (k + 4) u' v') v v1) u v1 := by
  refine zz_el (P := fun u v => wpX_size (fun r u' => wpY_size (fun r' v' => r' = r ∧ i_Rel (k + 4) u' v') v v1) u v1) ?_ I
  clear I
  intro cap limit regs len f_fault f_found f_outLen f_nextLabel f_frames f_nextValue f_scanType f_scanValue f_tokens f_place f_depth f_elems a_reg a_carOf a_cdrOf a_text a_seen a_queue a_edgeCount a_image a_origin a_out a_labelOf a_frame a_frameTail a_digits a_tokType a_tokValue a_openFirst a_openTok a_lastElem a_inTail a_elemTok a_elemNext a_elemTail a_slot a_labelTok yf_written yf_top yf_tokens ya_in ya_image ya_what ya_which ya_type ya_num ya_cell g
  try dsimp only
  obtain ⟨V1, V2, V3⟩ := dl_gV g
  obtain ⟨g1, g2, g3, g4, g5, g6, g7, _⟩ := id g
  have gR : regs < 2 ^ 31 := by omega
  by_cases hb : dl_bad regs v1
  · exact xw_sizeB gR hb (yw_sizeB gR hb ⟨rfl, zz_in g⟩)
  · obtain ⟨i, hi, rfl⟩ := dl_good gR hb
    unfold wpX_size
    refine xw_badF hi gR (br_t rfl ?_)
    refine xw_walkR (by omega) (V1 i) V2 V3 (fun seen queue m F => ?_)
    try dsimp only
    unfold wpY_size
    refine yw_badF hi gR (br_t rfl ?_)
    refine yw_graph (by omega) (by omega) V1 V2 V3 (fun inn Fy => ?_)
    refine ⟨?_, zz_in g⟩
    rw [dl_sameC (dl_xfR F (fun p => by
      constructor
      · intro h; exact ⟨i, by omega, Nat.le_refl _, Nat.le_refl _, h⟩
      · rintro ⟨r, h1, h2, h3, h4⟩
        cases Nat.le_antisymm h2 h3
        exact h4)) Fy]
theorem i_vc_live {k : Nat} {u : SX} {v : SY} (I : i_Rel k u v) (hk : k + 4 ≤ 2051) : wpX_live (fun r u' => wpY_live (fun r' v' => r' = r ∧ i_Rel (k + 4) u' v') v) u := by
  refine zz_el (P := fun u v => wpX_live (fun r u' => wpY_live (fun r' v' => r' = r ∧ i_Rel (k + 4) u' v') v) u) ?_ I
  clear I
  intro cap limit regs len f_fault f_found f_outLen f_nextLabel f_frames f_nextValue f_scanType f_scanValue f_tokens f_place f_depth f_elems a_reg a_carOf a_cdrOf a_text a_seen a_queue a_edgeCount a_image a_origin a_out a_labelOf a_frame a_frameTail a_digits a_tokType a_tokValue a_openFirst a_openTok a_lastElem a_inTail a_elemTok a_elemNext a_elemTail a_slot a_labelTok yf_written yf_top yf_tokens ya_in ya_image ya_what ya_which ya_type ya_num ya_cell g
  try dsimp only
  obtain ⟨V1, V2, V3⟩ := dl_gV g
  obtain ⟨g1, g2, g3, g4, g5, g6, g7, _⟩ := id g
  have gR : regs < 2 ^ 31 := by omega
  unfold wpX_live
  refine xw_walkA g6 V1 V2 V3 (fun seen queue m F => ?_)
  try dsimp only
  unfold wpY_live
  dsimp only
  rw [dl_s1 (by omega)]
  refine yw_graph (a := 0) (b := regs - 1) (by omega) (by omega) V1 V2 V3 (fun inn Fy => ?_)
  refine ⟨?_, zz_in g⟩
  rw [dl_sameC (dl_xfR F (dl_rl g6 g5)) Fy]
end
section
section DLCONS
theorem dl_smP {g : Nat → Nat} {n : Nat} : ∀ m, n ≤ m → dl_sm g n ≤ dl_sm g m := by
  intro m
  induction m with
  | zero => intro h; cases Nat.le_zero.mp h; exact Nat.le_refl _
  | succ m ih =>
    intro h
    by_cases e : n = m + 1
    · rw [e]; exact Nat.le_refl _
    · have := ih (by omega)
      rw [dl_smS]; omega
/-- the first cell below cap that is not in the set -/
def dl_fr (cap : Nat) (set : Nat → Int32) (p : Nat) : Prop := p < cap ∧ set p = 0 ∧ ∀ q, q < p → ¬ set q = 0
theorem dl_frU {cap p q : Nat} {s t : Nat → Int32} (hc : cap ≤ 48) (h : ∀ q, q < 48 → (s q = 0 ↔ t q = 0)) (a : dl_fr cap s p) (b : dl_fr cap t q) : p = q := by
  obtain ⟨a1, a2, a3⟩ := a
  obtain ⟨b1, b2, b3⟩ := b
  rcases Nat.lt_trichotomy p q with z | z | z
  · exact absurd ((h p (by omega)).mp a2) (b3 p z)
  · exact z
  · exact absurd ((h q (by omega)).mpr b2) (a3 q z)
theorem dl_frE {cap : Nat} {s : Nat → Int32} (hc : cap ≤ 48) (h : dl_ct s < cap) : ∃ p, dl_fr cap s p := by
  have ex : ∃ p, p < cap ∧ s p = 0 := by
    apply Classical.byContradiction
    intro hn
    have e : dl_sm (dl_on s) cap = dl_sm (fun _ => 1) cap := dl_smC cap (fun i hi => by
      unfold dl_on
      exact if_neg (fun z => hn ⟨i, hi, z⟩))
    rw [dl_sm1] at e
    have := dl_smP (g := dl_on s) 48 hc
    unfold dl_ct at h
    omega
  obtain ⟨p, ⟨h1, h2⟩, h3⟩ := pk_least _ ex
  exact ⟨p, h1, h2, fun q hq z => h3 q hq ⟨by omega, z⟩⟩
section
variable {f_cap f_limit f_regs f_textLen f_fault f_found f_outLen f_nextLabel f_frames f_nextValue f_scanType f_scanValue f_tokens f_place f_depth f_elems : Int32} {a_reg a_carOf a_cdrOf a_text a_seen a_queue a_edgeCount a_image a_origin a_out a_labelOf a_frame a_frameTail a_digits a_tokType a_tokValue a_openFirst a_openTok a_lastElem a_inTail a_elemTok a_elemNext a_elemTail a_slot a_labelTok : Nat → Int32}
theorem xw_cons50 {post : Int32 → SX → Prop} {cap p : Nat} {x1 x2 x3 : Int32} (hc : cap ≤ 48) (F : dl_fr cap a_seen p) (H : wX_cons_84 post x1 x2 x3 (nI p) (nI cap) f_limit f_regs f_textLen f_fault f_found f_outLen f_nextLabel f_frames f_nextValue f_scanType f_scanValue f_tokens f_place f_depth f_elems a_reg a_carOf a_cdrOf a_text a_seen a_queue a_edgeCount a_image a_origin a_out a_labelOf a_frame a_frameTail a_digits a_tokType a_tokValue a_openFirst a_openTok a_lastElem a_inTail a_elemTok a_elemNext a_elemTail a_slot a_labelTok) : ∃ n, wX_cons_50 post x1 x2 x3 (nI cap) f_limit f_regs f_textLen f_fault f_found f_outLen f_nextLabel f_frames f_nextValue f_scanType f_scanValue f_tokens f_place f_depth f_elems a_reg a_carOf a_cdrOf a_text a_seen a_queue a_edgeCount a_image a_origin a_out a_labelOf a_frame a_frameTail a_digits a_tokType a_tokValue a_openFirst a_openTok a_lastElem a_inTail a_elemTok a_elemNext a_elemTail a_slot a_labelTok n (-1) 0 := by
  obtain ⟨F1, F2, F3⟩ := F
  have L : ∀ n i, 50 ≤ n + i → i ≤ p → wX_cons_50 post x1 x2 x3 (nI cap) f_limit f_regs f_textLen f_fault f_found f_outLen f_nextLabel f_frames f_nextValue f_scanType f_scanValue f_tokens f_place f_depth f_elems a_reg a_carOf a_cdrOf a_text a_seen a_queue a_edgeCount a_image a_origin a_out a_labelOf a_frame a_frameTail a_digits a_tokType a_tokValue a_openFirst a_openTok a_lastElem a_inTail a_elemTok a_elemNext a_elemTail a_slot a_labelTok n (-1) (nI i) := by
    intro n
    induction n with
    | zero => intro i h1 h2; omega
    | succ n ih =>
      intro i h1 h2
      refine br_f (nI_ge (by omega) (by omega)) (br_f (by decide) ⟨vp_in_nI (by omega) (by decide), ?_⟩)
      rw [nI_clamp (n := i) (by omega)]
      by_cases e : i = p
      · subst e
        refine br_t F2 (nm_r (nI_1 i) ?_)
        obtain ⟨n, rfl⟩ : ∃ n', n = n' + 1 := ⟨n - 1, by omega⟩
        by_cases z : cap ≤ i + 1
        · exact br_t (nI_le z (by omega)) H
        · exact br_f (nI_ge (by omega) (by omega)) (br_t (nI_pos' (by omega)) H)
      · exact br_f (F3 i (by omega)) (nm_r (nI_1 i) (ih (i + 1) (by omega) (by omega)))
  exact ⟨50, L 50 0 (by omega) (by omega)⟩
theorem xw_cons {post : Int32 → SX → Prop} {R i j l cap : Nat} (hi : i < R) (hj : j < R) (hl : l < R) (hR : R ≤ 8) (hc48 : cap ≤ 48) (hg : ∀ i, dl_V 48 (a_reg i)) (hc : ∀ i, dl_V 48 (a_carOf i)) (hd : ∀ i, dl_V 48 (a_cdrOf i))
    (H5 : ∀ seen queue m, dl_XF a_carOf a_cdrOf (fun p => ∃ r, r < R ∧ a_reg r = dl_pv p) seen queue m → cap ≤ m → post (-5) (nI cap, f_limit, nI R, f_textLen, f_fault, nI m, f_outLen, f_nextLabel, f_frames, f_nextValue, f_scanType, f_scanValue, f_tokens, f_place, f_depth, f_elems, a_reg, a_carOf, a_cdrOf, a_text, seen, queue, a_edgeCount, a_image, a_origin, a_out, a_labelOf, a_frame, a_frameTail, a_digits, a_tokType, a_tokValue, a_openFirst, a_openTok, a_lastElem, a_inTail, a_elemTok, a_elemNext, a_elemTail, a_slot, a_labelTok))
    (H0 : ∀ seen queue m p, dl_XF a_carOf a_cdrOf (fun p => ∃ r, r < R ∧ a_reg r = dl_pv p) seen queue m → m < cap → dl_fr cap seen p → post 0 (nI cap, f_limit, nI R, f_textLen, f_fault, nI m, f_outLen, f_nextLabel, f_frames, f_nextValue, f_scanType, f_scanValue, f_tokens, f_place, f_depth, f_elems, upd a_reg i (dl_pv p), upd a_carOf p (a_reg j), upd a_cdrOf p (a_reg l), a_text, seen, queue, a_edgeCount, a_image, a_origin, a_out, a_labelOf, a_frame, a_frameTail, a_digits, a_tokType, a_tokValue, a_openFirst, a_openTok, a_lastElem, a_inTail, a_elemTok, a_elemNext, a_elemTail, a_slot, a_labelTok)) :
    wpX_cons post (nI cap, f_limit, nI R, f_textLen, f_fault, f_found, f_outLen, f_nextLabel, f_frames, f_nextValue, f_scanType, f_scanValue, f_tokens, f_place, f_depth, f_elems, a_reg, a_carOf, a_cdrOf, a_text, a_seen, a_queue, a_edgeCount, a_image, a_origin, a_out, a_labelOf, a_frame, a_frameTail, a_digits, a_tokType, a_tokValue, a_openFirst, a_openTok, a_lastElem, a_inTail, a_elemTok, a_elemNext, a_elemTail, a_slot, a_labelTok) (nI i) (nI j) (nI l) := by
  unfold wpX_cons
  refine xw_badF hi (by omega) (br_t rfl ?_)
  refine xw_badF hj (by omega) (br_t rfl ?_)
  refine xw_badF hl (by omega) (br_t rfl ?_)
  refine xw_walkA hR hg hc hd (fun seen queue m F => ?_)
  have m48 := dl_xi48 F.1
  by_cases z : m < cap
  · obtain ⟨p, fr⟩ := dl_frE (s := seen) hc48 (by rw [← dl_xiM F.1]; exact z)
    have K := H0 seen queue m p F z fr
    have hp := fr.1
    refine br_t (nI_lt z (by omega)) (xw_cons50 hc48 fr ?_)
    unfold wX_cons_84
    rw [nI_clamp (n := p) (by omega), nI_clamp (n := i) (by omega), nI_clamp (n := j) (by omega), nI_clamp (n := l) (by omega), dl_pvM]
    exact br_t (nI_pos' (by omega)) ⟨vp_in_nI (by omega) (by decide), vp_in_nI (by omega) (by decide), nm_e ⟨vp_in_nI (by omega) (by decide), vp_in_nI (by omega) (by decide), nm_e ⟨vp_in_nI (by omega) (by decide), nm_e K⟩⟩⟩
  · exact br_f (nI_nlt (by omega) (by omega)) (H5 seen queue m F (by omega))
end
section
variable {yf_cap yf_limit yf_regs yf_length yf_fault yf_written yf_top yf_tokens : Int32} {ya_reg ya_heads ya_tails ya_text ya_in ya_image ya_out ya_label ya_spell ya_what ya_which ya_type ya_num ya_cell : Nat → Int32}
theorem yw_free {post : Int32 → SY → Prop} {cap p : Nat} (hc : cap ≤ 48) (F : dl_fr cap ya_in p) (H : post (nI p) (nI cap, yf_limit, yf_regs, yf_length, yf_fault, yf_written, yf_top, yf_tokens, ya_reg, ya_heads, ya_tails, ya_text, upd ya_in p 1, ya_image, ya_out, ya_label, ya_spell, ya_what, ya_which, ya_type, ya_num, ya_cell)) : wpY_free post (nI cap, yf_limit, yf_regs, yf_length, yf_fault, yf_written, yf_top, yf_tokens, ya_reg, ya_heads, ya_tails, ya_text, ya_in, ya_image, ya_out, ya_label, ya_spell, ya_what, ya_which, ya_type, ya_num, ya_cell) := by
  obtain ⟨F1, F2, F3⟩ := F
  have L : ∀ n i x1 x2, i < n → i ≤ 48 → ((i = 0 ∧ x2 = -1) ∨ (∃ j, i = j + 1 ∧ x2 = nI j)) → (i ≤ p → x1 = nI p) → wY_free_5 post (nI cap) yf_limit yf_regs yf_length yf_fault yf_written yf_top yf_tokens ya_reg ya_heads ya_tails ya_text ya_in ya_image ya_out ya_label ya_spell ya_what ya_which ya_type ya_num ya_cell n x1 x2 := by
    intro n
    induction n with
    | zero => intro i x1 x2 h1; omega
    | succ n ih =>
      intro i x1 x2 h1 h2 h3 h4
      rcases h3 with ⟨e, rfl⟩ | ⟨j, rfl, rfl⟩
      · have e1 := h4 (by omega)
        subst e1
        refine br_t (by decide) ⟨vp_in_nI (by omega) (by decide), ?_⟩
        rw [nI_clamp (n := p) (by omega), dl_b1]
        exact nm_e H
      · have nx : (j = 0 ∧ nI j + (-1) = -1) ∨ (∃ j', j = j' + 1 ∧ nI j + (-1) = nI j') := by
          by_cases z : j = 0
          · subst z; exact Or.inl ⟨rfl, by decide⟩
          · exact Or.inr ⟨j - 1, by omega, dl_m1 (by omega)⟩
        refine br_f (nI_pos (by omega)) ?_
        by_cases z : cap ≤ j
        · exact br_t (nI_le z (by omega)) (nm_e (ih j _ _ (by omega) (by omega) nx (fun h => by omega)))
        · refine br_f (nI_ge (by omega) (by omega)) ⟨vp_in_nI (by omega) (by decide), ?_⟩
          rw [nI_clamp (n := j) (by omega)]
          by_cases z2 : ya_in j = 0
          · refine br_t z2 (nm_e (ih j _ _ (by omega) (by omega) nx (fun h => ?_)))
            by_cases e : j = p
            · rw [e]
            · exact absurd z2 (F3 j (by omega))
          · refine br_f z2 (nm_e (ih j _ _ (by omega) (by omega) nx (fun h => ?_)))
            by_cases e : j = p
            · rw [e] at z2; exact absurd F2 z2
            · exact h4 (by omega)
  unfold wpY_free
  exact ⟨49, L 49 48 0 47 (by omega) (by omega) (Or.inr ⟨47, rfl, rfl⟩) (fun h => by omega)⟩
theorem yw_cons {post : Int32 → SY → Prop} {R i j l cap : Nat} (hi : i < R) (hj : j < R) (hl : l < R) (hR : R ≤ 8) (hc48 : cap ≤ 48) (hg : ∀ i, dl_V 48 (ya_reg i)) (hc : ∀ i, dl_V 48 (ya_heads i)) (hd : ∀ i, dl_V 48 (ya_tails i))
    (H5 : ∀ inn, dl_YF ya_heads ya_tails (fun p => ∃ r, r < 8 ∧ 0 ≤ r ∧ r ≤ R - 1 ∧ ya_reg r = dl_pv p) inn → cap ≤ dl_ct inn → post (-5) (nI cap, yf_limit, nI R, yf_length, yf_fault, yf_written, yf_top, yf_tokens, ya_reg, ya_heads, ya_tails, ya_text, inn, ya_image, ya_out, ya_label, ya_spell, ya_what, ya_which, ya_type, ya_num, ya_cell))
    (H0 : ∀ inn p, dl_YF ya_heads ya_tails (fun p => ∃ r, r < 8 ∧ 0 ≤ r ∧ r ≤ R - 1 ∧ ya_reg r = dl_pv p) inn → dl_ct inn < cap → dl_fr cap inn p → post 0 (nI cap, yf_limit, nI R, yf_length, yf_fault, yf_written, yf_top, yf_tokens, upd ya_reg i (dl_pv p), upd ya_heads p (ya_reg j), upd ya_tails p (ya_reg l), ya_text, upd inn p 1, ya_image, ya_out, ya_label, ya_spell, ya_what, ya_which, ya_type, ya_num, ya_cell)) :
    wpY_cons post (nI cap, yf_limit, nI R, yf_length, yf_fault, yf_written, yf_top, yf_tokens, ya_reg, ya_heads, ya_tails, ya_text, ya_in, ya_image, ya_out, ya_label, ya_spell, ya_what, ya_which, ya_type, ya_num, ya_cell) (nI i) (nI j) (nI l) := by
  unfold wpY_cons
  refine yw_badF hi (by omega) (br_t rfl ?_)
  refine yw_badF hj (by omega) (br_t rfl ?_)
  refine yw_badF hl (by omega) (br_t rfl ?_)
  unfold wpY_live
  try dsimp only
  rw [dl_s1 (n := R) (by omega)]
  refine yw_graph (a := 0) (b := R - 1) (by omega) (by omega) hg hc hd (fun inn F => ?_)
  have m48 := dl_ct48 inn
  by_cases z : dl_ct inn < cap
  · obtain ⟨p, fr⟩ := dl_frE (s := inn) hc48 z
    have K := H0 inn p F z fr
    have hp := fr.1
    refine br_t (nI_lt z (by omega)) (yw_free hc48 fr ?_)
    try dsimp only
    rw [nI_clamp (n := p) (by omega), nI_clamp (n := i) (by omega), nI_clamp (n := j) (by omega), nI_clamp (n := l) (by omega), dl_pvM]
    exact ⟨vp_in_nI (by omega) (by decide), vp_in_nI (by omega) (by decide), nm_e ⟨vp_in_nI (by omega) (by decide), vp_in_nI (by omega) (by decide), nm_e ⟨vp_in_nI (by omega) (by decide), nm_e K⟩⟩⟩
  · exact br_f (nI_nlt (by omega) (by omega)) (H5 inn F (by omega))
end
theorem i_vc_cons {k : Nat} {u : SX} {v : SY} (I : i_Rel k u v) (hk : k + 4 ≤ 2051) (v1 : Int32) (v2 : Int32) (v3 : Int32) : wpX_cons (fun r u' => wpY_cons (fun r' v' => r' = r ∧ i_Rel (k + 4) u' v') v v1 v2 v3) u v1 v2 v3 := by
  refine zz_el (P := fun u v => wpX_cons (fun r u' => wpY_cons (fun r' v' => r' = r ∧ i_Rel (k + 4) u' v') v v1 v2 v3) u v1 v2 v3) ?_ I
  clear I
  intro cap limit regs len f_fault f_found f_outLen f_nextLabel f_frames f_nextValue f_scanType f_scanValue f_tokens f_place f_depth f_elems a_reg a_carOf a_cdrOf a_text a_seen a_queue a_edgeCount a_image a_origin a_out a_labelOf a_frame a_frameTail a_digits a_tokType a_tokValue a_openFirst a_openTok a_lastElem a_inTail a_elemTok a_elemNext a_elemTail a_slot a_labelTok yf_written yf_top yf_tokens ya_in ya_image ya_what ya_which ya_type ya_num ya_cell g
  try dsimp only
  obtain ⟨V1, V2, V3⟩ := dl_gV g
  obtain ⟨g1, g2, g3, g4, g5, g6, g7, _⟩ := id g
  have gR : regs < 2 ^ 31 := by omega
  by_cases hb : dl_bad regs v1 ∨ dl_bad regs v2 ∨ dl_bad regs v3
  · exact xw_consB gR hb (yw_consB gR hb ⟨rfl, zz_in g⟩)
  · obtain ⟨i, hi, rfl⟩ := dl_good gR (fun h => hb (Or.inl h))
    obtain ⟨j, hj, rfl⟩ := dl_good gR (fun h => hb (Or.inr (Or.inl h)))
    obtain ⟨l, hl, rfl⟩ := dl_good gR (fun h => hb (Or.inr (Or.inr h)))
    refine xw_cons hi hj hl g6 g2 V1 V2 V3 (fun seen queue m F hm => ?_) (fun seen queue m p F hm fr => ?_)
    · have F' := dl_xfR F (dl_rl g6 g5)
      refine yw_cons hi hj hl g6 g2 V1 V2 V3 (fun inn Fy hm' => ⟨rfl, zz_in g⟩) (fun inn p Fy hm' fr => ?_)
      have := dl_sameC F' Fy
      omega
    · have F' := dl_xfR F (dl_rl g6 g5)
      refine yw_cons hi hj hl g6 g2 V1 V2 V3 (fun inn Fy hm' => ?_) (fun inn p' Fy hm' fr' => ?_)
      · have := dl_sameC F' Fy
        omega
      · cases dl_frU g2 (dl_same F' Fy) fr fr'
        exact ⟨rfl, zz_in (dl_gR (dl_gA (dl_gD g (g.2.2.2.2.2.2.2.1 l)) (g.2.2.2.2.2.2.2.1 j)) (dl_Vp fr.1 g2))⟩
end DLCONS
end
section
section DLEDGE
theorem dl_E0 {car cdr inn : Nat → Int32} {reg : Nat → Int32} {r p : Nat} {ro : Nat → Prop} (hro : reg r = dl_pv p → ro p) (F : dl_YF car cdr ro inn) (hp : p < 48) (h : inn p = 0) : dl_E car cdr inn (reg r) p = 0 := by
  have nR : ¬ dl_R car cdr ro p := fun hR => by
    have := (F.2 p hp).mpr hR
    rw [h] at this; exact absurd this (by decide)
  unfold dl_E
  have e1 : dl_eq (reg r) p = 0 := if_neg (fun e => nR (dl_Rr hp (hro e)))
  rw [e1, dl_sm0 48 (fun q hq => ?_)]
  by_cases z : inn q = 0
  · rw [if_pos z]
  · rw [if_neg z]
    have z1 : inn q = 1 := by rcases F.1 q hq with h | h; exact absurd h z; exact h
    have rq := (F.2 q hq).mp z1
    have a1 : dl_eq (car q) p = 0 := if_neg (fun e => nR (dl_Rs rq hp (Or.inl e)))
    have a2 : dl_eq (cdr q) p = 0 := if_neg (fun e => nR (dl_Rs rq hp (Or.inr e)))
    unfold dl_ed
    rw [a1, a2]
theorem dl_eqP {p q : Nat} (hp : p < 48) (hq : q < 48) : dl_eq (dl_pv p) q = if q = p then 1 else 0 := by
  unfold dl_eq
  by_cases e : q = p
  · rw [if_pos e, if_pos (by rw [e])]
  · rw [if_neg e, if_neg (fun h => e (dl_pvI hp hq h).symm)]
section
variable {f_cap f_limit f_regs f_textLen f_fault f_found f_outLen f_nextLabel f_frames f_nextValue f_scanType f_scanValue f_tokens f_place f_depth f_elems : Int32} {a_reg a_carOf a_cdrOf a_text a_seen a_queue a_edgeCount a_image a_origin a_out a_labelOf a_frame a_frameTail a_digits a_tokType a_tokValue a_openFirst a_openTok a_lastElem a_inTail a_elemTok a_elemNext a_elemTail a_slot a_labelTok : Nat → Int32}
theorem xw_addEdge {post : SX → Prop} {v : Int32} {c : Nat → Nat} (hv : dl_V 48 v) (hE : ∀ p, p < 48 → a_edgeCount p = nI (c p)) (H : ∀ e, (∀ p, p < 48 → e p = nI (c p + dl_eq v p)) → post (f_cap, f_limit, f_regs, f_textLen, f_fault, f_found, f_outLen, f_nextLabel, f_frames, f_nextValue, f_scanType, f_scanValue, f_tokens, f_place, f_depth, f_elems, a_reg, a_carOf, a_cdrOf, a_text, a_seen, a_queue, e, a_image, a_origin, a_out, a_labelOf, a_frame, a_frameTail, a_digits, a_tokType, a_tokValue, a_openFirst, a_openTok, a_lastElem, a_inTail, a_elemTok, a_elemNext, a_elemTail, a_slot, a_labelTok)) : wpX_addEdge post (f_cap, f_limit, f_regs, f_textLen, f_fault, f_found, f_outLen, f_nextLabel, f_frames, f_nextValue, f_scanType, f_scanValue, f_tokens, f_place, f_depth, f_elems, a_reg, a_carOf, a_cdrOf, a_text, a_seen, a_queue, a_edgeCount, a_image, a_origin, a_out, a_labelOf, a_frame, a_frameTail, a_digits, a_tokType, a_tokValue, a_openFirst, a_openTok, a_lastElem, a_inTail, a_elemTok, a_elemNext, a_elemTail, a_slot, a_labelTok) v := by
  unfold wpX_addEdge
  refine xw_pair (fun hp => ?_) (fun hn => ?_)
  · obtain ⟨p, hp48, rfl⟩ := hv.2 hp
    replace hp := hp48
    rw [dl_pvS p hp, nI_clamp (n := p) (by omega)]
    refine br_f dl_10 ⟨vp_in_nI hp (by decide), vp_in_nI hp (by decide), nm_e (H _ (fun q hq => ?_))⟩
    rw [dl_eqP hp hq]
    by_cases e : q = p
    · rw [e, pk_us, hE p hp, if_pos rfl, nI_1]
    · rw [pk_un e, if_neg e]; exact hE q hq
  · refine br_t rfl (H _ (fun q hq => ?_))
    have e1 : dl_eq v q = 0 := if_neg (fun e => hn (by rw [e]; exact dl_pvA q hq))
    rw [e1]; exact hE q hq
theorem xw_count {post : SX → Prop} {r : Nat} (hr8 : r < 8) (hr : dl_V 48 (a_reg r)) (hc : ∀ i, dl_V 48 (a_carOf i)) (hd : ∀ i, dl_V 48 (a_cdrOf i))
    (H : ∀ seen queue m e, dl_XF a_carOf a_cdrOf (fun p => a_reg r = dl_pv p) seen queue m → (∀ p, p < 48 → e p = nI (dl_E a_carOf a_cdrOf seen (a_reg r) p)) → post (f_cap, f_limit, f_regs, f_textLen, f_fault, nI m, f_outLen, f_nextLabel, f_frames, f_nextValue, f_scanType, f_scanValue, f_tokens, f_place, f_depth, f_elems, a_reg, a_carOf, a_cdrOf, a_text, seen, queue, e, a_image, a_origin, a_out, a_labelOf, a_frame, a_frameTail, a_digits, a_tokType, a_tokValue, a_openFirst, a_openTok, a_lastElem, a_inTail, a_elemTok, a_elemNext, a_elemTail, a_slot, a_labelTok)) :
    wpX_countEdges post (f_cap, f_limit, f_regs, f_textLen, f_fault, f_found, f_outLen, f_nextLabel, f_frames, f_nextValue, f_scanType, f_scanValue, f_tokens, f_place, f_depth, f_elems, a_reg, a_carOf, a_cdrOf, a_text, a_seen, a_queue, a_edgeCount, a_image, a_origin, a_out, a_labelOf, a_frame, a_frameTail, a_digits, a_tokType, a_tokValue, a_openFirst, a_openTok, a_lastElem, a_inTail, a_elemTok, a_elemNext, a_elemTail, a_slot, a_labelTok) (nI r) := by
  unfold wpX_countEdges
  refine xw_walkR hr8 hr hc hd (fun seen queue m F => ?_)
  have m48 := dl_xi48 F.1
  have L2 : ∀ n i e, 49 ≤ n + i → i ≤ m → (∀ p, p < 48 → e p = nI (dl_eq (a_reg r) p + dl_sm (fun j => dl_ed a_carOf a_cdrOf p (queue j).toNatClampNeg) i)) →
      wX_countEdges_38 post n (nI i) f_cap f_limit f_regs f_textLen f_fault (nI m) f_outLen f_nextLabel f_frames f_nextValue f_scanType f_scanValue f_tokens f_place f_depth f_elems a_reg a_carOf a_cdrOf a_text seen queue e a_image a_origin a_out a_labelOf a_frame a_frameTail a_digits a_tokType a_tokValue a_openFirst a_openTok a_lastElem a_inTail a_elemTok a_elemNext a_elemTail a_slot a_labelTok := by
    intro n
    induction n with
    | zero => intro i e h1 h2; omega
    | succ n ih =>
      intro i e h1 h2 hE
      by_cases z : i = m
      · subst z
        refine br_t (nI_le (by omega) (by omega)) (H seen queue i e F (fun p hp => ?_))
        rw [hE p hp, F.1.2.2.2.1 (dl_ed a_carOf a_cdrOf p)]
        rfl
      · obtain ⟨q, hq, eq, es⟩ := F.1.2.1 i (by omega)
        refine br_f (nI_ge (by omega) (by omega)) (br_f (nI_ge (b := 48) (by omega) (by decide)) ⟨vp_in_nI (by omega) (by decide), nm_r (e' := nI q) (by rw [nI_clamp (by omega)]; exact eq) ⟨vp_in_nI hq (by decide), ?_⟩⟩)
        rw [nI_clamp (n := q) (by omega)]
        refine xw_addEdge (hc q) hE (fun e1 hE1 => ?_)
        refine And.intro (vp_in_nI hq (by decide)) ?_
        refine xw_addEdge (hd q) hE1 (fun e2 hE2 => ?_)
        refine nm_r (nI_1 i) (ih (i + 1) e2 (by omega) (by omega) (fun p hp => ?_))
        rw [hE2 p hp, dl_smS, eq, nI_clamp (n := q) (by omega)]
        refine congrArg nI ?_
        unfold dl_ed
        omega
  have L : ∀ n i, 49 ≤ n + i → i ≤ 48 → wX_countEdges_7 post (nI r) f_cap f_limit f_regs f_textLen f_fault (nI m) f_outLen f_nextLabel f_frames f_nextValue f_scanType f_scanValue f_tokens f_place f_depth f_elems n (nI i) a_reg a_carOf a_cdrOf a_text seen queue (dl_fill a_edgeCount 0 i) a_image a_origin a_out a_labelOf a_frame a_frameTail a_digits a_tokType a_tokValue a_openFirst a_openTok a_lastElem a_inTail a_elemTok a_elemNext a_elemTail a_slot a_labelTok := by
    intro n
    induction n with
    | zero => intro i h1 h2; omega
    | succ n ih =>
      intro i h1 h2
      by_cases e : i = 48
      · subst e
        refine br_t (nI_le (a := 48) (by omega) (by omega)) ⟨vp_in_nI hr8 (by decide), ?_⟩
        rw [nI_clamp (n := r) (by omega)]
        refine xw_addEdge (c := fun _ => 0) hr (fun p hp => dl_fillI hp) (fun e he => ?_)
        exact ⟨49, L2 49 0 e (by omega) (by omega) (fun p hp => by rw [he p hp]; exact congrArg nI (by (try dsimp only); rw [Nat.zero_add]; rfl))⟩
      · refine br_f (nI_ge (b := 48) (by omega) (by decide)) ⟨vp_in_nI (by omega) (by decide), nm_r (e' := dl_fill a_edgeCount 0 (i + 1)) ?_ (nm_r (nI_1 i) (ih (i + 1) (by omega) (by omega)))⟩
        rw [nI_clamp (by omega), dl_fillS]
  have := L 49 0 (by omega) (by omega)
  rw [dl_fill0] at this
  exact ⟨49, this⟩
end
section
variable {yf_cap yf_limit yf_regs yf_length yf_fault yf_written yf_top yf_tokens : Int32} {ya_reg ya_heads ya_tails ya_text ya_in ya_image ya_out ya_label ya_spell ya_what ya_which ya_type ya_num ya_cell : Nat → Int32}
theorem yw_into {post : Int32 → Prop} {r p : Nat} (hr8 : r < 8) (H : post (nI (dl_E ya_heads ya_tails ya_in (ya_reg r) p))) : wpY_into post (yf_cap, yf_limit, yf_regs, yf_length, yf_fault, yf_written, yf_top, yf_tokens, ya_reg, ya_heads, ya_tails, ya_text, ya_in, ya_image, ya_out, ya_label, ya_spell, ya_what, ya_which, ya_type, ya_num, ya_cell) (nI r) (dl_pv p) := by
  have L : ∀ n i c, 49 ≤ n + i → i ≤ 48 → c = dl_eq (ya_reg r) p + dl_sm (fun q => if ya_in q = 0 then 0 else dl_ed ya_heads ya_tails p q) i → wY_into_19 post (dl_pv p) yf_cap yf_limit yf_regs yf_length yf_fault yf_written yf_top yf_tokens ya_reg ya_heads ya_tails ya_text ya_in ya_image ya_out ya_label ya_spell ya_what ya_which ya_type ya_num ya_cell n (nI c) (nI i) := by
    intro n
    induction n with
    | zero => intro i c h1 h2; omega
    | succ n ih =>
      intro i c h1 h2 hc
      by_cases e : i = 48
      · subst e
        subst hc
        exact br_t (nI_le (a := 48) (by omega) (by omega)) H
      · have S := dl_smS (fun q => if ya_in q = 0 then 0 else dl_ed ya_heads ya_tails p q) i
        try dsimp only at S
        have hi : vp_in (nI i) 48 := vp_in_nI (by omega) (by decide)
        have ei : (nI i).toNatClampNeg = i := nI_clamp (by omega)
        refine br_f (nI_ge (b := 48) (by omega) (by decide)) ⟨hi, ?_⟩
        rw [ei]
        by_cases z : ya_in i = 0
        · rw [if_pos z] at S
          refine br_t z ?_
          unfold wY_into_50
          rw [ei]
          exact ⟨hi, br_t z (nm_r (nI_1 i) (ih (i + 1) c (by omega) (by omega) (by omega)))⟩
        · rw [if_neg z] at S
          refine br_f z ⟨hi, ?_⟩
          have tail : ∀ c', c' + dl_eq (ya_tails i) p = dl_eq (ya_reg r) p + dl_sm (fun q => if ya_in q = 0 then 0 else dl_ed ya_heads ya_tails p q) (i + 1) → wY_into_50 post (wY_into_19 post (dl_pv p) yf_cap yf_limit yf_regs yf_length yf_fault yf_written yf_top yf_tokens ya_reg ya_heads ya_tails ya_text ya_in ya_image ya_out ya_label ya_spell ya_what ya_which ya_type ya_num ya_cell n) (dl_pv p) (nI c') (nI i) yf_cap yf_limit yf_regs yf_length yf_fault yf_written yf_top yf_tokens ya_reg ya_heads ya_tails ya_text ya_in ya_image ya_out ya_label ya_spell ya_what ya_which ya_type ya_num ya_cell := by
            intro c' hc'
            unfold wY_into_50
            rw [ei]
            refine ⟨hi, br_f z ⟨hi, ?_⟩⟩
            by_cases z2 : ya_tails i = dl_pv p
            · have e2 : dl_eq (ya_tails i) p = 1 := if_pos z2
              exact br_t z2 (nm_r (nI_1 c') (nm_r (nI_1 i) (ih (i + 1) (c' + 1) (by omega) (by omega) (by omega))))
            · have e2 : dl_eq (ya_tails i) p = 0 := if_neg z2
              exact br_f z2 (nm_r (nI_1 i) (ih (i + 1) c' (by omega) (by omega) (by omega)))
          have ed : dl_ed ya_heads ya_tails p i = dl_eq (ya_heads i) p + dl_eq (ya_tails i) p := rfl
          by_cases z1 : ya_heads i = dl_pv p
          · have e1 : dl_eq (ya_heads i) p = 1 := if_pos z1
            exact br_t z1 (nm_r (nI_1 c) (tail (c + 1) (by omega)))
          · have e1 : dl_eq (ya_heads i) p = 0 := if_neg z1
            exact br_f z1 (tail c (by omega))
  unfold wpY_into
  rw [nI_clamp (n := r) (by omega)]
  refine ⟨vp_in_nI hr8 (by decide), ?_⟩
  by_cases z : ya_reg r = dl_pv p
  · have e1 : dl_eq (ya_reg r) p = 1 := if_pos z
    exact br_t z ⟨49, L 49 0 1 (by omega) (by omega) (by rw [e1]; rfl)⟩
  · have e1 : dl_eq (ya_reg r) p = 0 := if_neg z
    exact br_f z ⟨49, L 49 0 0 (by omega) (by omega) (by rw [e1]; rfl)⟩
end
theorem dl_rr {reg : Nat → Int32} {i : Nat} (hi : i < 8) (p : Nat) : (reg i = dl_pv p) ↔ (∃ r, r < 8 ∧ i ≤ r ∧ r ≤ i ∧ reg r = dl_pv p) := by
  constructor
  · intro h; exact ⟨i, by omega, Nat.le_refl _, Nat.le_refl _, h⟩
  · rintro ⟨r, h1, h2, h3, h4⟩
    cases Nat.le_antisymm h2 h3
    exact h4
theorem i_vc_edges {k : Nat} {u : SX} {v : SY} (I : i_Rel k u v) (hk : k + 4 ≤ 2051) (v1 : Int32) (v2 : Int32) : wpX_edges (fun r u' => wpY_edges (fun r' v' => r' = r ∧ i_Rel (k + 4) u' v') v v1 v2) u v1 v2 := by
  refine zz_el (P := fun u v => wpX_edges (fun r u' => wpY_edges (fun r' v' => r' = r ∧ i_Rel (k + 4) u' v') v v1 v2) u v1 v2) ?_ I
  clear I
  intro cap limit regs len f_fault f_found f_outLen f_nextLabel f_frames f_nextValue f_scanType f_scanValue f_tokens f_place f_depth f_elems a_reg a_carOf a_cdrOf a_text a_seen a_queue a_edgeCount a_image a_origin a_out a_labelOf a_frame a_frameTail a_digits a_tokType a_tokValue a_openFirst a_openTok a_lastElem a_inTail a_elemTok a_elemNext a_elemTail a_slot a_labelTok yf_written yf_top yf_tokens ya_in ya_image ya_what ya_which ya_type ya_num ya_cell g
  try dsimp only
  obtain ⟨V1, V2, V3⟩ := dl_gV g
  obtain ⟨g1, g2, g3, g4, g5, g6, g7, _⟩ := id g
  have gR : regs < 2 ^ 31 := by omega
  by_cases hb : dl_bad regs v1 ∨ dl_bad regs v2
  · exact xw_edgesB gR hb (yw_edgesB gR hb ⟨rfl, zz_in g⟩)
  · obtain ⟨i, hi, rfl⟩ := dl_good gR (fun h => hb (Or.inl h))
    obtain ⟨j, hj, rfl⟩ := dl_good gR (fun h => hb (Or.inr h))
    unfold wpX_edges
    refine xw_badF hi gR (br_t rfl ?_)
    refine xw_badF hj gR (br_t rfl ?_)
    refine And.intro (vp_in_nI (by omega) (by decide)) ?_
    rw [nI_clamp (n := j) (by omega)]
    refine xw_pair (fun hp => br_f dl_10 ?_) (fun hn => br_t rfl ?_)
    · obtain ⟨p, hp48, ep⟩ := (V1 j).2 hp
      refine xw_count (by omega) (V1 i) V2 V3 (fun seen queue m e F hE => ?_)
      refine And.intro (vp_in_nI (by omega) (by decide)) ?_
      try dsimp only
      rw [ep, dl_pvS p hp48, nI_clamp (n := p) (by omega), hE p hp48]
      refine And.intro (vp_in_nI hp48 (by decide)) ?_
      unfold wpY_edges
      refine yw_badF hi gR (br_t rfl ?_)
      refine yw_badF hj gR (br_t rfl ?_)
      refine And.intro (vp_in_nI (by omega) (by decide)) ?_
      rw [nI_clamp (n := j) (by omega)]
      refine br_t hp ?_
      refine yw_graph (a := i) (b := i) (by omega) (by omega) V1 V2 V3 (fun inn Fy => ?_)
      have sm := dl_same (dl_xfR F (dl_rr (by omega))) Fy
      refine And.intro (vp_in_nI (by omega) (by decide)) ?_
      try dsimp only
      rw [ep, dl_pvS p hp48, nI_clamp (n := p) (by omega)]
      refine And.intro (vp_in_nI hp48 (by decide)) ?_
      rw [dl_EC sm]
      by_cases z : inn p = 0
      · refine br_t z ⟨?_, zz_in g⟩
        rw [dl_E0 (reg := a_reg) (r := i) (fun e => (dl_rr (by omega) p).mp e) Fy hp48 z]; rfl
      · refine br_f z ⟨vp_in_nI (by omega) (by decide), ?_⟩
        exact yw_into (by omega) ⟨rfl, zz_in g⟩
    · unfold wpY_edges
      refine yw_badF hi gR (br_t rfl ?_)
      refine yw_badF hj gR (br_t rfl ?_)
      refine And.intro (vp_in_nI (by omega) (by decide)) ?_
      rw [nI_clamp (n := j) (by omega)]
      exact br_f hn ⟨rfl, zz_in g⟩
end DLEDGE
end
section
section DLTXT
/-! the wb_ rows are the kit's (BITS.to-paste) -/
theorem wb_tb (n : Nat) : (lN n).toBitVec = BitVec.ofNat 64 n := rfl
theorem wb_inj {a b : Int64} (h : a.toBitVec = b.toBitVec) : a = b := Int64.toBitVec_inj.mp h
theorem wb_of (x : Int64) : ∃ n, n < 2 ^ 64 ∧ x = lN n := ⟨x.toBitVec.toNat, x.toBitVec.isLt, wb_inj (by rw [wb_tb]; simp)⟩
theorem wb_lt2 {a b : Nat} (h : a < b) : 2 ^ a < 2 ^ b := Nat.pow_lt_pow_right (by decide) h
theorem wb_and {a b : Nat} (ha : a < 2 ^ 64) (hb : b < 2 ^ 64) : lN a &&& lN b = lN (a &&& b) := by
  apply wb_inj
  rw [Int64.toBitVec_and, wb_tb, wb_tb, wb_tb]
  apply BitVec.eq_of_toNat_eq
  rw [BitVec.toNat_and, BitVec.toNat_ofNat, BitVec.toNat_ofNat, BitVec.toNat_ofNat, Nat.mod_eq_of_lt ha, Nat.mod_eq_of_lt hb, Nat.mod_eq_of_lt (Nat.and_lt_two_pow _ hb)]
theorem wb_mask {n k : Nat} (hn : n < 2 ^ 64) (hk : k < 64) : lN n &&& lN (2 ^ k - 1) = lN (n % 2 ^ k) := by
  rw [wb_and hn (by have := wb_lt2 hk; omega), Nat.and_two_pow_sub_one_eq_mod]
theorem dl_by0 (y : Int64) : (y &&& 255).toInt32 = 0 ↔ y &&& 255 = 0 := by
  obtain ⟨n, hn, rfl⟩ := wb_of y
  have e : lN n &&& 255 = lN (n % 2 ^ 8) := wb_mask (k := 8) hn (by decide)
  have h8 : n % 2 ^ 8 < 256 := Nat.mod_lt _ (by decide)
  rw [e, lN_i]
  have a : nI (n % 2 ^ 8) = 0 ↔ n % 2 ^ 8 = 0 := by rw [← nI_0]; exact nI_eq (by omega) (by omega)
  have b : lN (n % 2 ^ 8) = 0 ↔ n % 2 ^ 8 = 0 := lN_eq (b := 0) (by omega) (by omega)
  rw [a, b]
def dl_by (w : Int64) (k : Nat) : Int64 := (w.toUInt64 >>> ((8 * nI k).toInt64.toUInt64 &&& Int64.toUInt64 63)).toInt64 &&& 255
def dl_ch (w : Int64) (k : Nat) : Int32 := (dl_by w k).toInt32
theorem dl_ch0 (w : Int64) (k : Nat) : dl_ch w k = 0 ↔ dl_by w k = 0 := dl_by0 _
def dl_le (c : Int32) : Prop := ¬ c < 97 ∧ ¬ 122 < c
def dl_di (c : Int32) : Prop := ¬ c < 48 ∧ ¬ 57 < c
def dl_wo (c : Int32) : Prop := dl_le c ∨ dl_di c ∨ c = 45
def dl_AL (c : Int32) : Prop := dl_wo c ∨ c = 32 ∨ c = 35 ∨ c = 40 ∨ c = 41 ∨ c = 46 ∨ c = 61
section
variable {f_cap f_limit f_regs f_textLen f_fault f_found f_outLen f_nextLabel f_frames f_nextValue f_scanType f_scanValue f_tokens f_place f_depth f_elems : Int32} {a_reg a_carOf a_cdrOf a_text a_seen a_queue a_edgeCount a_image a_origin a_out a_labelOf a_frame a_frameTail a_digits a_tokType a_tokValue a_openFirst a_openTok a_lastElem a_inTail a_elemTok a_elemNext a_elemTail a_slot a_labelTok : Nat → Int32}
variable {yf_cap yf_limit yf_regs yf_length yf_fault yf_written yf_top yf_tokens : Int32} {ya_reg ya_heads ya_tails ya_text ya_in ya_image ya_out ya_label ya_spell ya_what ya_which ya_type ya_num ya_cell : Nat → Int32}
theorem xw_letter {post : Int32 → Prop} {c : Int32} (h1 : dl_le c → post 1) (h0 : ¬ dl_le c → post 0) : wpX_isLetter post (f_cap, f_limit, f_regs, f_textLen, f_fault, f_found, f_outLen, f_nextLabel, f_frames, f_nextValue, f_scanType, f_scanValue, f_tokens, f_place, f_depth, f_elems, a_reg, a_carOf, a_cdrOf, a_text, a_seen, a_queue, a_edgeCount, a_image, a_origin, a_out, a_labelOf, a_frame, a_frameTail, a_digits, a_tokType, a_tokValue, a_openFirst, a_openTok, a_lastElem, a_inTail, a_elemTok, a_elemNext, a_elemTail, a_slot, a_labelTok) c := by
  unfold wpX_isLetter
  by_cases a : c < 97
  · exact br_t a (h0 (fun h => h.1 a))
  · refine br_f a ?_
    by_cases b : 122 < c
    · exact br_t b (h0 (fun h => h.2 b))
    · exact br_f b (h1 ⟨a, b⟩)
theorem xw_digit {post : Int32 → Prop} {c : Int32} (h1 : dl_di c → post 1) (h0 : ¬ dl_di c → post 0) : wpX_isDigit post (f_cap, f_limit, f_regs, f_textLen, f_fault, f_found, f_outLen, f_nextLabel, f_frames, f_nextValue, f_scanType, f_scanValue, f_tokens, f_place, f_depth, f_elems, a_reg, a_carOf, a_cdrOf, a_text, a_seen, a_queue, a_edgeCount, a_image, a_origin, a_out, a_labelOf, a_frame, a_frameTail, a_digits, a_tokType, a_tokValue, a_openFirst, a_openTok, a_lastElem, a_inTail, a_elemTok, a_elemNext, a_elemTail, a_slot, a_labelTok) c := by
  unfold wpX_isDigit
  by_cases a : c < 48
  · exact br_t a (h0 (fun h => h.1 a))
  · refine br_f a ?_
    by_cases b : 57 < c
    · exact br_t b (h0 (fun h => h.2 b))
    · exact br_f b (h1 ⟨a, b⟩)
theorem xw_word {post : Int32 → Prop} {c : Int32} (h1 : dl_wo c → post 1) (h0 : ¬ dl_wo c → post 0) : wpX_isWord post (f_cap, f_limit, f_regs, f_textLen, f_fault, f_found, f_outLen, f_nextLabel, f_frames, f_nextValue, f_scanType, f_scanValue, f_tokens, f_place, f_depth, f_elems, a_reg, a_carOf, a_cdrOf, a_text, a_seen, a_queue, a_edgeCount, a_image, a_origin, a_out, a_labelOf, a_frame, a_frameTail, a_digits, a_tokType, a_tokValue, a_openFirst, a_openTok, a_lastElem, a_inTail, a_elemTok, a_elemNext, a_elemTail, a_slot, a_labelTok) c := by
  unfold wpX_isWord
  refine xw_letter (fun a => br_f dl_10 (h1 (Or.inl a))) (fun a => br_t rfl ?_)
  refine xw_digit (fun b => br_f dl_10 (h1 (Or.inr (Or.inl b)))) (fun b => br_t rfl ?_)
  by_cases d : c = 45
  · exact br_t d (h1 (Or.inr (Or.inr d)))
  · refine br_f d (h0 ?_)
    rintro (h | h | h)
    · exact a h
    · exact b h
    · exact d h
theorem xw_alpha {post : Int32 → Prop} {c : Int32} (h1 : dl_AL c → post 1) (h0 : ¬ dl_AL c → post 0) : wpX_inAlphabet post (f_cap, f_limit, f_regs, f_textLen, f_fault, f_found, f_outLen, f_nextLabel, f_frames, f_nextValue, f_scanType, f_scanValue, f_tokens, f_place, f_depth, f_elems, a_reg, a_carOf, a_cdrOf, a_text, a_seen, a_queue, a_edgeCount, a_image, a_origin, a_out, a_labelOf, a_frame, a_frameTail, a_digits, a_tokType, a_tokValue, a_openFirst, a_openTok, a_lastElem, a_inTail, a_elemTok, a_elemNext, a_elemTail, a_slot, a_labelTok) c := by
  unfold wpX_inAlphabet
  refine xw_word (fun a => br_f dl_10 (h1 (Or.inl a))) (fun a => br_t rfl ?_)
  by_cases c1 : c = 32
  · exact br_t c1 (h1 (Or.inr (Or.inl c1)))
  · refine br_f c1 ?_
    by_cases c2 : c = 35
    · exact br_t c2 (h1 (Or.inr (Or.inr (Or.inl c2))))
    · refine br_f c2 ?_
      by_cases c3 : c = 40
      · exact br_t c3 (h1 (Or.inr (Or.inr (Or.inr (Or.inl c3)))))
      · refine br_f c3 ?_
        by_cases c4 : c = 41
        · exact br_t c4 (h1 (Or.inr (Or.inr (Or.inr (Or.inr (Or.inl c4))))))
        · refine br_f c4 ?_
          by_cases c5 : c = 46
          · exact br_t c5 (h1 (Or.inr (Or.inr (Or.inr (Or.inr (Or.inr (Or.inl c5)))))))
          · refine br_f c5 ?_
            by_cases c6 : c = 61
            · exact br_t c6 (h1 (Or.inr (Or.inr (Or.inr (Or.inr (Or.inr (Or.inr c6)))))))
            · refine br_f c6 (h0 ?_)
              rintro (h | h | h | h | h | h | h)
              · exact a h
              · exact c1 h
              · exact c2 h
              · exact c3 h
              · exact c4 h
              · exact c5 h
              · exact c6 h
theorem yw_letter {post : Int32 → Prop} {c : Int32} (h1 : dl_le c → post 1) (h0 : ¬ dl_le c → post 0) : wpY_letter post (yf_cap, yf_limit, yf_regs, yf_length, yf_fault, yf_written, yf_top, yf_tokens, ya_reg, ya_heads, ya_tails, ya_text, ya_in, ya_image, ya_out, ya_label, ya_spell, ya_what, ya_which, ya_type, ya_num, ya_cell) c := by
  unfold wpY_letter
  by_cases a : c < 97
  · exact br_t a (h0 (fun h => h.1 a))
  · refine br_f a ?_
    by_cases b : 122 < c
    · exact br_t b (h0 (fun h => h.2 b))
    · exact br_f b (h1 ⟨a, b⟩)
theorem yw_digit {post : Int32 → Prop} {c : Int32} (h1 : dl_di c → post 1) (h0 : ¬ dl_di c → post 0) : wpY_digit post (yf_cap, yf_limit, yf_regs, yf_length, yf_fault, yf_written, yf_top, yf_tokens, ya_reg, ya_heads, ya_tails, ya_text, ya_in, ya_image, ya_out, ya_label, ya_spell, ya_what, ya_which, ya_type, ya_num, ya_cell) c := by
  unfold wpY_digit
  by_cases a : c < 48
  · exact br_t a (h0 (fun h => h.1 a))
  · refine br_f a ?_
    by_cases b : 57 < c
    · exact br_t b (h0 (fun h => h.2 b))
    · exact br_f b (h1 ⟨a, b⟩)
theorem yw_known {post : Int32 → Prop} {c : Int32} (h1 : dl_AL c → post 1) (h0 : ¬ dl_AL c → post 0) : wpY_known post (yf_cap, yf_limit, yf_regs, yf_length, yf_fault, yf_written, yf_top, yf_tokens, ya_reg, ya_heads, ya_tails, ya_text, ya_in, ya_image, ya_out, ya_label, ya_spell, ya_what, ya_which, ya_type, ya_num, ya_cell) c := by
  unfold wpY_known
  by_cases c1 : c = 32
  · exact br_t c1 (h1 (Or.inr (Or.inl c1)))
  · refine br_f c1 ?_
    by_cases c2 : c = 35
    · exact br_t c2 (h1 (Or.inr (Or.inr (Or.inl c2))))
    · refine br_f c2 ?_
      by_cases c3 : c = 40
      · exact br_t c3 (h1 (Or.inr (Or.inr (Or.inr (Or.inl c3)))))
      · refine br_f c3 ?_
        by_cases c4 : c = 41
        · exact br_t c4 (h1 (Or.inr (Or.inr (Or.inr (Or.inr (Or.inl c4))))))
        · refine br_f c4 ?_
          by_cases c7 : c = 45
          · exact br_t c7 (h1 (Or.inl (Or.inr (Or.inr c7))))
          · refine br_f c7 ?_
            by_cases c5 : c = 46
            · exact br_t c5 (h1 (Or.inr (Or.inr (Or.inr (Or.inr (Or.inr (Or.inl c5)))))))
            · refine br_f c5 ?_
              by_cases c6 : c = 61
              · exact br_t c6 (h1 (Or.inr (Or.inr (Or.inr (Or.inr (Or.inr (Or.inr c6)))))))
              · refine br_f c6 ?_
                refine yw_digit (fun a => br_f dl_10 (h1 (Or.inl (Or.inr (Or.inl a))))) (fun a => br_t rfl ?_)
                refine yw_letter (fun b => br_f dl_10 (h1 (Or.inl (Or.inl b)))) (fun b => br_t rfl (h0 ?_))
                rintro ((h | h | h) | h | h | h | h | h | h)
                · exact b h
                · exact a h
                · exact c7 h
                · exact c1 h
                · exact c2 h
                · exact c3 h
                · exact c4 h
                · exact c5 h
                · exact c6 h
end
/-! putMany: T bytes are taken -/
def dl_T (w : Int64) (T : Nat) : Prop := T ≤ 8 ∧ (∀ k, k < T → ¬ dl_by w k = 0) ∧ (T < 8 → dl_by w T = 0)
theorem dl_TE (w : Int64) : ∃ T, dl_T w T := by
  obtain ⟨T, h1, h2⟩ := pk_least (fun k => k = 8 ∨ dl_by w k = 0) ⟨8, Or.inl rfl⟩
  have h8 : T ≤ 8 := by
    apply Classical.byContradiction
    intro h
    exact h2 8 (by omega) (Or.inl rfl)
  refine ⟨T, h8, fun k hk z => h2 k hk (Or.inr z), fun h => ?_⟩
  rcases h1 with e | e
  · omega
  · exact e
def dl_pt (a : Nat → Int32) (L : Nat) (w : Int64) : Nat → Nat → Int32
  | 0 => a
  | n + 1 => upd (dl_pt a L w n) (L + n) (dl_ch w n)
section
variable {f_cap f_limit f_regs f_textLen f_fault f_found f_outLen f_nextLabel f_frames f_nextValue f_scanType f_scanValue f_tokens f_place f_depth f_elems : Int32} {a_reg a_carOf a_cdrOf a_text a_seen a_queue a_edgeCount a_image a_origin a_out a_labelOf a_frame a_frameTail a_digits a_tokType a_tokValue a_openFirst a_openTok a_lastElem a_inTail a_elemTok a_elemNext a_elemTail a_slot a_labelTok : Nat → Int32}
variable {yf_cap yf_limit yf_regs yf_length yf_fault yf_written yf_top yf_tokens : Int32} {ya_reg ya_heads ya_tails ya_text ya_in ya_image ya_out ya_label ya_spell ya_what ya_which ya_type ya_num ya_cell : Nat → Int32}
theorem xw_pm66 {post : Int32 → SX → Prop} {w : Int64} {T L lim : Nat} (hT : T ≤ 8) (hL : L ≤ 256) (hlim : lim ≤ 256) (h7 : ¬ L + T ≤ lim → post (-7) (f_cap, nI lim, f_regs, nI L, f_fault, f_found, f_outLen, f_nextLabel, f_frames, f_nextValue, f_scanType, f_scanValue, f_tokens, f_place, f_depth, f_elems, a_reg, a_carOf, a_cdrOf, a_text, a_seen, a_queue, a_edgeCount, a_image, a_origin, a_out, a_labelOf, a_frame, a_frameTail, a_digits, a_tokType, a_tokValue, a_openFirst, a_openTok, a_lastElem, a_inTail, a_elemTok, a_elemNext, a_elemTail, a_slot, a_labelTok)) (h0 : L + T ≤ lim → post 0 (f_cap, nI lim, f_regs, nI (L + T), f_fault, f_found, f_outLen, f_nextLabel, f_frames, f_nextValue, f_scanType, f_scanValue, f_tokens, f_place, f_depth, f_elems, a_reg, a_carOf, a_cdrOf, dl_pt a_text L w T, a_seen, a_queue, a_edgeCount, a_image, a_origin, a_out, a_labelOf, a_frame, a_frameTail, a_digits, a_tokType, a_tokValue, a_openFirst, a_openTok, a_lastElem, a_inTail, a_elemTok, a_elemNext, a_elemTail, a_slot, a_labelTok)) :
    wX_putMany_66 post w (nI T) f_cap (nI lim) f_regs (nI L) f_fault f_found f_outLen f_nextLabel f_frames f_nextValue f_scanType f_scanValue f_tokens f_place f_depth f_elems a_reg a_carOf a_cdrOf a_text a_seen a_queue a_edgeCount a_image a_origin a_out a_labelOf a_frame a_frameTail a_digits a_tokType a_tokValue a_openFirst a_openTok a_lastElem a_inTail a_elemTok a_elemNext a_elemTail a_slot a_labelTok := by
  unfold wX_putMany_66
  rw [nI_add]
  by_cases z : L + T ≤ lim
  · refine br_t (nI_le z (by omega)) ⟨9, ?_⟩
    have Lp : ∀ n i, 9 ≤ n + i → i ≤ T → wX_putMany_85 post w (nI T) f_cap (nI lim) f_regs (nI L) f_fault f_found f_outLen f_nextLabel f_frames f_nextValue f_scanType f_scanValue f_tokens f_place f_depth f_elems n (nI i) a_reg a_carOf a_cdrOf (dl_pt a_text L w i) a_seen a_queue a_edgeCount a_image a_origin a_out a_labelOf a_frame a_frameTail a_digits a_tokType a_tokValue a_openFirst a_openTok a_lastElem a_inTail a_elemTok a_elemNext a_elemTail a_slot a_labelTok := by
      intro n
      induction n with
      | zero => intro i h1 h2; omega
      | succ n ih =>
        intro i h1 h2
        by_cases e : i = T
        · subst e
          exact br_t (nI_le (by omega) (by omega)) (nm_r (nI_add _ _) (h0 z))
        · refine br_f (nI_ge (by omega) (by omega)) ?_
          rw [nI_add, nI_clamp (n := L + i) (by omega)]
          exact ⟨vp_in_nI (by omega) (by decide), nm_r (e' := dl_pt a_text L w (i + 1)) rfl (nm_r (nI_1 i) (ih (i + 1) (by omega) (by omega)))⟩
    exact Lp 9 0 (by omega) (by omega)
  · exact br_f (nI_ge (by omega) (by omega)) (h7 z)
theorem xw_putMany {post : Int32 → SX → Prop} {w : Int64} {T : Nat} (hT : dl_T w T) (hb : (∃ k, k < T ∧ ¬ dl_AL (dl_ch w k)) → post (-6) (f_cap, f_limit, f_regs, f_textLen, f_fault, f_found, f_outLen, f_nextLabel, f_frames, f_nextValue, f_scanType, f_scanValue, f_tokens, f_place, f_depth, f_elems, a_reg, a_carOf, a_cdrOf, a_text, a_seen, a_queue, a_edgeCount, a_image, a_origin, a_out, a_labelOf, a_frame, a_frameTail, a_digits, a_tokType, a_tokValue, a_openFirst, a_openTok, a_lastElem, a_inTail, a_elemTok, a_elemNext, a_elemTail, a_slot, a_labelTok)) (hg : (∀ k, k < T → dl_AL (dl_ch w k)) → wX_putMany_66 post w (nI T) f_cap f_limit f_regs f_textLen f_fault f_found f_outLen f_nextLabel f_frames f_nextValue f_scanType f_scanValue f_tokens f_place f_depth f_elems a_reg a_carOf a_cdrOf a_text a_seen a_queue a_edgeCount a_image a_origin a_out a_labelOf a_frame a_frameTail a_digits a_tokType a_tokValue a_openFirst a_openTok a_lastElem a_inTail a_elemTok a_elemNext a_elemTail a_slot a_labelTok) : wpX_putMany post (f_cap, f_limit, f_regs, f_textLen, f_fault, f_found, f_outLen, f_nextLabel, f_frames, f_nextValue, f_scanType, f_scanValue, f_tokens, f_place, f_depth, f_elems, a_reg, a_carOf, a_cdrOf, a_text, a_seen, a_queue, a_edgeCount, a_image, a_origin, a_out, a_labelOf, a_frame, a_frameTail, a_digits, a_tokType, a_tokValue, a_openFirst, a_openTok, a_lastElem, a_inTail, a_elemTok, a_elemNext, a_elemTail, a_slot, a_labelTok) w := by
  obtain ⟨T1, T2, T3⟩ := hT
  have L : ∀ n i, 10 ≤ n + i → i ≤ T → (∀ k, k < i → dl_AL (dl_ch w k)) → wX_putMany_8 post w f_cap f_limit f_regs f_textLen f_fault f_found f_outLen f_nextLabel f_frames f_nextValue f_scanType f_scanValue f_tokens f_place f_depth f_elems a_reg a_carOf a_cdrOf a_text a_seen a_queue a_edgeCount a_image a_origin a_out a_labelOf a_frame a_frameTail a_digits a_tokType a_tokValue a_openFirst a_openTok a_lastElem a_inTail a_elemTok a_elemNext a_elemTail a_slot a_labelTok n (nI i) 0 (nI i) := by
    intro n
    induction n with
    | zero => intro i h1 h2; omega
    | succ n ih =>
      intro i h1 h2 hA
      by_cases e8 : i = 8
      · subst e8
        have e : T = 8 := by omega
        subst e
        exact br_t (nI_le (a := 8) (by omega) (by omega)) (hg hA)
      · refine br_f (nI_ge (b := 8) (by omega) (by decide)) (br_t rfl (nm_r (e' := dl_ch w i) rfl ?_))
        by_cases e : i = T
        · subst e
          have z := (dl_ch0 w i).mpr (T3 (by omega))
          refine br_t z (nm_r (nI_1 i) ?_)
          obtain ⟨n, rfl⟩ : ∃ n', n = n' + 1 := ⟨n - 1, by omega⟩
          by_cases e7 : i + 1 = 8
          · exact br_t (nI_le (a := 8) (by omega) (by omega)) (hg hA)
          · exact br_f (nI_ge (b := 8) (by omega) (by decide)) (br_f dl_10 (hg hA))
        · have z : ¬ dl_ch w i = 0 := fun h => T2 i (by omega) ((dl_ch0 w i).mp h)
          refine br_f z (xw_alpha (fun h => br_f dl_10 (nm_r (nI_1 i) (nm_r (nI_1 i) (ih (i + 1) (by omega) (by omega) ?_)))) (fun h => br_t rfl (hb ⟨i, by omega, h⟩)))
          intro k hk
          by_cases ek : k = i
          · subst ek; exact h
          · exact hA k (by omega)
  unfold wpX_putMany
  exact ⟨10, L 10 0 (by omega) (by omega) (fun k hk => absurd hk (by omega))⟩
theorem yw_pm97 {post : Int32 → SY → Prop} {w : Int64} {T L lim : Nat} (hT : T ≤ 8) (hL : L ≤ 256) (hlim : lim ≤ 256) (h7 : ¬ L + T ≤ lim → post (-7) (yf_cap, nI lim, yf_regs, nI L, yf_fault, yf_written, yf_top, yf_tokens, ya_reg, ya_heads, ya_tails, ya_text, ya_in, ya_image, ya_out, ya_label, ya_spell, ya_what, ya_which, ya_type, ya_num, ya_cell)) (h0 : L + T ≤ lim → post 0 (yf_cap, nI lim, yf_regs, nI (L + T), yf_fault, yf_written, yf_top, yf_tokens, ya_reg, ya_heads, ya_tails, dl_pt ya_text L w T, ya_in, ya_image, ya_out, ya_label, ya_spell, ya_what, ya_which, ya_type, ya_num, ya_cell)) :
    (((nI L + nI T) ≤ nI lim → (∃ n97 : Nat, wY_putMany_97 post w (nI T) yf_cap (nI lim) yf_regs (nI L) yf_fault yf_written yf_top yf_tokens n97 0 ya_reg ya_heads ya_tails ya_text ya_in ya_image ya_out ya_label ya_spell ya_what ya_which ya_type ya_num ya_cell)) ∧ (¬ (nI L + nI T) ≤ nI lim → (post (-7) (yf_cap, nI lim, yf_regs, nI L, yf_fault, yf_written, yf_top, yf_tokens, ya_reg, ya_heads, ya_tails, ya_text, ya_in, ya_image, ya_out, ya_label, ya_spell, ya_what, ya_which, ya_type, ya_num, ya_cell)))) := by
  rw [nI_add]
  by_cases z : L + T ≤ lim
  · refine br_t (nI_le z (by omega)) ⟨9, ?_⟩
    have Lp : ∀ n i, 9 ≤ n + i → i ≤ T → wY_putMany_97 post w (nI T) yf_cap (nI lim) yf_regs (nI L) yf_fault yf_written yf_top yf_tokens n (nI i) ya_reg ya_heads ya_tails (dl_pt ya_text L w i) ya_in ya_image ya_out ya_label ya_spell ya_what ya_which ya_type ya_num ya_cell := by
      intro n
      induction n with
      | zero => intro i h1 h2; omega
      | succ n ih =>
        intro i h1 h2
        by_cases e : i = T
        · subst e
          exact br_t (nI_le (by omega) (by omega)) (nm_r (nI_add _ _) (h0 z))
        · refine br_f (nI_ge (by omega) (by omega)) ?_
          rw [nI_add, nI_clamp (n := L + i) (by omega)]
          exact ⟨vp_in_nI (by omega) (by decide), nm_r (e' := dl_pt ya_text L w (i + 1)) rfl (nm_r (nI_1 i) (ih (i + 1) (by omega) (by omega)))⟩
    exact Lp 9 0 (by omega) (by omega)
  · exact br_f (nI_ge (by omega) (by omega)) (h7 z)
theorem yw_putMany {post : Int32 → SY → Prop} {w : Int64} {T L lim : Nat} (hT : dl_T w T) (hL : L ≤ 256) (hlim : lim ≤ 256) (hb : (∃ k, k < T ∧ ¬ dl_AL (dl_ch w k)) → post (-6) (yf_cap, nI lim, yf_regs, nI L, yf_fault, yf_written, yf_top, yf_tokens, ya_reg, ya_heads, ya_tails, ya_text, ya_in, ya_image, ya_out, ya_label, ya_spell, ya_what, ya_which, ya_type, ya_num, ya_cell))
    (h7 : (∀ k, k < T → dl_AL (dl_ch w k)) → ¬ L + T ≤ lim → post (-7) (yf_cap, nI lim, yf_regs, nI L, yf_fault, yf_written, yf_top, yf_tokens, ya_reg, ya_heads, ya_tails, ya_text, ya_in, ya_image, ya_out, ya_label, ya_spell, ya_what, ya_which, ya_type, ya_num, ya_cell)) (h0 : (∀ k, k < T → dl_AL (dl_ch w k)) → L + T ≤ lim → post 0 (yf_cap, nI lim, yf_regs, nI (L + T), yf_fault, yf_written, yf_top, yf_tokens, ya_reg, ya_heads, ya_tails, dl_pt ya_text L w T, ya_in, ya_image, ya_out, ya_label, ya_spell, ya_what, ya_which, ya_type, ya_num, ya_cell)) : wpY_putMany post (yf_cap, nI lim, yf_regs, nI L, yf_fault, yf_written, yf_top, yf_tokens, ya_reg, ya_heads, ya_tails, ya_text, ya_in, ya_image, ya_out, ya_label, ya_spell, ya_what, ya_which, ya_type, ya_num, ya_cell) w := by
  obtain ⟨T1, T2, T3⟩ := hT
  have L40 : ∀ n i, 9 ≤ n + i → i ≤ T → (∀ k, k < i → dl_AL (dl_ch w k)) → wY_putMany_40 post w (nI T) yf_cap (nI lim) yf_regs (nI L) yf_fault yf_written yf_top yf_tokens ya_reg ya_heads ya_tails ya_text ya_in ya_image ya_out ya_label ya_spell ya_what ya_which ya_type ya_num ya_cell n (nI i) := by
    intro n
    induction n with
    | zero => intro i h1 h2; omega
    | succ n ih =>
      intro i h1 h2 hA
      by_cases e : i = T
      · subst e
        exact br_t (nI_le (by omega) (by omega)) (yw_pm97 T1 hL hlim (h7 hA) (h0 hA))
      · refine br_f (nI_ge (by omega) (by omega)) (nm_r (e' := dl_ch w i) rfl ?_)
        refine yw_known (fun h => br_f dl_10 (nm_r (nI_1 i) (ih (i + 1) (by omega) (by omega) ?_))) (fun h => br_t rfl (hb ⟨i, by omega, h⟩))
        intro k hk
        by_cases ek : k = i
        · subst ek; exact h
        · exact hA k (by omega)
  have L7 : ∀ n i x3 x4, i < n → i ≤ 8 → ((i = 0 ∧ x4 = -1) ∨ (∃ j, i = j + 1 ∧ x4 = nI j)) → (i ≤ T → x3 = nI T) → wY_putMany_7 post w yf_cap (nI lim) yf_regs (nI L) yf_fault yf_written yf_top yf_tokens ya_reg ya_heads ya_tails ya_text ya_in ya_image ya_out ya_label ya_spell ya_what ya_which ya_type ya_num ya_cell n x3 x4 := by
    intro n
    induction n with
    | zero => intro i x3 x4 h1; omega
    | succ n ih =>
      intro i x3 x4 h1 h2 h3 h4
      rcases h3 with ⟨e, rfl⟩ | ⟨j, rfl, rfl⟩
      · have e1 := h4 (by omega)
        subst e1
        exact br_t (by decide) ⟨9, L40 9 0 (by omega) (by omega) (fun k hk => absurd hk (by omega))⟩
      · have nx : (j = 0 ∧ nI j + (-1) = -1) ∨ (∃ j', j = j' + 1 ∧ nI j + (-1) = nI j') := by
          by_cases z : j = 0
          · subst z; exact Or.inl ⟨rfl, by decide⟩
          · exact Or.inr ⟨j - 1, by omega, dl_m1 (by omega)⟩
        refine br_f (nI_pos (by omega)) ?_
        by_cases z : dl_by w j = 0
        · refine br_t z (nm_e (ih j _ _ (by omega) (by omega) nx (fun h => ?_)))
          by_cases e : j = T
          · rw [e]
          · exact absurd z (T2 j (by omega))
        · refine br_f z (nm_e (ih j _ _ (by omega) (by omega) nx (fun h => ?_)))
          by_cases e : j = T
          · rw [e] at z; exact absurd (T3 (by omega)) z
          · exact h4 (by omega)
  unfold wpY_putMany
  exact ⟨9, L7 9 8 8 7 (by omega) (by omega) (Or.inr ⟨7, rfl, rfl⟩) (fun h => by have e : T = 8 := (by omega); rw [e]; rfl)⟩
end
theorem i_vc_put {k : Nat} {u : SX} {v : SY} (I : i_Rel k u v) (hk : k + 4 ≤ 2051) (v1 : Int32) : wpX_put (fun r u' => wpY_put (fun r' v' => r' = r ∧ i_Rel (k + 4) u' v') v v1) u v1 := by
  refine zz_el (P := fun u v => wpX_put (fun r u' => wpY_put (fun r' v' => r' = r ∧ i_Rel (k + 4) u' v') v v1) u v1) ?_ I
  clear I
  intro cap limit regs len f_fault f_found f_outLen f_nextLabel f_frames f_nextValue f_scanType f_scanValue f_tokens f_place f_depth f_elems a_reg a_carOf a_cdrOf a_text a_seen a_queue a_edgeCount a_image a_origin a_out a_labelOf a_frame a_frameTail a_digits a_tokType a_tokValue a_openFirst a_openTok a_lastElem a_inTail a_elemTok a_elemNext a_elemTail a_slot a_labelTok yf_written yf_top yf_tokens ya_in ya_image ya_what ya_which ya_type ya_num ya_cell g
  try dsimp only
  obtain ⟨V1, V2, V3⟩ := dl_gV g
  obtain ⟨g1, g2, g3, g4, g5, g6, g7, _⟩ := id g
  have gR : regs < 2 ^ 31 := by omega
  unfold wpX_put
  refine xw_alpha (fun a => br_f dl_10 ?_) (fun a => br_t rfl ?_)
  · by_cases z : len < limit
    · refine br_t (nI_lt z (by omega)) ⟨vp_in_nI (by omega) (by decide), nm_r (e' := upd a_text len v1) (by rw [nI_clamp (by omega)]) (nm_r (nI_1 len) ?_)⟩
      try dsimp only
      unfold wpY_put
      refine yw_known (fun _ => br_f dl_10 ?_) (fun b => absurd a b)
      exact br_t (nI_lt z (by omega)) ⟨vp_in_nI (by omega) (by decide), nm_r (e' := upd a_text len v1) (by rw [nI_clamp (by omega)]) (nm_r (nI_1 len) ⟨rfl, zz_in (dl_gL g (by omega))⟩)⟩
    · refine br_f (nI_nlt (by omega) (by omega)) ?_
      try dsimp only
      unfold wpY_put
      refine yw_known (fun _ => br_f dl_10 ?_) (fun b => absurd a b)
      exact br_f (nI_nlt (by omega) (by omega)) ⟨rfl, zz_in g⟩
  · try dsimp only
    unfold wpY_put
    refine yw_known (fun b => absurd b a) (fun b => br_t rfl ⟨rfl, zz_in g⟩)
theorem i_vc_putMany {k : Nat} {u : SX} {v : SY} (I : i_Rel k u v) (hk : k + 4 ≤ 2051) (a0 : Int64) : wpX_putMany (fun r u' => wpY_putMany (fun r' v' => r' = r ∧ i_Rel (k + 4) u' v') v a0) u a0 := by
  refine zz_el (P := fun u v => wpX_putMany (fun r u' => wpY_putMany (fun r' v' => r' = r ∧ i_Rel (k + 4) u' v') v a0) u a0) ?_ I
  clear I
  intro cap limit regs len f_fault f_found f_outLen f_nextLabel f_frames f_nextValue f_scanType f_scanValue f_tokens f_place f_depth f_elems a_reg a_carOf a_cdrOf a_text a_seen a_queue a_edgeCount a_image a_origin a_out a_labelOf a_frame a_frameTail a_digits a_tokType a_tokValue a_openFirst a_openTok a_lastElem a_inTail a_elemTok a_elemNext a_elemTail a_slot a_labelTok yf_written yf_top yf_tokens ya_in ya_image ya_what ya_which ya_type ya_num ya_cell g
  try dsimp only
  obtain ⟨V1, V2, V3⟩ := dl_gV g
  obtain ⟨g1, g2, g3, g4, g5, g6, g7, _⟩ := id g
  have gR : regs < 2 ^ 31 := by omega
  obtain ⟨T, hT⟩ := dl_TE a0
  have no : (∃ k, k < T ∧ ¬ dl_AL (dl_ch a0 k)) → (∀ k, k < T → dl_AL (dl_ch a0 k)) → False := fun ⟨k, h1, h2⟩ h => h2 (h k h1)
  refine xw_putMany hT (fun b => ?_) (fun b => ?_)
  · exact yw_putMany hT (by omega) (by omega) (fun _ => ⟨rfl, zz_in g⟩) (fun c => (no b c).elim) (fun c => (no b c).elim)
  · refine xw_pm66 hT.1 (by omega) (by omega) (fun z => ?_) (fun z => ?_)
    · exact yw_putMany hT (by omega) (by omega) (fun c => (no c b).elim) (fun _ _ => ⟨rfl, zz_in g⟩) (fun _ c => absurd c z)
    · exact yw_putMany hT (by omega) (by omega) (fun c => (no c b).elim) (fun _ c => absurd z c) (fun _ _ => ⟨rfl, zz_in (dl_gL g z)⟩)
end DLTXT
end
section
section DLALIKE
variable {car cdr : Nat → Int32} {p0 q0 p q m : Nat} {im og qu base : Nat → Int32} {u v : Int32}
/-- the least relation that holds (p0, q0) and the halves of what it holds -/
def dl_RR (car cdr : Nat → Int32) (p0 q0 p q : Nat) : Prop :=
  ∀ S : Nat → Nat → Prop, S p0 q0 → (∀ p q p' q', S p q → p' < 48 → q' < 48 → ((car p = dl_pv p' ∧ car q = dl_pv q') ∨ (cdr p = dl_pv p' ∧ cdr q = dl_pv q')) → S p' q') → S p q
theorem dl_RR0 : dl_RR car cdr p0 q0 p0 q0 := fun _ h _ => h
theorem dl_RRs {p' q' : Nat} (h : dl_RR car cdr p0 q0 p q) (hp : p' < 48) (hq : q' < 48) (e : (car p = dl_pv p' ∧ car q = dl_pv q') ∨ (cdr p = dl_pv p' ∧ cdr q = dl_pv q')) : dl_RR car cdr p0 q0 p' q' :=
  fun S h1 h2 => h2 p q p' q' (h S h1 h2) hp hq e
def dl_AG (u v : Int32) : Prop := (u &&& 3 = 3 ∧ v &&& 3 = 3) ∨ u = v
def dl_GG (car cdr : Nat → Int32) (p0 q0 : Nat) : Prop :=
  (∀ p q, dl_RR car cdr p0 q0 p q → dl_AG (car p) (car q) ∧ dl_AG (cdr p) (cdr q)) ∧
  (∀ p q q', dl_RR car cdr p0 q0 p q → dl_RR car cdr p0 q0 p q' → q = q') ∧
  (∀ p p' q, dl_RR car cdr p0 q0 p q → dl_RR car cdr p0 q0 p' q → p = p')
def dl_MT (im : Nat → Int32) (u v : Int32) : Prop :=
  (∃ p q, p < 48 ∧ q < 48 ∧ u = dl_pv p ∧ v = dl_pv q ∧ im p = nI q) ∨ (u = v ∧ ¬ (u &&& 3 = 3 ∧ v &&& 3 = 3))
theorem dl_MTA (h : dl_MT im u v) : dl_AG u v := by
  rcases h with ⟨p, q, hp, hq, e1, e2, _⟩ | ⟨h, _⟩
  · rw [e1, e2]; exact Or.inl ⟨dl_pvA p hp, dl_pvA q hq⟩
  · exact Or.inr h
theorem dl_MTi (hp : p < 48) (hq : q < 48) (h : dl_MT im (dl_pv p) (dl_pv q)) : im p = nI q := by
  rcases h with ⟨p', q', hp', hq', e1, e2, e3⟩ | ⟨_, h⟩
  · rw [dl_pvI hp hp' e1, dl_pvI hq hq' e2]; exact e3
  · exact absurd ⟨dl_pvA p hp, dl_pvA q hq⟩ h
theorem dl_MTm {im' : Nat → Int32} (hm : ∀ p q, p < 48 → q < 48 → im p = nI q → im' p = nI q) (h : dl_MT im u v) : dl_MT im' u v := by
  rcases h with ⟨p', q', hp', hq', e1, e2, e3⟩ | h
  · exact Or.inl ⟨p', q', hp', hq', e1, e2, hm p' q' hp' hq' e3⟩
  · exact Or.inr h
def dl_CL (car cdr im : Nat → Int32) (p : Nat) : Prop := ∀ q, q < 48 → im p = nI q → dl_MT im (car p) (car q) ∧ dl_MT im (cdr p) (cdr q)
theorem dl_RRi (hp0 : p0 < 48) (hq0 : q0 < 48) (h0 : im p0 = nI q0) (hC : ∀ p, p < 48 → dl_CL car cdr im p) (h : dl_RR car cdr p0 q0 p q) : p < 48 ∧ q < 48 ∧ im p = nI q := by
  refine h (fun p q => p < 48 ∧ q < 48 ∧ im p = nI q) ⟨hp0, hq0, h0⟩ ?_
  rintro p q p' q' ⟨h1, h2, h3⟩ hp' hq' e
  have := hC p h1 q h2 h3
  refine ⟨hp', hq', ?_⟩
  rcases e with ⟨e1, e2⟩ | ⟨e1, e2⟩
  · have := this.1; rw [e1, e2] at this; exact dl_MTi hp' hq' this
  · have := this.2; rw [e1, e2] at this; exact dl_MTi hp' hq' this
/-- how many images are given -/
def dl_ci (im : Nat → Int32) : Nat := dl_sm (fun p => if im p = -1 then 0 else 1) 48
theorem dl_ci1 (im : Nat → Int32) (i : Nat) : (if im i = -1 then 0 else 1) ≤ 1 := by split <;> omega
theorem dl_ci48 : dl_ci im ≤ 48 := by
  have := dl_smB (g := fun p => if im p = -1 then 0 else 1) (c := 1) 48 (fun i _ => dl_ci1 im i)
  unfold dl_ci; omega
theorem dl_ciL (hp : p < 48) (h : im p = -1) : dl_ci im < 48 := dl_smL 48 (fun i _ => dl_ci1 im i) hp (if_pos h)
theorem dl_ciU (hp : p < 48) (hq : q < 48) (h : im p = -1) : dl_ci (upd im p (nI q)) = dl_ci im + 1 := by
  have a2 := dl_smU (g := fun p => if im p = -1 then 0 else 1) (g' := fun i => if upd im p (nI q) i = -1 then 0 else 1) (p := p) 48 hp (fun i _ hn => by (try dsimp only); rw [pk_un hn])
  try dsimp only at a2
  rw [pk_us, if_neg (dl_nm1 (by omega)), if_pos h] at a2
  unfold dl_ci
  omega

/-! X -/
def dl_XJ (car cdr : Nat → Int32) (p0 q0 : Nat) (im og qu : Nat → Int32) (m : Nat) : Prop :=
  (∀ p, p < 48 → im p = -1 ∨ ∃ q, q < 48 ∧ im p = nI q ∧ dl_RR car cdr p0 q0 p q ∧ og q = nI p) ∧
  (∀ q, q < 48 → og q = -1 ∨ ∃ p, p < 48 ∧ og q = nI p ∧ im p = nI q) ∧
  (∀ i, i < m → ∃ p q, p < 48 ∧ q < 48 ∧ qu i = nI p ∧ im p = nI q ∧ dl_RR car cdr p0 q0 p q) ∧
  (∀ p q, p < 48 → q < 48 → im p = nI q → ∃ i, i < m ∧ qu i = nI p) ∧
  m = dl_ci im
theorem dl_xj0 (h1 : ∀ p, p < 48 → im p = -1) (h2 : ∀ p, p < 48 → og p = -1) : dl_XJ car cdr p0 q0 im og qu 0 :=
  ⟨fun p hp => Or.inl (h1 p hp), fun p hp => Or.inl (h2 p hp), fun i hi => absurd hi (by omega), fun p q hp hq e => by rw [h1 p hp] at e; exact absurd e.symm (dl_nm1 (by omega)),
   (dl_sm0 48 (fun i hi => if_pos (h1 i hi))).symm⟩
theorem dl_xjP (J : dl_XJ car cdr p0 q0 im og qu m) (hp : p < 48) (hq : q < 48) (h1 : im p = -1) (h2 : og q = -1) (hR : dl_RR car cdr p0 q0 p q) :
    dl_XJ car cdr p0 q0 (upd im p (nI q)) (upd og q (nI p)) (upd qu m (nI p)) (m + 1) := by
  obtain ⟨a, b, c, d, e⟩ := J
  have mono : ∀ p' q', p' < 48 → q' < 48 → im p' = nI q' → upd im p (nI q) p' = nI q' := by
    intro p' q' hp' hq' e'
    rw [pk_un (fun z => by rw [z, h1] at e'; exact absurd e'.symm (dl_nm1 (by omega)))]; exact e'
  refine ⟨?_, ?_, ?_, ?_, ?_⟩
  · intro p' hp'
    by_cases z : p' = p
    · subst z; exact Or.inr ⟨q, hq, pk_us, hR, pk_us⟩
    · rcases a p' hp' with h | ⟨q', hq', e1, e2, e3⟩
      · left; rw [pk_un z]; exact h
      · right
        refine ⟨q', hq', by rw [pk_un z]; exact e1, e2, ?_⟩
        rw [pk_un (fun z2 => by rw [z2, h2] at e3; exact absurd e3.symm (dl_nm1 (by omega)))]; exact e3
  · intro q' hq'
    by_cases z : q' = q
    · subst z; exact Or.inr ⟨p, hp, pk_us, pk_us⟩
    · rcases b q' hq' with h | ⟨p', hp', e1, e2⟩
      · left; rw [pk_un z]; exact h
      · exact Or.inr ⟨p', hp', by rw [pk_un z]; exact e1, mono p' q' hp' hq' e2⟩
  · intro i hi
    by_cases z : i = m
    · subst z; exact ⟨p, q, hp, hq, pk_us, pk_us, hR⟩
    · obtain ⟨p', q', hp', hq', e1, e2, e3⟩ := c i (by omega)
      exact ⟨p', q', hp', hq', by rw [pk_un z]; exact e1, mono p' q' hp' hq' e2, e3⟩
  · intro p' q' hp' hq' e'
    by_cases z : p' = p
    · exact ⟨m, by omega, by rw [pk_us, z]⟩
    · rw [pk_un z] at e'
      obtain ⟨i, hi, ei⟩ := d p' q' hp' hq' e'
      exact ⟨i, by omega, by rw [pk_un (by omega)]; exact ei⟩
  · rw [dl_ciU hp hq h1, ← e]
theorem dl_xjG (J : dl_XJ car cdr p0 q0 im og qu m) (hp0 : p0 < 48) (hq0 : q0 < 48) (h0 : im p0 = nI q0) (hC : ∀ p, p < 48 → dl_CL car cdr im p) : dl_GG car cdr p0 q0 := by
  refine ⟨?_, ?_, ?_⟩
  · intro p q h
    obtain ⟨h1, h2, h3⟩ := dl_RRi hp0 hq0 h0 hC h
    have := hC p h1 q h2 h3
    exact ⟨dl_MTA this.1, dl_MTA this.2⟩
  · intro p q q' h h'
    obtain ⟨h1, h2, h3⟩ := dl_RRi hp0 hq0 h0 hC h
    obtain ⟨h4, h5, h6⟩ := dl_RRi hp0 hq0 h0 hC h'
    rw [h3] at h6
    exact dl_inj (by omega) (by omega) h6
  · intro p p' q h h'
    obtain ⟨h1, h2, h3⟩ := dl_RRi hp0 hq0 h0 hC h
    obtain ⟨h4, h5, h6⟩ := dl_RRi hp0 hq0 h0 hC h'
    rcases J.1 p h1 with z | ⟨r, hr, e1, e2, e3⟩
    · rw [z] at h3; exact absurd h3.symm (dl_nm1 (by omega))
    · rcases J.1 p' h4 with z | ⟨r', hr', e1', e2', e3'⟩
      · rw [z] at h6; exact absurd h6.symm (dl_nm1 (by omega))
      · rw [h3] at e1; rw [h6] at e1'
        have a := dl_inj (by omega) (by omega) e1
        have b := dl_inj (by omega) (by omega) e1'
        subst a; subst b
        rw [e3] at e3'
        exact dl_inj (by omega) (by omega) e3'

/-! Y -/
def dl_YJ (car cdr : Nat → Int32) (p0 q0 : Nat) (im : Nat → Int32) : Prop := ∀ p, p < 48 → im p = -1 ∨ ∃ q, q < 48 ∧ im p = nI q ∧ dl_RR car cdr p0 q0 p q
def dl_YQ (car cdr base im : Nat → Int32) (p : Nat) : Prop :=
  (¬ (∀ p, p < 48 → dl_CL car cdr base p) ∧ dl_ci base < dl_ci im) ∨ (im = base ∧ ∀ p', p' < p → dl_CL car cdr im p')
def dl_YM (car cdr im : Nat → Int32) (k : Nat) : Prop := (∀ p, p < 48 → dl_CL car cdr im p) ∨ k + 1 ≤ dl_ci im
theorem dl_ymS {k : Nat} (h : dl_YM car cdr base k) (hp : dl_YQ car cdr base im 48) : dl_YM car cdr im (k + 1) := by
  rcases hp with ⟨h1, h2⟩ | ⟨_, h2⟩
  · rcases h with h | h
    · exact absurd h h1
    · exact Or.inr (by omega)
  · exact Or.inl h2
theorem dl_yqN (hp : p < 48) (h : im p = -1) (Q : dl_YQ car cdr base im p) : dl_YQ car cdr base im (p + 1) := by
  rcases Q with h' | ⟨h1, h2⟩
  · exact Or.inl h'
  · refine Or.inr ⟨h1, fun p' hp' => ?_⟩
    by_cases z : p' = p
    · intro q hq e
      rw [z, h] at e
      exact absurd e.symm (dl_nm1 (by omega))
    · exact h2 p' (by omega)
theorem dl_yqS {im1 im2 : Nat → Int32} (hp : p < 48) (hq : q < 48) (e : im p = nI q) (M1 : dl_MT im1 (car p) (car q)) (M2 : dl_MT im2 (cdr p) (cdr q))
    (h1 : im1 = im ∨ (dl_ci im < dl_ci im1 ∧ ¬ dl_MT im (car p) (car q))) (h2 : im2 = im1 ∨ (dl_ci im1 < dl_ci im2 ∧ ¬ dl_MT im1 (cdr p) (cdr q))) (Q : dl_YQ car cdr base im p) : dl_YQ car cdr base im2 (p + 1) := by
  have one : ∀ q', q' < 48 → im p = nI q' → q' = q := fun q' hq' e' => by rw [e] at e'; exact (dl_inj (by omega) (by omega) e').symm
  rcases h1 with h1 | ⟨h1, n1⟩
  · subst h1
    rcases h2 with h2 | ⟨h2, n2⟩
    · subst h2
      rcases Q with h' | ⟨g1, g2⟩
      · exact Or.inl h'
      · refine Or.inr ⟨g1, fun p' hp' => ?_⟩
        by_cases z : p' = p
        · subst z
          intro q' hq' e'
          rw [one q' hq' e']; exact ⟨M1, M2⟩
        · exact g2 p' (by omega)
    · left
      rcases Q with h' | ⟨g1, g2⟩
      · exact ⟨h'.1, by omega⟩
      · subst g1
        exact ⟨fun h => n2 (h p hp q hq e).2, h2⟩
  · have c2 : dl_ci im1 ≤ dl_ci im2 := by
      rcases h2 with h2 | ⟨h2, _⟩
      · rw [h2]; exact Nat.le_refl _
      · omega
    left
    rcases Q with h' | ⟨g1, g2⟩
    · exact ⟨h'.1, by omega⟩
    · subst g1
      exact ⟨fun h => n1 (h p hp q hq e).1, by omega⟩
theorem dl_yjG (J : dl_YJ car cdr p0 q0 im) (hp0 : p0 < 48) (hq0 : q0 < 48) (h0 : im p0 = nI q0) (hC : ∀ p, p < 48 → dl_CL car cdr im p) (hI : ∀ p q, p < 48 → q < p → ¬ im p = -1 → ¬ im p = im q) : dl_GG car cdr p0 q0 := by
  refine ⟨?_, ?_, ?_⟩
  · intro p q h
    obtain ⟨h1, h2, h3⟩ := dl_RRi hp0 hq0 h0 hC h
    have := hC p h1 q h2 h3
    exact ⟨dl_MTA this.1, dl_MTA this.2⟩
  · intro p q q' h h'
    obtain ⟨h1, h2, h3⟩ := dl_RRi hp0 hq0 h0 hC h
    obtain ⟨h4, h5, h6⟩ := dl_RRi hp0 hq0 h0 hC h'
    rw [h3] at h6
    exact dl_inj (by omega) (by omega) h6
  · intro p p' q h h'
    obtain ⟨h1, h2, h3⟩ := dl_RRi hp0 hq0 h0 hC h
    obtain ⟨h4, h5, h6⟩ := dl_RRi hp0 hq0 h0 hC h'
    rcases Nat.lt_trichotomy p p' with z | z | z
    · exact absurd (by rw [h6, h3]) (hI p' p h4 z (by rw [h6]; exact dl_nm1 (by omega)))
    · exact z
    · exact absurd (by rw [h6, h3]) (hI p p' h1 z (by rw [h3]; exact dl_nm1 (by omega)))
end DLALIKE
end
section
section DLALW
section
variable {f_cap f_limit f_regs f_textLen f_fault f_found f_outLen f_nextLabel f_frames f_nextValue f_scanType f_scanValue f_tokens f_place f_depth f_elems : Int32} {a_reg a_carOf a_cdrOf a_text a_seen a_queue a_edgeCount a_image a_origin a_out a_labelOf a_frame a_frameTail a_digits a_tokType a_tokValue a_openFirst a_openTok a_lastElem a_inTail a_elemTok a_elemNext a_elemTail a_slot a_labelTok : Nat → Int32}
theorem xw_match {post : Int32 → SX → Prop} {p0 q0 m : Nat} {u v : Int32} (J : dl_XJ a_carOf a_cdrOf p0 q0 a_image a_origin a_queue m) (hu : dl_V 48 u) (hv : dl_V 48 v) (hA : ¬ dl_AG u v → ¬ dl_GG a_carOf a_cdrOf p0 q0)
    (hR : ∀ p q, p < 48 → q < 48 → u = dl_pv p → v = dl_pv q → dl_RR a_carOf a_cdrOf p0 q0 p q)
    (H1 : ∀ im og qu m', dl_XJ a_carOf a_cdrOf p0 q0 im og qu m' → m ≤ m' → (∀ i, i < m → qu i = a_queue i) → (∀ p q, p < 48 → q < 48 → a_image p = nI q → im p = nI q) → dl_MT im u v → post 1 (f_cap, f_limit, f_regs, f_textLen, f_fault, nI m', f_outLen, f_nextLabel, f_frames, f_nextValue, f_scanType, f_scanValue, f_tokens, f_place, f_depth, f_elems, a_reg, a_carOf, a_cdrOf, a_text, a_seen, qu, a_edgeCount, im, og, a_out, a_labelOf, a_frame, a_frameTail, a_digits, a_tokType, a_tokValue, a_openFirst, a_openTok, a_lastElem, a_inTail, a_elemTok, a_elemNext, a_elemTail, a_slot, a_labelTok))
    (H0 : ¬ dl_GG a_carOf a_cdrOf p0 q0 → post 0 (f_cap, f_limit, f_regs, f_textLen, f_fault, nI m, f_outLen, f_nextLabel, f_frames, f_nextValue, f_scanType, f_scanValue, f_tokens, f_place, f_depth, f_elems, a_reg, a_carOf, a_cdrOf, a_text, a_seen, a_queue, a_edgeCount, a_image, a_origin, a_out, a_labelOf, a_frame, a_frameTail, a_digits, a_tokType, a_tokValue, a_openFirst, a_openTok, a_lastElem, a_inTail, a_elemTok, a_elemNext, a_elemTail, a_slot, a_labelTok)) : wpX_match post (f_cap, f_limit, f_regs, f_textLen, f_fault, nI m, f_outLen, f_nextLabel, f_frames, f_nextValue, f_scanType, f_scanValue, f_tokens, f_place, f_depth, f_elems, a_reg, a_carOf, a_cdrOf, a_text, a_seen, a_queue, a_edgeCount, a_image, a_origin, a_out, a_labelOf, a_frame, a_frameTail, a_digits, a_tokType, a_tokValue, a_openFirst, a_openTok, a_lastElem, a_inTail, a_elemTok, a_elemNext, a_elemTail, a_slot, a_labelTok) u v := by
  have S := H1 a_image a_origin a_queue m J (Nat.le_refl _) (fun _ _ => rfl) (fun _ _ _ _ h => h)
  unfold wpX_match
  refine xw_pair (fun hp => br_f dl_10 ?_) (fun hn => br_t rfl ?_)
  · refine xw_pair (fun hq => br_f dl_10 ?_) (fun hn => br_t rfl ?_)
    · obtain ⟨p, hp48, rfl⟩ := hu.2 hp
      obtain ⟨q, hq48, rfl⟩ := hv.2 hq
      have rr := hR p q hp48 hq48 rfl rfl
      refine nm_r (dl_pvS p hp48) (nm_r (dl_pvS q hq48) ⟨vp_in_nI hp48 (by decide), ?_⟩)
      rw [nI_clamp (n := p) (by omega), nI_clamp (n := q) (by omega)]
      rcases J.1 p hp48 with z | ⟨q', hq', z, r', _⟩
      · refine br_f (by rw [z]; decide) ⟨vp_in_nI hq48 (by decide), ?_⟩
        rcases J.2.1 q hq48 with y | ⟨p', hp', y, y2⟩
        · have L := dl_ciL hp48 z
          rw [← J.2.2.2.2] at L
          refine br_f (by rw [y]; decide) (br_f (nI_ge (b := 48) L (by decide)) ⟨vp_in_nI hp48 (by decide), nm_e ⟨vp_in_nI hq48 (by decide), nm_e ⟨vp_in_nI L (by decide), nm_r (e' := upd a_queue m (nI p)) (by rw [nI_clamp (by omega)]) (nm_r (nI_1 m) ?_)⟩⟩⟩)
          refine H1 _ _ _ _ (dl_xjP J hp48 hq48 z y rr) (by omega) (fun i hi => pk_un (by omega)) (fun p1 q1 hp1 hq1 e1 => ?_) (Or.inl ⟨p, q, hp48, hq48, rfl, rfl, pk_us⟩)
          rw [pk_un (fun w => by rw [w, z] at e1; exact absurd e1.symm (dl_nm1 (by omega)))]; exact e1
        · refine br_t (by rw [y]; exact nI_pos' (by omega)) ?_
          unfold wX_match_102
          rw [nI_clamp (n := p) (by omega), z]
          refine ⟨vp_in_nI hp48 (by decide), br_f (fun h => absurd h.symm (dl_nm1 (by omega))) (H0 (fun G => ?_))⟩
          rcases J.1 p' hp' with w | ⟨q2, hq2, w, r2, _⟩
          · rw [y2] at w; exact absurd w (dl_nm1 (by omega))
          · rw [y2] at w
            have e2 := dl_inj (by omega) (by omega) w
            subst e2
            have e3 := G.2.2 p p' q rr r2
            subst e3
            rw [z] at y2; exact absurd y2.symm (dl_nm1 (by omega))
      · refine br_t (by rw [z]; exact nI_pos' (by omega)) ?_
        unfold wX_match_102
        rw [nI_clamp (n := p) (by omega)]
        refine ⟨vp_in_nI hp48 (by decide), ?_⟩
        by_cases e : q' = q
        · subst e
          exact br_t z (S (Or.inl ⟨p, q', hp48, hq48, rfl, rfl, z⟩))
        · refine br_f (fun h => e (dl_inj (by omega) (by omega) (z.symm.trans h))) (H0 (fun G => e (G.2.1 p q' q r' rr)))
    · unfold wX_match_16
      have ne : ¬ u = v := fun e => hn (by rw [← e]; exact hp)
      refine br_f ne (H0 (hA ?_))
      rintro (h | h)
      · exact hn h.2
      · exact ne h
  · unfold wX_match_16
    by_cases e : u = v
    · exact br_t e (S (Or.inr ⟨e, fun h => hn h.1⟩))
    · refine br_f e (H0 (hA ?_))
      rintro (h | h)
      · exact hn h.1
      · exact e h
theorem xw_matchN {post : Int32 → SX → Prop} {u v : Int32} (z : ¬ (u &&& 3 = 3 ∧ v &&& 3 = 3)) (h1 : u = v → post 1 (f_cap, f_limit, f_regs, f_textLen, f_fault, f_found, f_outLen, f_nextLabel, f_frames, f_nextValue, f_scanType, f_scanValue, f_tokens, f_place, f_depth, f_elems, a_reg, a_carOf, a_cdrOf, a_text, a_seen, a_queue, a_edgeCount, a_image, a_origin, a_out, a_labelOf, a_frame, a_frameTail, a_digits, a_tokType, a_tokValue, a_openFirst, a_openTok, a_lastElem, a_inTail, a_elemTok, a_elemNext, a_elemTail, a_slot, a_labelTok)) (h0 : ¬ u = v → post 0 (f_cap, f_limit, f_regs, f_textLen, f_fault, f_found, f_outLen, f_nextLabel, f_frames, f_nextValue, f_scanType, f_scanValue, f_tokens, f_place, f_depth, f_elems, a_reg, a_carOf, a_cdrOf, a_text, a_seen, a_queue, a_edgeCount, a_image, a_origin, a_out, a_labelOf, a_frame, a_frameTail, a_digits, a_tokType, a_tokValue, a_openFirst, a_openTok, a_lastElem, a_inTail, a_elemTok, a_elemNext, a_elemTail, a_slot, a_labelTok)) : wpX_match post (f_cap, f_limit, f_regs, f_textLen, f_fault, f_found, f_outLen, f_nextLabel, f_frames, f_nextValue, f_scanType, f_scanValue, f_tokens, f_place, f_depth, f_elems, a_reg, a_carOf, a_cdrOf, a_text, a_seen, a_queue, a_edgeCount, a_image, a_origin, a_out, a_labelOf, a_frame, a_frameTail, a_digits, a_tokType, a_tokValue, a_openFirst, a_openTok, a_lastElem, a_inTail, a_elemTok, a_elemNext, a_elemTail, a_slot, a_labelTok) u v := by
  have J : wX_match_16 post u v f_cap f_limit f_regs f_textLen f_fault f_found f_outLen f_nextLabel f_frames f_nextValue f_scanType f_scanValue f_tokens f_place f_depth f_elems a_reg a_carOf a_cdrOf a_text a_seen a_queue a_edgeCount a_image a_origin a_out a_labelOf a_frame a_frameTail a_digits a_tokType a_tokValue a_openFirst a_openTok a_lastElem a_inTail a_elemTok a_elemNext a_elemTail a_slot a_labelTok := br_c h1 h0
  unfold wpX_match
  refine xw_pair (fun hp => br_f dl_10 ?_) (fun hn => br_t rfl J)
  exact xw_pair (fun hq => absurd ⟨hp, hq⟩ z) (fun hn => br_t rfl J)
theorem xw_alike {post : Int32 → SX → Prop} {R a b : Nat} (ha : a < R) (hb : b < R) (hR : R ≤ 8) (hg : ∀ i, dl_V 48 (a_reg i)) (hc : ∀ i, dl_V 48 (a_carOf i)) (hd : ∀ i, dl_V 48 (a_cdrOf i))
    (HN : ¬ (a_reg a &&& 3 = 3 ∧ a_reg b &&& 3 = 3) → ∀ im og, post (if a_reg a = a_reg b then 1 else 0) (f_cap, f_limit, nI R, f_textLen, f_fault, nI 0, f_outLen, f_nextLabel, f_frames, f_nextValue, f_scanType, f_scanValue, f_tokens, f_place, f_depth, f_elems, a_reg, a_carOf, a_cdrOf, a_text, a_seen, a_queue, a_edgeCount, im, og, a_out, a_labelOf, a_frame, a_frameTail, a_digits, a_tokType, a_tokValue, a_openFirst, a_openTok, a_lastElem, a_inTail, a_elemTok, a_elemNext, a_elemTail, a_slot, a_labelTok))
    (H1 : ∀ p0 q0, p0 < 48 → q0 < 48 → a_reg a = dl_pv p0 → a_reg b = dl_pv q0 → dl_GG a_carOf a_cdrOf p0 q0 → ∀ im og qu m, post 1 (f_cap, f_limit, nI R, f_textLen, f_fault, nI m, f_outLen, f_nextLabel, f_frames, f_nextValue, f_scanType, f_scanValue, f_tokens, f_place, f_depth, f_elems, a_reg, a_carOf, a_cdrOf, a_text, a_seen, qu, a_edgeCount, im, og, a_out, a_labelOf, a_frame, a_frameTail, a_digits, a_tokType, a_tokValue, a_openFirst, a_openTok, a_lastElem, a_inTail, a_elemTok, a_elemNext, a_elemTail, a_slot, a_labelTok))
    (H0 : ∀ p0 q0, p0 < 48 → q0 < 48 → a_reg a = dl_pv p0 → a_reg b = dl_pv q0 → ¬ dl_GG a_carOf a_cdrOf p0 q0 → ∀ im og qu m, post 0 (f_cap, f_limit, nI R, f_textLen, f_fault, nI m, f_outLen, f_nextLabel, f_frames, f_nextValue, f_scanType, f_scanValue, f_tokens, f_place, f_depth, f_elems, a_reg, a_carOf, a_cdrOf, a_text, a_seen, qu, a_edgeCount, im, og, a_out, a_labelOf, a_frame, a_frameTail, a_digits, a_tokType, a_tokValue, a_openFirst, a_openTok, a_lastElem, a_inTail, a_elemTok, a_elemNext, a_elemTail, a_slot, a_labelTok)) :
    wpX_alike post (f_cap, f_limit, nI R, f_textLen, f_fault, f_found, f_outLen, f_nextLabel, f_frames, f_nextValue, f_scanType, f_scanValue, f_tokens, f_place, f_depth, f_elems, a_reg, a_carOf, a_cdrOf, a_text, a_seen, a_queue, a_edgeCount, a_image, a_origin, a_out, a_labelOf, a_frame, a_frameTail, a_digits, a_tokType, a_tokValue, a_openFirst, a_openTok, a_lastElem, a_inTail, a_elemTok, a_elemNext, a_elemTail, a_slot, a_labelTok) (nI a) (nI b) := by
  have L74 : ∀ p0 q0, p0 < 48 → q0 < 48 → a_reg a = dl_pv p0 → a_reg b = dl_pv q0 → ∀ n i im og qu m, 49 ≤ n + i → i ≤ m → dl_XJ a_carOf a_cdrOf p0 q0 im og qu m → im p0 = nI q0 →
      (∀ j, j < i → ∀ p, p < 48 → qu j = nI p → dl_CL a_carOf a_cdrOf im p) →
      wX_alike_74 post n (nI i) f_cap f_limit (nI R) f_textLen f_fault (nI m) f_outLen f_nextLabel f_frames f_nextValue f_scanType f_scanValue f_tokens f_place f_depth f_elems a_reg a_carOf a_cdrOf a_text a_seen qu a_edgeCount im og a_out a_labelOf a_frame a_frameTail a_digits a_tokType a_tokValue a_openFirst a_openTok a_lastElem a_inTail a_elemTok a_elemNext a_elemTail a_slot a_labelTok := by
    intro p0 q0 hp0 hq0 ea eb n
    induction n with
    | zero => intro i im og qu m h1 h2 J; have := J.2.2.2.2; have := dl_ci48 (im := im); omega
    | succ n ih =>
      intro i im og qu m h1 h2 J h0 C
      have m48 : m ≤ 48 := by have := J.2.2.2.2; have := dl_ci48 (im := im); omega
      by_cases e : i = m
      · subst e
        refine br_t (nI_le (by omega) (by omega)) (H1 p0 q0 hp0 hq0 ea eb (dl_xjG J hp0 hq0 h0 ?_) im og qu i)
        intro p hp q hq e
        obtain ⟨j, hj, ej⟩ := J.2.2.2.1 p q hp hq e
        exact C j hj p hp ej q hq e
      · obtain ⟨p, q, hp, hq, e1, e2, rr⟩ := J.2.2.1 i (by omega)
        refine br_f (nI_ge (by omega) (by omega)) (br_f (nI_ge (b := 48) (by omega) (by decide)) ⟨vp_in_nI (by omega) (by decide), nm_r (e' := nI p) (by rw [nI_clamp (by omega)]; exact e1) ⟨vp_in_nI hp (by decide), nm_r (e' := nI q) (by rw [nI_clamp (by omega)]; exact e2) ⟨vp_in_nI hp (by decide), vp_in_nI hq (by decide), ?_⟩⟩⟩)
        rw [nI_clamp (n := p) (by omega), nI_clamp (n := q) (by omega)]
        refine xw_match J (hc p) (hc q) (fun h G => h (G.1 p q rr).1) (fun p1 q1 hp1 hq1 x1 x2 => dl_RRs rr hp1 hq1 (Or.inl ⟨x1, x2⟩)) (fun im1 og1 qu1 m1 J1 hm1 hq1 hi1 M1 => br_f dl_10 ?_) (fun G => br_t rfl (H0 p0 q0 hp0 hq0 ea eb G im og qu m))
        refine ⟨vp_in_nI hp (by decide), vp_in_nI hq (by decide), ?_⟩
        refine xw_match J1 (hd p) (hd q) (fun h G => h (G.1 p q rr).2) (fun p1 q1 hp1 hq1 x1 x2 => dl_RRs rr hp1 hq1 (Or.inr ⟨x1, x2⟩)) (fun im2 og2 qu2 m2 J2 hm2 hq2 hi2 M2 => br_f dl_10 ?_) (fun G => br_t rfl (H0 p0 q0 hp0 hq0 ea eb G im1 og1 qu1 m1))
        refine nm_r (nI_1 i) (ih (i + 1) im2 og2 qu2 m2 (by omega) (by omega) J2 (hi2 _ _ hp0 hq0 (hi1 _ _ hp0 hq0 h0)) ?_)
        intro j hj p' hp' ej
        by_cases z : j = i
        · subst z
          rw [hq2 j (by omega), hq1 j (by omega), e1] at ej
          have := dl_inj (by omega) (by omega) ej
          subst this
          intro q' hq' e'
          rw [hi2 p q hp hq (hi1 p q hp hq e2)] at e'
          have := dl_inj (by omega) (by omega) e'
          subst this
          exact ⟨dl_MTm hi2 M1, M2⟩
        · rw [hq2 j (by omega), hq1 j (by omega)] at ej
          have CC := C j (by omega) p' hp' ej
          obtain ⟨p2, q2, hp2, hq2', f1, f2, _⟩ := J.2.2.1 j (by omega)
          rw [f1] at ej
          have := dl_inj (by omega) (by omega) ej
          subst this
          intro q' hq' e'
          rw [hi2 p2 q2 hp2 hq2' (hi1 p2 q2 hp2 hq2' f2)] at e'
          have := dl_inj (by omega) (by omega) e'
          subst this
          have K := CC q2 hq2' f2
          exact ⟨dl_MTm hi2 (dl_MTm hi1 K.1), dl_MTm hi2 (dl_MTm hi1 K.2)⟩
  have L : ∀ n i, 49 ≤ n + i → i ≤ 48 → wX_alike_20 post (nI a) (nI b) f_cap f_limit (nI R) f_textLen f_fault f_found f_outLen f_nextLabel f_frames f_nextValue f_scanType f_scanValue f_tokens f_place f_depth f_elems n (nI i) a_reg a_carOf a_cdrOf a_text a_seen a_queue a_edgeCount (dl_fill a_image (-1) i) (dl_fill a_origin (-1) i) a_out a_labelOf a_frame a_frameTail a_digits a_tokType a_tokValue a_openFirst a_openTok a_lastElem a_inTail a_elemTok a_elemNext a_elemTail a_slot a_labelTok := by
    intro n
    induction n with
    | zero => intro i h1 h2; omega
    | succ n ih =>
      intro i h1 h2
      by_cases e : i = 48
      · subst e
        refine br_t (nI_le (a := 48) (by omega) (by omega)) ⟨vp_in_nI (by omega) (by decide), vp_in_nI (by omega) (by decide), ?_⟩
        rw [nI_clamp (n := a) (by omega), nI_clamp (n := b) (by omega)]
        by_cases z : a_reg a &&& 3 = 3 ∧ a_reg b &&& 3 = 3
        · obtain ⟨p0, hp0, ea⟩ := (hg a).2 z.1
          obtain ⟨q0, hq0, eb⟩ := (hg b).2 z.2
          refine xw_match (p0 := p0) (q0 := q0) (m := 0) (dl_xj0 (fun p hp => dl_fillI hp) (fun p hp => dl_fillI hp)) (hg a) (hg b) (fun h => absurd (Or.inl z) h) (fun p q hp hq x1 x2 => ?_) (fun im og qu m J hm hq hi M => br_f dl_10 ?_) (fun G => br_t rfl (H0 p0 q0 hp0 hq0 ea eb G _ _ _ 0))
          · rw [ea] at x1; rw [eb] at x2
            rw [← dl_pvI hp0 hp x1, ← dl_pvI hq0 hq x2]; exact dl_RR0
          · rw [ea, eb] at M
            exact ⟨49, L74 p0 q0 hp0 hq0 ea eb 49 0 im og qu m (by omega) (by omega) J (dl_MTi hp0 hq0 M) (fun j hj => absurd hj (by omega))⟩
        · have K := HN z (dl_fill a_image (-1) 48) (dl_fill a_origin (-1) 48)
          have T : a_reg a = a_reg b → ∃ n, wX_alike_74 post n 0 f_cap f_limit (nI R) f_textLen f_fault (nI 0) f_outLen f_nextLabel f_frames f_nextValue f_scanType f_scanValue f_tokens f_place f_depth f_elems a_reg a_carOf a_cdrOf a_text a_seen a_queue a_edgeCount (dl_fill a_image (-1) 48) (dl_fill a_origin (-1) 48) a_out a_labelOf a_frame a_frameTail a_digits a_tokType a_tokValue a_openFirst a_openTok a_lastElem a_inTail a_elemTok a_elemNext a_elemTail a_slot a_labelTok := fun e => by
            rw [if_pos e] at K
            exact ⟨1, br_t (by decide) K⟩
          exact xw_matchN z (fun e => br_f dl_10 (T e)) (fun e => by rw [if_neg e] at K; exact br_t rfl K)
      · refine br_f (nI_ge (b := 48) (by omega) (by decide)) ⟨vp_in_nI (by omega) (by decide), nm_r (e' := dl_fill a_image (-1) (i + 1)) ?_ ⟨vp_in_nI (by omega) (by decide), nm_r (e' := dl_fill a_origin (-1) (i + 1)) ?_ (nm_r (nI_1 i) (ih (i + 1) (by omega) (by omega)))⟩⟩
        · rw [nI_clamp (by omega), dl_fillS]
        · rw [nI_clamp (by omega), dl_fillS]
  unfold wpX_alike
  refine xw_badF ha (by omega) (br_t rfl ?_)
  refine xw_badF hb (by omega) (br_t rfl ?_)
  have := L 49 0 (by omega) (by omega)
  rw [dl_fill0, dl_fill0] at this
  exact ⟨49, this⟩
end
section
variable {yf_cap yf_limit yf_regs yf_length yf_fault yf_written yf_top yf_tokens : Int32} {ya_reg ya_heads ya_tails ya_text ya_in ya_image ya_out ya_label ya_spell ya_what ya_which ya_type ya_num ya_cell : Nat → Int32}
theorem yw_agree {post : Int32 → SY → Prop} {p0 q0 : Nat} {u v : Int32} (J : dl_YJ ya_heads ya_tails p0 q0 ya_image) (hu : dl_V 48 u) (hv : dl_V 48 v) (hA : ¬ dl_AG u v → ¬ dl_GG ya_heads ya_tails p0 q0)
    (hR : ∀ p q, p < 48 → q < 48 → u = dl_pv p → v = dl_pv q → dl_RR ya_heads ya_tails p0 q0 p q)
    (H1 : ∀ im, dl_YJ ya_heads ya_tails p0 q0 im → (∀ p q, p < 48 → q < 48 → ya_image p = nI q → im p = nI q) → dl_MT im u v → (im = ya_image ∨ (dl_ci ya_image < dl_ci im ∧ ¬ dl_MT ya_image u v)) → post 1 (yf_cap, yf_limit, yf_regs, yf_length, yf_fault, yf_written, yf_top, yf_tokens, ya_reg, ya_heads, ya_tails, ya_text, ya_in, im, ya_out, ya_label, ya_spell, ya_what, ya_which, ya_type, ya_num, ya_cell))
    (H0 : ∀ im, ¬ dl_GG ya_heads ya_tails p0 q0 → post 0 (yf_cap, yf_limit, yf_regs, yf_length, yf_fault, yf_written, yf_top, yf_tokens, ya_reg, ya_heads, ya_tails, ya_text, ya_in, im, ya_out, ya_label, ya_spell, ya_what, ya_which, ya_type, ya_num, ya_cell)) : wpY_agree post (yf_cap, yf_limit, yf_regs, yf_length, yf_fault, yf_written, yf_top, yf_tokens, ya_reg, ya_heads, ya_tails, ya_text, ya_in, ya_image, ya_out, ya_label, ya_spell, ya_what, ya_which, ya_type, ya_num, ya_cell) u v := by
  have S := fun M => H1 ya_image J (fun _ _ _ _ h => h) M (Or.inl rfl)
  have J14 : ¬ (u &&& 3 = 3 ∧ v &&& 3 = 3) → wY_agree_14 post u v yf_cap yf_limit yf_regs yf_length yf_fault yf_written yf_top yf_tokens ya_reg ya_heads ya_tails ya_text ya_in ya_image ya_out ya_label ya_spell ya_what ya_which ya_type ya_num ya_cell := by
    intro z
    unfold wY_agree_14
    by_cases e : u = v
    · exact br_t e (S (Or.inr ⟨e, z⟩))
    · refine br_f e (H0 _ (hA ?_))
      rintro (h | h)
      · exact z h
      · exact e h
  unfold wpY_agree
  by_cases hp : u &&& 3 = 3
  · refine br_t hp ?_
    by_cases hq : v &&& 3 = 3
    · refine br_t hq ?_
      obtain ⟨p, hp48, rfl⟩ := hu.2 hp
      obtain ⟨q, hq48, rfl⟩ := hv.2 hq
      have rr := hR p q hp48 hq48 rfl rfl
      unfold wY_agree_47
      rw [dl_pvS p hp48, dl_pvS q hq48, nI_clamp (n := p) (by omega)]
      refine ⟨vp_in_nI hp48 (by decide), ?_⟩
      rcases J p hp48 with z | ⟨q', hq', z, r'⟩
      · refine br_f (by rw [z]; decide) ⟨vp_in_nI hp48 (by decide), nm_e ⟨vp_in_nI hp48 (by decide), br_t pk_us ?_⟩⟩
        refine H1 _ ?_ ?_ (Or.inl ⟨p, q, hp48, hq48, rfl, rfl, pk_us⟩) (Or.inr ⟨by rw [dl_ciU hp48 hq48 z]; omega, fun M => ?_⟩)
        · intro p1 hp1
          by_cases w : p1 = p
          · subst w; exact Or.inr ⟨q, hq48, pk_us, rr⟩
          · rw [pk_un w]; exact J p1 hp1
        · intro p1 q1 hp1 hq1 e1
          rw [pk_un (fun w => by rw [w, z] at e1; exact absurd e1.symm (dl_nm1 (by omega)))]; exact e1
        · have := dl_MTi hp48 hq48 M
          rw [z] at this; exact absurd this.symm (dl_nm1 (by omega))
      · refine br_t (by rw [z]; exact nI_pos' (by omega)) ⟨vp_in_nI hp48 (by decide), ?_⟩
        by_cases e : q' = q
        · subst e
          exact br_t z (S (Or.inl ⟨p, q', hp48, hq48, rfl, rfl, z⟩))
        · exact br_f (fun h => e (dl_inj (by omega) (by omega) (z.symm.trans h))) (H0 _ (fun G => e (G.2.1 p q' q r' rr)))
    · exact br_f hq (J14 (fun h => hq h.2))
  · exact br_f hp (J14 (fun h => hp h.1))
theorem yw_alike {post : Int32 → SY → Prop} {R a b : Nat} (ha : a < R) (hb : b < R) (hR : R ≤ 8) (hg : ∀ i, dl_V 48 (ya_reg i)) (hc : ∀ i, dl_V 48 (ya_heads i)) (hd : ∀ i, dl_V 48 (ya_tails i))
    (HN : ¬ (ya_reg a &&& 3 = 3 ∧ ya_reg b &&& 3 = 3) → post (if ya_reg a = ya_reg b then 1 else 0) (yf_cap, yf_limit, nI R, yf_length, yf_fault, yf_written, yf_top, yf_tokens, ya_reg, ya_heads, ya_tails, ya_text, ya_in, ya_image, ya_out, ya_label, ya_spell, ya_what, ya_which, ya_type, ya_num, ya_cell))
    (H1 : ∀ p0 q0, p0 < 48 → q0 < 48 → ya_reg a = dl_pv p0 → ya_reg b = dl_pv q0 → dl_GG ya_heads ya_tails p0 q0 → ∀ im, post 1 (yf_cap, yf_limit, nI R, yf_length, yf_fault, yf_written, yf_top, yf_tokens, ya_reg, ya_heads, ya_tails, ya_text, ya_in, im, ya_out, ya_label, ya_spell, ya_what, ya_which, ya_type, ya_num, ya_cell))
    (H0 : ∀ p0 q0, p0 < 48 → q0 < 48 → ya_reg a = dl_pv p0 → ya_reg b = dl_pv q0 → ¬ dl_GG ya_heads ya_tails p0 q0 → ∀ im, post 0 (yf_cap, yf_limit, nI R, yf_length, yf_fault, yf_written, yf_top, yf_tokens, ya_reg, ya_heads, ya_tails, ya_text, ya_in, im, ya_out, ya_label, ya_spell, ya_what, ya_which, ya_type, ya_num, ya_cell)) :
    wpY_alike post (yf_cap, yf_limit, nI R, yf_length, yf_fault, yf_written, yf_top, yf_tokens, ya_reg, ya_heads, ya_tails, ya_text, ya_in, ya_image, ya_out, ya_label, ya_spell, ya_what, ya_which, ya_type, ya_num, ya_cell) (nI a) (nI b) := by
  have J42 : ¬ (ya_reg a &&& 3 = 3 ∧ ya_reg b &&& 3 = 3) → wY_alike_42 post (nI a) (nI b) yf_cap yf_limit (nI R) yf_length yf_fault yf_written yf_top yf_tokens ya_reg ya_heads ya_tails ya_text ya_in ya_image ya_out ya_label ya_spell ya_what ya_which ya_type ya_num ya_cell := by
    intro z
    have K := HN z
    unfold wY_alike_42
    rw [nI_clamp (n := a) (by omega), nI_clamp (n := b) (by omega)]
    refine ⟨vp_in_nI (by omega) (by decide), vp_in_nI (by omega) (by decide), ?_⟩
    by_cases e : ya_reg a = ya_reg b
    · rw [if_pos e] at K; exact br_t e K
    · rw [if_neg e] at K; exact br_f e K
  unfold wpY_alike
  refine yw_badF ha (by omega) (br_t rfl ?_)
  refine yw_badF hb (by omega) (br_t rfl ?_)
  rw [nI_clamp (n := a) (by omega), nI_clamp (n := b) (by omega)]
  refine ⟨vp_in_nI (by omega) (by decide), ?_⟩
  by_cases z1 : ya_reg a &&& 3 = 3
  · refine br_t z1 ⟨vp_in_nI (by omega) (by decide), ?_⟩
    by_cases z2 : ya_reg b &&& 3 = 3
    · refine br_t z2 ?_
      obtain ⟨p0, hp0, ea⟩ := (hg a).2 z1
      obtain ⟨q0, hq0, eb⟩ := (hg b).2 z2
      have H1' := H1 p0 q0 hp0 hq0 ea eb
      have H0' := H0 p0 q0 hp0 hq0 ea eb
      have L203 : ∀ im, dl_YJ ya_heads ya_tails p0 q0 im → im p0 = nI q0 → (∀ p, p < 48 → dl_CL ya_heads ya_tails im p) → ∀ n i, 49 ≤ n + i → i ≤ 48 → (∀ p q, p < i → q < p → ¬ im p = -1 → ¬ im p = im q) → wY_alike_203 post yf_cap yf_limit (nI R) yf_length yf_fault yf_written yf_top yf_tokens ya_reg ya_heads ya_tails ya_text ya_in im ya_out ya_label ya_spell ya_what ya_which ya_type ya_num ya_cell n (nI i) := by
        intro im J h0 C n
        induction n with
        | zero => intro i h1 h2; omega
        | succ n ih =>
          intro i h1 h2 hI
          by_cases e : i = 48
          · subst e
            exact br_t (nI_le (a := 48) (by omega) (by omega)) (H1' (dl_yjG J hp0 hq0 h0 C hI) im)
          · refine br_f (nI_ge (b := 48) (by omega) (by decide)) ⟨49, ?_⟩
            have L212 : ∀ n' j, 49 ≤ n' + j → j ≤ i → (∀ q, q < j → ¬ im i = -1 → ¬ im i = im q) → wY_alike_212 post (wY_alike_203 post yf_cap yf_limit (nI R) yf_length yf_fault yf_written yf_top yf_tokens ya_reg ya_heads ya_tails ya_text ya_in im ya_out ya_label ya_spell ya_what ya_which ya_type ya_num ya_cell n) (nI i) yf_cap yf_limit (nI R) yf_length yf_fault yf_written yf_top yf_tokens ya_reg ya_heads ya_tails ya_text ya_in im ya_out ya_label ya_spell ya_what ya_which ya_type ya_num ya_cell n' (nI j) := by
              intro n'
              induction n' with
              | zero => intro j h1 h2; omega
              | succ n' ih' =>
                intro j h3 h4 hJ
                by_cases e2 : j = i
                · subst e2
                  refine br_t (nI_le (by omega) (by omega)) (nm_r (nI_1 j) (ih (j + 1) (by omega) (by omega) ?_))
                  intro p q hp hq hn
                  by_cases e3 : p = j
                  · subst e3; exact hJ q hq hn
                  · exact hI p q (by omega) hq hn
                · refine br_f (nI_ge (by omega) (by omega)) ⟨vp_in_nI (by omega) (by decide), ?_⟩
                  rw [nI_clamp (n := i) (by omega), nI_clamp (n := j) (by omega)]
                  rcases J i (by omega) with z | ⟨q', hq', z, r'⟩
                  · refine br_t (by rw [z]; decide) (nm_r (nI_1 j) (ih' (j + 1) (by omega) (by omega) ?_))
                    intro q hq hn
                    exact absurd z hn
                  · refine br_f (by rw [z]; exact nI_pos (by omega)) ⟨vp_in_nI (by omega) (by decide), vp_in_nI (by omega) (by decide), ?_⟩
                    by_cases e3 : im i = im j
                    · refine br_t e3 (H0' (fun G => ?_) im)
                      rcases J j (by omega) with y | ⟨q2, hq2, y, r2⟩
                      · rw [z, y] at e3; exact absurd e3 (dl_nm1 (by omega))
                      · rw [z, y] at e3
                        have := dl_inj (by omega) (by omega) e3
                        subst this
                        have := G.2.2 i j q' r' r2
                        omega
                    · refine br_f e3 (nm_r (nI_1 j) (ih' (j + 1) (by omega) (by omega) ?_))
                      intro q hq hn
                      by_cases e4 : q = j
                      · rw [e4]; exact e3
                      · exact hJ q (by omega) hn
            exact L212 49 0 (by omega) (by omega) (fun q hq => absurd hq (by omega))
      have L107 : ∀ n k im, 51 ≤ n + k → k ≤ 50 → dl_YJ ya_heads ya_tails p0 q0 im → im p0 = nI q0 → dl_YM ya_heads ya_tails im k → wY_alike_107 post n (nI k) yf_cap yf_limit (nI R) yf_length yf_fault yf_written yf_top yf_tokens ya_reg ya_heads ya_tails ya_text ya_in im ya_out ya_label ya_spell ya_what ya_which ya_type ya_num ya_cell := by
        intro n
        induction n with
        | zero => intro k im h1 h2; omega
        | succ n ih =>
          intro k im h1 h2 J h0 M
          by_cases e : k = 50
          · subst e
            refine br_t (nI_le (a := 50) (by omega) (by omega)) ⟨49, ?_⟩
            have C : ∀ p, p < 48 → dl_CL ya_heads ya_tails im p := by
              rcases M with M | M
              · exact M
              · have := dl_ci48 (im := im); omega
            exact L203 im J h0 C 49 0 (by omega) (by omega) (fun p q hp => absurd hp (by omega))
          · refine br_f (nI_ge (b := 50) (by omega) (by decide)) ⟨49, ?_⟩
            have L116 : ∀ n' i im', 49 ≤ n' + i → i ≤ 48 → dl_YJ ya_heads ya_tails p0 q0 im' → im' p0 = nI q0 → dl_YQ ya_heads ya_tails im im' i → wY_alike_116 post (wY_alike_107 post n) (nI k) n' (nI i) yf_cap yf_limit (nI R) yf_length yf_fault yf_written yf_top yf_tokens ya_reg ya_heads ya_tails ya_text ya_in im' ya_out ya_label ya_spell ya_what ya_which ya_type ya_num ya_cell := by
              intro n'
              induction n' with
              | zero => intro i im' h1 h2; omega
              | succ n' ih' =>
                intro i im' h3 h4 J' h0' Q
                by_cases e2 : i = 48
                · subst e2
                  exact br_t (nI_le (a := 48) (by omega) (by omega)) (nm_r (nI_1 k) (ih (k + 1) im' (by omega) (by omega) J' h0' (dl_ymS M Q)))
                · have hi : i < 48 := by omega
                  refine br_f (nI_ge (b := 48) hi (by decide)) ⟨vp_in_nI hi (by decide), ?_⟩
                  rw [nI_clamp (n := i) (by omega)]
                  rcases J' i hi with z | ⟨q, hq, z, rr⟩
                  · exact br_t (by rw [z]; decide) (nm_r (nI_1 i) (ih' (i + 1) im' (by omega) (by omega) J' h0' (dl_yqN hi z Q)))
                  · refine br_f (by rw [z]; exact nI_pos (by omega)) ⟨vp_in_nI hi (by decide), vp_in_nI hi (by decide), ?_⟩
                    rw [z, nI_clamp (n := q) (by omega)]
                    refine ⟨vp_in_nI hq (by decide), ?_⟩
                    refine yw_agree J' (hc i) (hc q) (fun h G => h (G.1 i q rr).1) (fun p1 q1 hp1 hq1 x1 x2 => dl_RRs rr hp1 hq1 (Or.inl ⟨x1, x2⟩)) (fun im1 J1 m1 M1 c1 => br_f dl_10 ?_) (fun im1 G => br_t rfl (H0' G im1))
                    rw [m1 i q hi hq z, nI_clamp (n := q) (by omega)]
                    refine ⟨vp_in_nI hi (by decide), vp_in_nI hi (by decide), vp_in_nI hq (by decide), ?_⟩
                    refine yw_agree J1 (hd i) (hd q) (fun h G => h (G.1 i q rr).2) (fun p1 q1 hp1 hq1 x1 x2 => dl_RRs rr hp1 hq1 (Or.inr ⟨x1, x2⟩)) (fun im2 J2 m2 M2 c2 => br_f dl_10 ?_) (fun im2 G => br_t rfl (H0' G im2))
                    exact nm_r (nI_1 i) (ih' (i + 1) im2 (by omega) (by omega) J2 (m2 _ _ hp0 hq0 (m1 _ _ hp0 hq0 h0')) (dl_yqS hi hq z M1 M2 c1 c2 Q))
            exact L116 49 0 im (by omega) (by omega) J h0 (Or.inr ⟨rfl, fun p hp => absurd hp (by omega)⟩)
      have L65 : ∀ n i, 49 ≤ n + i → i ≤ 48 → wY_alike_65 post (nI a) (nI b) yf_cap yf_limit (nI R) yf_length yf_fault yf_written yf_top yf_tokens n (nI i) ya_reg ya_heads ya_tails ya_text ya_in (dl_fill ya_image (-1) i) ya_out ya_label ya_spell ya_what ya_which ya_type ya_num ya_cell := by
        intro n
        induction n with
        | zero => intro i h1 h2; omega
        | succ n ih =>
          intro i h1 h2
          by_cases e : i = 48
          · subst e
            refine br_t (nI_le (a := 48) (by omega) (by omega)) ⟨vp_in_nI (by omega) (by decide), vp_in_nI (by omega) (by decide), ?_⟩
            rw [nI_clamp (n := a) (by omega), nI_clamp (n := b) (by omega), ea, eb, dl_pvS p0 hp0, dl_pvS q0 hq0, nI_clamp (n := p0) (by omega)]
            refine ⟨vp_in_nI hp0 (by decide), nm_e ⟨51, L107 51 0 _ (by omega) (by omega) ?_ pk_us (Or.inr ?_)⟩⟩
            · intro p hp
              by_cases w : p = p0
              · subst w; exact Or.inr ⟨q0, hq0, pk_us, dl_RR0⟩
              · rw [pk_un w]; exact Or.inl (dl_fillI hp)
            · rw [dl_ciU hp0 hq0 (dl_fillI hp0)]; omega
          · refine br_f (nI_ge (b := 48) (by omega) (by decide)) ⟨vp_in_nI (by omega) (by decide), nm_r (e' := dl_fill ya_image (-1) (i + 1)) ?_ (nm_r (nI_1 i) (ih (i + 1) (by omega) (by omega)))⟩
            rw [nI_clamp (by omega), dl_fillS]
      have := L65 49 0 (by omega) (by omega)
      rw [dl_fill0] at this
      exact ⟨49, this⟩
    · exact br_f z2 (J42 (fun h => z2 h.2))
  · exact br_f z1 (J42 (fun h => z1 h.1))
end
theorem i_vc_alike {k : Nat} {u : SX} {v : SY} (I : i_Rel k u v) (hk : k + 4 ≤ 2051) (v1 : Int32) (v2 : Int32) : wpX_alike (fun r u' => wpY_alike (fun r' v' => r' = r ∧ i_Rel (k + 4) u' v') v v1 v2) u v1 v2 := by
  refine zz_el (P := fun u v => wpX_alike (fun r u' => wpY_alike (fun r' v' => r' = r ∧ i_Rel (k + 4) u' v') v v1 v2) u v1 v2) ?_ I
  clear I
  intro cap limit regs len f_fault f_found f_outLen f_nextLabel f_frames f_nextValue f_scanType f_scanValue f_tokens f_place f_depth f_elems a_reg a_carOf a_cdrOf a_text a_seen a_queue a_edgeCount a_image a_origin a_out a_labelOf a_frame a_frameTail a_digits a_tokType a_tokValue a_openFirst a_openTok a_lastElem a_inTail a_elemTok a_elemNext a_elemTail a_slot a_labelTok yf_written yf_top yf_tokens ya_in ya_image ya_what ya_which ya_type ya_num ya_cell g
  try dsimp only
  obtain ⟨V1, V2, V3⟩ := dl_gV g
  obtain ⟨g1, g2, g3, g4, g5, g6, g7, _⟩ := id g
  have gR : regs < 2 ^ 31 := by omega
  by_cases hb : dl_bad regs v1 ∨ dl_bad regs v2
  · exact xw_alikeB gR hb (yw_alikeB gR hb ⟨rfl, zz_in g⟩)
  · obtain ⟨i, hi, rfl⟩ := dl_good gR (fun h => hb (Or.inl h))
    obtain ⟨j, hj, rfl⟩ := dl_good gR (fun h => hb (Or.inr h))
    have no : ∀ {p q}, p < 48 → q < 48 → a_reg i = dl_pv p → a_reg j = dl_pv q → a_reg i &&& 3 = 3 ∧ a_reg j &&& 3 = 3 := fun hp hq e1 e2 => by rw [e1, e2]; exact ⟨dl_pvA _ hp, dl_pvA _ hq⟩
    refine xw_alike hi hj g6 V1 V2 V3 (fun z im og => ?_) (fun p q hp hq e1 e2 G im og qu m => ?_) (fun p q hp hq e1 e2 G im og qu m => ?_)
    · exact yw_alike hi hj g6 V1 V2 V3 (fun _ => ⟨rfl, zz_in g⟩) (fun p q hp hq e1 e2 _ _ => absurd (no hp hq e1 e2) z) (fun p q hp hq e1 e2 _ _ => absurd (no hp hq e1 e2) z)
    · refine yw_alike hi hj g6 V1 V2 V3 (fun z => absurd (no hp hq e1 e2) z) (fun _ _ _ _ _ _ _ im' => ⟨rfl, zz_in g⟩) (fun p' q' hp' hq' e1' e2' G' im' => ?_)
      rw [e1] at e1'; rw [e2] at e2'
      cases dl_pvI hp hp' e1'
      cases dl_pvI hq hq' e2'
      exact absurd G G'
    · refine yw_alike hi hj g6 V1 V2 V3 (fun z => absurd (no hp hq e1 e2) z) (fun p' q' hp' hq' e1' e2' G' im' => ?_) (fun _ _ _ _ _ _ _ im' => ⟨rfl, zz_in g⟩)
      rw [e1] at e1'; rw [e2] at e2'
      cases dl_pvI hp hp' e1'
      cases dl_pvI hq hq' e2'
      exact absurd G' G
end DLALW
end
section
section DLEMIT
def dl_em (o : Nat → Int32) (L : Nat) (c : Int32) : Nat → Int32 := if L < 256 then upd o L c else o
def dl_eo (dg : Nat → Int32) : Nat → (Nat → Int32) → Nat → (Nat → Int32)
  | 0, o, _ => o
  | k + 1, o, L => dl_eo dg k (dl_em o L (dg k)) (L + 1)
def dl_nd : Nat → Nat → Int32 → (Nat → Int32) → Nat × (Nat → Int32)
  | 0, i, _, dg => (i, dg)
  | f + 1, i, r, dg => if 0 < r ∨ i = 0 then dl_nd f (i + 1) (r / 10) (upd dg i (48 + (r - r / 10 * 10))) else (i, dg)
def dl_md : Nat → Nat → Int32 → (Nat → Int32) → Nat × (Nat → Int32)
  | 0, i, _, dg => (i, dg)
  | f + 1, i, r, dg => if r ≤ 0 then (i, dg) else dl_md f (i + 1) ((r - 1) / 26) (upd dg i (97 + ((r - 1) - (r - 1) / 26 * 26)))
theorem dl_nd_s {f i : Nat} {r : Int32} {dg : Nat → Int32} (h : 0 < r ∨ i = 0) : dl_nd (f + 1) i r dg = dl_nd f (i + 1) (r / 10) (upd dg i (48 + (r - r / 10 * 10))) := if_pos h
theorem dl_nd_n {f i : Nat} {r : Int32} {dg : Nat → Int32} (h : ¬ (0 < r ∨ i = 0)) : dl_nd (f + 1) i r dg = (i, dg) := if_neg h
theorem dl_md_s {f i : Nat} {r : Int32} {dg : Nat → Int32} (h : ¬ r ≤ 0) : dl_md (f + 1) i r dg = dl_md f (i + 1) ((r - 1) / 26) (upd dg i (97 + ((r - 1) - (r - 1) / 26 * 26))) := if_neg h
theorem dl_md_n {f i : Nat} {r : Int32} {dg : Nat → Int32} (h : r ≤ 0) : dl_md (f + 1) i r dg = (i, dg) := if_pos h
theorem dl_ndL : ∀ f i r dg, (dl_nd f i r dg).1 ≤ i + f := by
  intro f
  induction f with
  | zero => intro i r dg; exact Nat.le_refl _
  | succ f ih =>
    intro i r dg
    by_cases h : 0 < r ∨ i = 0
    · rw [dl_nd_s h]; have := ih (i + 1) (r / 10) (upd dg i (48 + (r - r / 10 * 10))); omega
    · rw [dl_nd_n h]; exact Nat.le_add_right _ _
theorem dl_mdL : ∀ f i r dg, (dl_md f i r dg).1 ≤ i + f := by
  intro f
  induction f with
  | zero => intro i r dg; exact Nat.le_refl _
  | succ f ih =>
    intro i r dg
    by_cases h : r ≤ 0
    · rw [dl_md_n h]; exact Nat.le_add_right _ _
    · rw [dl_md_s h]; have := ih (i + 1) ((r - 1) / 26) (upd dg i (97 + ((r - 1) - (r - 1) / 26 * 26))); omega
section
variable {f_cap f_limit f_regs f_textLen f_fault f_found f_outLen f_nextLabel f_frames f_nextValue f_scanType f_scanValue f_tokens f_place f_depth f_elems : Int32} {a_reg a_carOf a_cdrOf a_text a_seen a_queue a_edgeCount a_image a_origin a_out a_labelOf a_frame a_frameTail a_digits a_tokType a_tokValue a_openFirst a_openTok a_lastElem a_inTail a_elemTok a_elemNext a_elemTail a_slot a_labelTok : Nat → Int32}
variable {yf_cap yf_limit yf_regs yf_length yf_fault yf_written yf_top yf_tokens : Int32} {ya_reg ya_heads ya_tails ya_text ya_in ya_image ya_out ya_label ya_spell ya_what ya_which ya_type ya_num ya_cell : Nat → Int32}
theorem xw_emit {post : SX → Prop} {L : Nat} {c : Int32} (hL : L < 2 ^ 30) (h : post (f_cap, f_limit, f_regs, f_textLen, f_fault, f_found, nI (L + 1), f_nextLabel, f_frames, f_nextValue, f_scanType, f_scanValue, f_tokens, f_place, f_depth, f_elems, a_reg, a_carOf, a_cdrOf, a_text, a_seen, a_queue, a_edgeCount, a_image, a_origin, dl_em a_out L c, a_labelOf, a_frame, a_frameTail, a_digits, a_tokType, a_tokValue, a_openFirst, a_openTok, a_lastElem, a_inTail, a_elemTok, a_elemNext, a_elemTail, a_slot, a_labelTok)) : wpX_emit post (f_cap, f_limit, f_regs, f_textLen, f_fault, f_found, nI L, f_nextLabel, f_frames, f_nextValue, f_scanType, f_scanValue, f_tokens, f_place, f_depth, f_elems, a_reg, a_carOf, a_cdrOf, a_text, a_seen, a_queue, a_edgeCount, a_image, a_origin, a_out, a_labelOf, a_frame, a_frameTail, a_digits, a_tokType, a_tokValue, a_openFirst, a_openTok, a_lastElem, a_inTail, a_elemTok, a_elemNext, a_elemTail, a_slot, a_labelTok) c := by
  unfold wpX_emit
  unfold dl_em at h
  by_cases z : L < 256
  · rw [if_pos z] at h
    exact br_f (nI_ge (b := 256) z (by decide)) ⟨vp_in_nI z (by decide), nm_r (e' := upd a_out L c) (by rw [nI_clamp (by omega)]) (nm_r (nI_1 L) h)⟩
  · rw [if_neg z] at h
    exact br_t (nI_le (a := 256) (by omega) (by omega)) (nm_r (nI_1 L) h)
theorem xw_ed4 {post : SX → Prop} : ∀ n k o L x2, k < n → k ≤ 8 → L + k < 2 ^ 30 → ((k = 0 ∧ x2 = -1) ∨ (∃ j, k = j + 1 ∧ x2 = nI j)) → post (f_cap, f_limit, f_regs, f_textLen, f_fault, f_found, nI (L + k), f_nextLabel, f_frames, f_nextValue, f_scanType, f_scanValue, f_tokens, f_place, f_depth, f_elems, a_reg, a_carOf, a_cdrOf, a_text, a_seen, a_queue, a_edgeCount, a_image, a_origin, dl_eo a_digits k o L, a_labelOf, a_frame, a_frameTail, a_digits, a_tokType, a_tokValue, a_openFirst, a_openTok, a_lastElem, a_inTail, a_elemTok, a_elemNext, a_elemTail, a_slot, a_labelTok) → wX_emitDigits_4 post n x2 f_cap f_limit f_regs f_textLen f_fault f_found (nI L) f_nextLabel f_frames f_nextValue f_scanType f_scanValue f_tokens f_place f_depth f_elems a_reg a_carOf a_cdrOf a_text a_seen a_queue a_edgeCount a_image a_origin o a_labelOf a_frame a_frameTail a_digits a_tokType a_tokValue a_openFirst a_openTok a_lastElem a_inTail a_elemTok a_elemNext a_elemTail a_slot a_labelTok := by
  intro n
  induction n with
  | zero => intro k o L x2 h; omega
  | succ n ih =>
    intro k o L x2 h1 h2 h3 h4 h5
    rcases h4 with ⟨rfl, rfl⟩ | ⟨j, rfl, rfl⟩
    · exact br_t (by decide) h5
    · have nx : (j = 0 ∧ nI j + (-1) = -1) ∨ (∃ j', j = j' + 1 ∧ nI j + (-1) = nI j') := by
        by_cases z : j = 0
        · subst z; exact Or.inl ⟨rfl, by decide⟩
        · exact Or.inr ⟨j - 1, by omega, dl_m1 (by omega)⟩
      refine br_f (nI_pos (by omega)) ⟨vp_in_nI (by omega) (by decide), ?_⟩
      rw [nI_clamp (n := j) (by omega)]
      refine xw_emit (by omega) (nm_e (ih j (dl_em o L (a_digits j)) (L + 1) _ (by omega) (by omega) (by omega) nx ?_))
      rw [show L + 1 + j = L + (j + 1) from by omega]
      exact h5
theorem yw_emit {post : SY → Prop} {L : Nat} {c : Int32} (hL : L < 2 ^ 30) (h : post (yf_cap, yf_limit, yf_regs, yf_length, yf_fault, nI (L + 1), yf_top, yf_tokens, ya_reg, ya_heads, ya_tails, ya_text, ya_in, ya_image, dl_em ya_out L c, ya_label, ya_spell, ya_what, ya_which, ya_type, ya_num, ya_cell)) : wpY_emit post (yf_cap, yf_limit, yf_regs, yf_length, yf_fault, nI L, yf_top, yf_tokens, ya_reg, ya_heads, ya_tails, ya_text, ya_in, ya_image, ya_out, ya_label, ya_spell, ya_what, ya_which, ya_type, ya_num, ya_cell) c := by
  unfold wpY_emit
  unfold dl_em at h
  by_cases z : L < 256
  · rw [if_pos z] at h
    exact br_f (nI_ge (b := 256) z (by decide)) ⟨vp_in_nI z (by decide), nm_r (e' := upd ya_out L c) (by rw [nI_clamp (by omega)]) (nm_r (nI_1 L) h)⟩
  · rw [if_neg z] at h
    exact br_t (nI_le (a := 256) (by omega) (by omega)) (nm_r (nI_1 L) h)
theorem yw_ed4 {post : SY → Prop} : ∀ n k o L x2, k < n → k ≤ 8 → L + k < 2 ^ 30 → ((k = 0 ∧ x2 = -1) ∨ (∃ j, k = j + 1 ∧ x2 = nI j)) → post (yf_cap, yf_limit, yf_regs, yf_length, yf_fault, nI (L + k), yf_top, yf_tokens, ya_reg, ya_heads, ya_tails, ya_text, ya_in, ya_image, dl_eo ya_spell k o L, ya_label, ya_spell, ya_what, ya_which, ya_type, ya_num, ya_cell) → wY_atom_161 post n x2 yf_cap yf_limit yf_regs yf_length yf_fault (nI L) yf_top yf_tokens ya_reg ya_heads ya_tails ya_text ya_in ya_image o ya_label ya_spell ya_what ya_which ya_type ya_num ya_cell := by
  intro n
  induction n with
  | zero => intro k o L x2 h; omega
  | succ n ih =>
    intro k o L x2 h1 h2 h3 h4 h5
    rcases h4 with ⟨rfl, rfl⟩ | ⟨j, rfl, rfl⟩
    · exact br_t (by decide) h5
    · have nx : (j = 0 ∧ nI j + (-1) = -1) ∨ (∃ j', j = j' + 1 ∧ nI j + (-1) = nI j') := by
        by_cases z : j = 0
        · subst z; exact Or.inl ⟨rfl, by decide⟩
        · exact Or.inr ⟨j - 1, by omega, dl_m1 (by omega)⟩
      refine br_f (nI_pos (by omega)) ⟨vp_in_nI (by omega) (by decide), ?_⟩
      rw [nI_clamp (n := j) (by omega)]
      refine yw_emit (by omega) (nm_e (ih j (dl_em o L (ya_spell j)) (L + 1) _ (by omega) (by omega) (by omega) nx ?_))
      rw [show L + 1 + j = L + (j + 1) from by omega]
      exact h5
theorem xw_emitDigits {post : SX → Prop} {k L : Nat} (hk : k ≤ 8) (hL : L + 8 < 2 ^ 30) (h : post (f_cap, f_limit, f_regs, f_textLen, f_fault, f_found, nI (L + k), f_nextLabel, f_frames, f_nextValue, f_scanType, f_scanValue, f_tokens, f_place, f_depth, f_elems, a_reg, a_carOf, a_cdrOf, a_text, a_seen, a_queue, a_edgeCount, a_image, a_origin, dl_eo a_digits k a_out L, a_labelOf, a_frame, a_frameTail, a_digits, a_tokType, a_tokValue, a_openFirst, a_openTok, a_lastElem, a_inTail, a_elemTok, a_elemNext, a_elemTail, a_slot, a_labelTok)) : wpX_emitDigits post (f_cap, f_limit, f_regs, f_textLen, f_fault, f_found, nI L, f_nextLabel, f_frames, f_nextValue, f_scanType, f_scanValue, f_tokens, f_place, f_depth, f_elems, a_reg, a_carOf, a_cdrOf, a_text, a_seen, a_queue, a_edgeCount, a_image, a_origin, a_out, a_labelOf, a_frame, a_frameTail, a_digits, a_tokType, a_tokValue, a_openFirst, a_openTok, a_lastElem, a_inTail, a_elemTok, a_elemNext, a_elemTail, a_slot, a_labelTok) (nI k) := by
  unfold wpX_emitDigits
  refine nm_e ⟨k + 1, xw_ed4 (k + 1) k a_out L _ (by omega) hk (by omega) ?_ h⟩
  by_cases z : k = 0
  · subst z; exact Or.inl ⟨rfl, by decide⟩
  · exact Or.inr ⟨k - 1, by omega, dl_s1 (by omega)⟩
theorem xw_num {post : SX → Prop} {L : Nat} (hL : L + 8 < 2 ^ 30) : ∀ f i r dg, f + i = 6 → post (f_cap, f_limit, f_regs, f_textLen, f_fault, f_found, nI (L + (dl_nd f i r dg).1), f_nextLabel, f_frames, f_nextValue, f_scanType, f_scanValue, f_tokens, f_place, f_depth, f_elems, a_reg, a_carOf, a_cdrOf, a_text, a_seen, a_queue, a_edgeCount, a_image, a_origin, dl_eo (dl_nd f i r dg).2 (dl_nd f i r dg).1 a_out L, a_labelOf, a_frame, a_frameTail, (dl_nd f i r dg).2, a_tokType, a_tokValue, a_openFirst, a_openTok, a_lastElem, a_inTail, a_elemTok, a_elemNext, a_elemTail, a_slot, a_labelTok) →
    wX_emitNumber_20 post f_cap f_limit f_regs f_textLen f_fault f_found (nI L) f_nextLabel f_frames f_nextValue f_scanType f_scanValue f_tokens f_place f_depth f_elems (f + 1) r (nI i) (nI i) a_reg a_carOf a_cdrOf a_text a_seen a_queue a_edgeCount a_image a_origin a_out a_labelOf a_frame a_frameTail dg a_tokType a_tokValue a_openFirst a_openTok a_lastElem a_inTail a_elemTok a_elemNext a_elemTail a_slot a_labelTok := by
  intro f
  induction f with
  | zero =>
    intro i r dg h1 h
    have e : i = 6 := by omega
    subst e
    refine br_t (nI_le (a := 6) (by omega) (by omega)) ?_
    unfold wX_emitNumber_64
    exact xw_emitDigits (by omega) hL h
  | succ f ih =>
    intro i r dg h1 h
    refine br_f (nI_ge (b := 6) (by omega) (by decide)) ?_
    by_cases c : 0 < r ∨ i = 0
    · rw [dl_nd_s c] at h
      have K : wX_emitNumber_36 post (wX_emitNumber_20 post f_cap f_limit f_regs f_textLen f_fault f_found (nI L) f_nextLabel f_frames f_nextValue f_scanType f_scanValue f_tokens f_place f_depth f_elems (f + 1)) r (nI i) (nI i) f_cap f_limit f_regs f_textLen f_fault f_found (nI L) f_nextLabel f_frames f_nextValue f_scanType f_scanValue f_tokens f_place f_depth f_elems a_reg a_carOf a_cdrOf a_text a_seen a_queue a_edgeCount a_image a_origin a_out a_labelOf a_frame a_frameTail dg a_tokType a_tokValue a_openFirst a_openTok a_lastElem a_inTail a_elemTok a_elemNext a_elemTail a_slot a_labelTok := by
        unfold wX_emitNumber_36
        rw [nI_clamp (n := i) (by omega)]
        exact ⟨by decide, vp_in_nI (by omega) (by decide), nm_e ⟨by decide, nm_e (nm_r (nI_1 i) (nm_r (nI_1 i) (ih (i + 1) _ _ (by omega) h)))⟩⟩
      by_cases z : 0 < r
      · exact br_t z K
      · refine br_f z (br_t ?_ K)
        rcases c with c | c
        · exact absurd c z
        · rw [c]; rfl
    · rw [dl_nd_n c] at h
      refine br_f (fun z => c (Or.inl z)) (br_f (fun z => c (Or.inr (dl_inj (by omega) (by omega) z))) ?_)
      unfold wX_emitNumber_64
      exact xw_emitDigits (by omega) hL h
theorem xw_name {post : SX → Prop} {L : Nat} (hL : L + 8 < 2 ^ 30) : ∀ f i r dg, f + i = 4 → post (f_cap, f_limit, f_regs, f_textLen, f_fault, f_found, nI (L + (dl_md f i r dg).1), f_nextLabel, f_frames, f_nextValue, f_scanType, f_scanValue, f_tokens, f_place, f_depth, f_elems, a_reg, a_carOf, a_cdrOf, a_text, a_seen, a_queue, a_edgeCount, a_image, a_origin, dl_eo (dl_md f i r dg).2 (dl_md f i r dg).1 a_out L, a_labelOf, a_frame, a_frameTail, (dl_md f i r dg).2, a_tokType, a_tokValue, a_openFirst, a_openTok, a_lastElem, a_inTail, a_elemTok, a_elemNext, a_elemTail, a_slot, a_labelTok) →
    wX_emitName_7 post f_cap f_limit f_regs f_textLen f_fault f_found (nI L) f_nextLabel f_frames f_nextValue f_scanType f_scanValue f_tokens f_place f_depth f_elems (f + 1) r (nI i) (nI i) a_reg a_carOf a_cdrOf a_text a_seen a_queue a_edgeCount a_image a_origin a_out a_labelOf a_frame a_frameTail dg a_tokType a_tokValue a_openFirst a_openTok a_lastElem a_inTail a_elemTok a_elemNext a_elemTail a_slot a_labelTok := by
  intro f
  induction f with
  | zero =>
    intro i r dg h1 h
    have e : i = 4 := by omega
    subst e
    refine br_t (nI_le (a := 4) (by omega) (by omega)) ?_
    unfold wX_emitName_49
    exact xw_emitDigits (by omega) hL h
  | succ f ih =>
    intro i r dg h1 h
    refine br_f (nI_ge (b := 4) (by omega) (by decide)) ?_
    by_cases c : r ≤ 0
    · rw [dl_md_n c] at h
      refine br_t c ?_
      unfold wX_emitName_49
      exact xw_emitDigits (by omega) hL h
    · rw [dl_md_s c] at h
      refine br_f c ?_
      rw [nI_clamp (n := i) (by omega)]
      exact ⟨by decide, vp_in_nI (by omega) (by decide), nm_e ⟨by decide, nm_e (nm_r (nI_1 i) (nm_r (nI_1 i) (ih (i + 1) _ _ (by omega) h)))⟩⟩
theorem yw_ed {post : SY → Prop} {k L : Nat} (hk : k ≤ 8) (hL : L + 8 < 2 ^ 30) (h : post (yf_cap, yf_limit, yf_regs, yf_length, yf_fault, nI (L + k), yf_top, yf_tokens, ya_reg, ya_heads, ya_tails, ya_text, ya_in, ya_image, dl_eo ya_spell k ya_out L, ya_label, ya_spell, ya_what, ya_which, ya_type, ya_num, ya_cell)) : ∀ x4, x4 = nI k - 1 → ∃ n, wY_atom_161 post n x4 yf_cap yf_limit yf_regs yf_length yf_fault (nI L) yf_top yf_tokens ya_reg ya_heads ya_tails ya_text ya_in ya_image ya_out ya_label ya_spell ya_what ya_which ya_type ya_num ya_cell := by
  refine nm_e ⟨k + 1, yw_ed4 (k + 1) k ya_out L _ (by omega) hk (by omega) ?_ h⟩
  by_cases z : k = 0
  · subst z; exact Or.inl ⟨rfl, by decide⟩
  · exact Or.inr ⟨k - 1, by omega, dl_s1 (by omega)⟩
theorem yw_numB {post : SY → Prop} {L k : Nat} {r : Int32} (hk : k ≤ 8) (hL : L + 8 < 2 ^ 30) (hr : r ≤ 0) (h : post (yf_cap, yf_limit, yf_regs, yf_length, yf_fault, nI (L + k), yf_top, yf_tokens, ya_reg, ya_heads, ya_tails, ya_text, ya_in, ya_image, dl_eo ya_spell k ya_out L, ya_label, ya_spell, ya_what, ya_which, ya_type, ya_num, ya_cell)) : ∀ f i, f + i = 6 → 0 < i →
    wY_atom_53 post yf_cap yf_limit yf_regs yf_length yf_fault (nI L) yf_top yf_tokens (f + 1) r (nI k) (nI i) ya_reg ya_heads ya_tails ya_text ya_in ya_image ya_out ya_label ya_spell ya_what ya_which ya_type ya_num ya_cell := by
  intro f
  induction f with
  | zero =>
    intro i h1 h0
    have e : i = 6 := by omega
    subst e
    exact br_t (nI_le (a := 6) (by omega) (by omega)) (yw_ed hk hL h)
  | succ f ih =>
    intro i h1 h0
    exact br_f (nI_ge (b := 6) (by omega) (by decide)) (br_f (nI_ne0 h0 (by omega)) (br_t hr (nm_r (nI_1 i) (ih (i + 1) (by omega) (by omega)))))
theorem yw_num {post : SY → Prop} {L : Nat} (hL : L + 8 < 2 ^ 30) : ∀ f i r dg, f + i = 6 → post (yf_cap, yf_limit, yf_regs, yf_length, yf_fault, nI (L + (dl_nd f i r dg).1), yf_top, yf_tokens, ya_reg, ya_heads, ya_tails, ya_text, ya_in, ya_image, dl_eo (dl_nd f i r dg).2 (dl_nd f i r dg).1 ya_out L, ya_label, (dl_nd f i r dg).2, ya_what, ya_which, ya_type, ya_num, ya_cell) →
    wY_atom_53 post yf_cap yf_limit yf_regs yf_length yf_fault (nI L) yf_top yf_tokens (f + 1) r (nI i) (nI i) ya_reg ya_heads ya_tails ya_text ya_in ya_image ya_out ya_label dg ya_what ya_which ya_type ya_num ya_cell := by
  intro f
  induction f with
  | zero =>
    intro i r dg h1 h
    have e : i = 6 := by omega
    subst e
    exact br_t (nI_le (a := 6) (by omega) (by omega)) (yw_ed (by omega) hL h)
  | succ f ih =>
    intro i r dg h1 h
    by_cases c : 0 < r ∨ i = 0
    · rw [dl_nd_s c] at h
      refine br_f (nI_ge (b := 6) (by omega) (by decide)) ?_
      have K : wY_atom_69 post (wY_atom_53 post yf_cap yf_limit yf_regs yf_length yf_fault (nI L) yf_top yf_tokens (f + 1)) r (nI i) yf_cap yf_limit yf_regs yf_length yf_fault (nI L) yf_top yf_tokens ya_reg ya_heads ya_tails ya_text ya_in ya_image ya_out ya_label dg ya_what ya_which ya_type ya_num ya_cell := by
        unfold wY_atom_69
        rw [nI_clamp (n := i) (by omega)]
        exact ⟨by decide, vp_in_nI (by omega) (by decide), nm_e ⟨by decide, nm_e (nm_r (nI_1 i) (nm_r (nI_1 i) (ih (i + 1) _ _ (by omega) h)))⟩⟩
      by_cases z : i = 0
      · subst z
        exact br_t rfl K
      · refine br_f (nI_ne0 (by omega) (by omega)) (br_f ?_ K)
        rcases c with c | c
        · exact Int32.not_le.mpr c
        · exact absurd c z
    · rw [dl_nd_n c] at h
      have h0 : ¬ i = 0 := fun z => c (Or.inr z)
      have hr : r ≤ 0 := Int32.not_lt.mp (fun z => c (Or.inl z))
      exact yw_numB (by omega) hL hr h (f + 1) i h1 (by omega)
theorem yw_nameB {post : SY → Prop} {L k : Nat} {r : Int32} (hk : k ≤ 8) (hL : L + 8 < 2 ^ 30) (hr : r ≤ 0) (h : post (yf_cap, yf_limit, yf_regs, yf_length, yf_fault, nI (L + k), yf_top, yf_tokens, ya_reg, ya_heads, ya_tails, ya_text, ya_in, ya_image, dl_eo ya_spell k ya_out L, ya_label, ya_spell, ya_what, ya_which, ya_type, ya_num, ya_cell)) : ∀ f i, f + i = 4 →
    wY_atom_112 post yf_cap yf_limit yf_regs yf_length yf_fault (nI L) yf_top yf_tokens (f + 1) r (nI k) (nI i) ya_reg ya_heads ya_tails ya_text ya_in ya_image ya_out ya_label ya_spell ya_what ya_which ya_type ya_num ya_cell := by
  intro f
  induction f with
  | zero =>
    intro i h1
    have e : i = 4 := by omega
    subst e
    exact br_t (nI_le (a := 4) (by omega) (by omega)) (yw_ed hk hL h)
  | succ f ih =>
    intro i h1
    exact br_f (nI_ge (b := 4) (by omega) (by decide)) (br_t hr (nm_r (nI_1 i) (ih (i + 1) (by omega))))
theorem yw_name {post : SY → Prop} {L : Nat} (hL : L + 8 < 2 ^ 30) : ∀ f i r dg, f + i = 4 → post (yf_cap, yf_limit, yf_regs, yf_length, yf_fault, nI (L + (dl_md f i r dg).1), yf_top, yf_tokens, ya_reg, ya_heads, ya_tails, ya_text, ya_in, ya_image, dl_eo (dl_md f i r dg).2 (dl_md f i r dg).1 ya_out L, ya_label, (dl_md f i r dg).2, ya_what, ya_which, ya_type, ya_num, ya_cell) →
    wY_atom_112 post yf_cap yf_limit yf_regs yf_length yf_fault (nI L) yf_top yf_tokens (f + 1) r (nI i) (nI i) ya_reg ya_heads ya_tails ya_text ya_in ya_image ya_out ya_label dg ya_what ya_which ya_type ya_num ya_cell := by
  intro f
  induction f with
  | zero =>
    intro i r dg h1 h
    have e : i = 4 := by omega
    subst e
    exact br_t (nI_le (a := 4) (by omega) (by omega)) (yw_ed (by omega) hL h)
  | succ f ih =>
    intro i r dg h1 h
    by_cases c : r ≤ 0
    · rw [dl_md_n c] at h
      exact yw_nameB (by omega) hL c h (f + 1) i h1
    · rw [dl_md_s c] at h
      refine br_f (nI_ge (b := 4) (by omega) (by decide)) (br_f c ?_)
      rw [nI_clamp (n := i) (by omega)]
      exact ⟨by decide, vp_in_nI (by omega) (by decide), nm_e ⟨by decide, nm_e (nm_r (nI_1 i) (nm_r (nI_1 i) (ih (i + 1) _ _ (by omega) h)))⟩⟩
/-- a number: X's emitNumber and Y's atom write the same -/
theorem dl_number (x : Int32) (o dg : Nat → Int32) (L : Nat) : ∃ o' L' dg', L' ≤ L + 7 ∧ ∀ (hL : L + 12 < 2 ^ 30),
    (∀ {f_cap f_limit f_regs f_textLen f_fault f_found f_nextLabel f_frames f_nextValue f_scanType f_scanValue f_tokens f_place f_depth f_elems : Int32} {a_reg a_carOf a_cdrOf a_text a_seen a_queue a_edgeCount a_image a_origin a_labelOf a_frame a_frameTail a_tokType a_tokValue a_openFirst a_openTok a_lastElem a_inTail a_elemTok a_elemNext a_elemTail a_slot a_labelTok : Nat → Int32} (post : SX → Prop), post (f_cap, f_limit, f_regs, f_textLen, f_fault, f_found, nI L', f_nextLabel, f_frames, f_nextValue, f_scanType, f_scanValue, f_tokens, f_place, f_depth, f_elems, a_reg, a_carOf, a_cdrOf, a_text, a_seen, a_queue, a_edgeCount, a_image, a_origin, o', a_labelOf, a_frame, a_frameTail, dg', a_tokType, a_tokValue, a_openFirst, a_openTok, a_lastElem, a_inTail, a_elemTok, a_elemNext, a_elemTail, a_slot, a_labelTok) → wpX_emitNumber post (f_cap, f_limit, f_regs, f_textLen, f_fault, f_found, nI L, f_nextLabel, f_frames, f_nextValue, f_scanType, f_scanValue, f_tokens, f_place, f_depth, f_elems, a_reg, a_carOf, a_cdrOf, a_text, a_seen, a_queue, a_edgeCount, a_image, a_origin, o, a_labelOf, a_frame, a_frameTail, dg, a_tokType, a_tokValue, a_openFirst, a_openTok, a_lastElem, a_inTail, a_elemTok, a_elemNext, a_elemTail, a_slot, a_labelTok) x) ∧
    (∀ {yf_cap yf_limit yf_regs yf_length yf_fault yf_top yf_tokens : Int32} {ya_reg ya_heads ya_tails ya_text ya_in ya_image ya_label ya_what ya_which ya_type ya_num ya_cell : Nat → Int32} (post : SY → Prop) (v : Int32), ¬ v = 0 → v &&& 3 = 1 → v >>> ((2 : Int32) &&& 31) = x → post (yf_cap, yf_limit, yf_regs, yf_length, yf_fault, nI L', yf_top, yf_tokens, ya_reg, ya_heads, ya_tails, ya_text, ya_in, ya_image, o', ya_label, dg', ya_what, ya_which, ya_type, ya_num, ya_cell) → wpY_atom post (yf_cap, yf_limit, yf_regs, yf_length, yf_fault, nI L, yf_top, yf_tokens, ya_reg, ya_heads, ya_tails, ya_text, ya_in, ya_image, o, ya_label, dg, ya_what, ya_which, ya_type, ya_num, ya_cell) v) := by
  by_cases z : 0 ≤ x
  · refine ⟨dl_eo (dl_nd 6 0 x dg).2 (dl_nd 6 0 x dg).1 o L, L + (dl_nd 6 0 x dg).1, (dl_nd 6 0 x dg).2, by have := dl_ndL 6 0 x dg; omega, fun hL => ⟨?_, ?_⟩⟩
    · intros
      rename_i h
      unfold wpX_emitNumber
      exact br_t z ⟨7, xw_num (by omega) 6 0 x dg (by omega) h⟩
    · intros
      rename_i v h0 h1 h2 h
      unfold wpY_atom
      refine nm_r h2 (br_f h0 ?_)
      unfold wY_atom_16
      refine br_f h0 ?_
      unfold wY_atom_26
      refine br_t h1 (br_t z ?_)
      unfold wY_atom_43
      exact br_t z ⟨7, yw_num (by omega) 6 0 x dg (by omega) h⟩
  · refine ⟨dl_eo (dl_nd 6 0 (-x) dg).2 (dl_nd 6 0 (-x) dg).1 (dl_em o L 45) (L + 1), L + 1 + (dl_nd 6 0 (-x) dg).1, (dl_nd 6 0 (-x) dg).2, by have := dl_ndL 6 0 (-x) dg; omega, fun hL => ⟨?_, ?_⟩⟩
    · intros
      rename_i h
      unfold wpX_emitNumber
      refine br_f z (xw_emit (by omega) (nm_e ?_))
      exact ⟨7, xw_num (by omega) 6 0 (-x) dg (by omega) h⟩
    · intros
      rename_i v h0 h1 h2 h
      unfold wpY_atom
      refine nm_r h2 (br_f h0 ?_)
      unfold wY_atom_16
      refine br_f h0 ?_
      unfold wY_atom_26
      refine br_t h1 (br_f z (yw_emit (by omega) ?_))
      unfold wY_atom_43
      refine br_f z (nm_e ?_)
      exact ⟨7, yw_num (by omega) 6 0 (-x) dg (by omega) h⟩
theorem dl_kd (v : Int32) : v &&& 3 = 0 ∨ v &&& 3 = 1 ∨ v &&& 3 = 2 ∨ v &&& 3 = 3 := by
  obtain ⟨j, hj, e⟩ := pk_andE v (m := 3) 2 (by decide)
  rw [e]
  have : j = 0 ∨ j = 1 ∨ j = 2 ∨ j = 3 := by omega
  rcases this with h | h | h | h <;> subst h
  · exact Or.inl rfl
  · exact Or.inr (Or.inl rfl)
  · exact Or.inr (Or.inr (Or.inl rfl))
  · exact Or.inr (Or.inr (Or.inr rfl))
/-- an atom: X's writeValue and Y's atom write the same -/
theorem dl_atom {v : Int32} (hv : dl_V 48 v) (hn : ¬ v &&& 3 = 3) (o dg : Nat → Int32) (L : Nat) : ∃ o' L' dg', L' ≤ L + 7 ∧ ∀ (hL : L + 12 < 2 ^ 30),
    (∀ {f_cap f_limit f_regs f_textLen f_fault f_found f_nextLabel f_frames f_nextValue f_scanType f_scanValue f_tokens f_place f_depth f_elems : Int32} {a_reg a_carOf a_cdrOf a_text a_seen a_queue a_edgeCount a_image a_origin a_labelOf a_frame a_frameTail a_tokType a_tokValue a_openFirst a_openTok a_lastElem a_inTail a_elemTok a_elemNext a_elemTail a_slot a_labelTok : Nat → Int32} (post : Int32 → SX → Prop), post 0 (f_cap, f_limit, f_regs, f_textLen, f_fault, f_found, nI L', f_nextLabel, f_frames, f_nextValue, f_scanType, f_scanValue, f_tokens, f_place, f_depth, f_elems, a_reg, a_carOf, a_cdrOf, a_text, a_seen, a_queue, a_edgeCount, a_image, a_origin, o', a_labelOf, a_frame, a_frameTail, dg', a_tokType, a_tokValue, a_openFirst, a_openTok, a_lastElem, a_inTail, a_elemTok, a_elemNext, a_elemTail, a_slot, a_labelTok) → wpX_writeValue post (f_cap, f_limit, f_regs, f_textLen, f_fault, f_found, nI L, f_nextLabel, f_frames, f_nextValue, f_scanType, f_scanValue, f_tokens, f_place, f_depth, f_elems, a_reg, a_carOf, a_cdrOf, a_text, a_seen, a_queue, a_edgeCount, a_image, a_origin, o, a_labelOf, a_frame, a_frameTail, dg, a_tokType, a_tokValue, a_openFirst, a_openTok, a_lastElem, a_inTail, a_elemTok, a_elemNext, a_elemTail, a_slot, a_labelTok) v) ∧
    (∀ {yf_cap yf_limit yf_regs yf_length yf_fault yf_top yf_tokens : Int32} {ya_reg ya_heads ya_tails ya_text ya_in ya_image ya_label ya_what ya_which ya_type ya_num ya_cell : Nat → Int32} (post : SY → Prop), post (yf_cap, yf_limit, yf_regs, yf_length, yf_fault, nI L', yf_top, yf_tokens, ya_reg, ya_heads, ya_tails, ya_text, ya_in, ya_image, o', ya_label, dg', ya_what, ya_which, ya_type, ya_num, ya_cell) → wpY_atom post (yf_cap, yf_limit, yf_regs, yf_length, yf_fault, nI L, yf_top, yf_tokens, ya_reg, ya_heads, ya_tails, ya_text, ya_in, ya_image, o, ya_label, dg, ya_what, ya_which, ya_type, ya_num, ya_cell) v) := by
  rcases dl_kd v with k | k | k | k
  · have e := hv.1 k
    subst e
    refine ⟨dl_em (dl_em o L 40) (L + 1) 41, L + 2, dg, by omega, fun hL => ⟨?_, ?_⟩⟩
    · intros
      rename_i h
      unfold wpX_writeValue
      refine nm_r k (br_t rfl ?_)
      exact xw_emit (by omega) (xw_emit (by omega) h)
    · intros
      rename_i h
      unfold wpY_atom
      refine nm_e (br_t rfl (yw_emit (by omega) ?_))
      try dsimp only
      unfold wY_atom_16
      refine br_t rfl (yw_emit (by omega) ?_)
      try dsimp only
      unfold wY_atom_26
      refine br_f (by decide) (br_f (by decide) ?_)
      exact yw_ed (k := 0) (L := L + 1 + 1) (by omega) (by omega) h
  · have v0 : ¬ v = 0 := fun e => by subst e; exact absurd k (by decide)
    obtain ⟨o', L', dg', l1, H⟩ := dl_number (v >>> ((2 : Int32) &&& 31)) o dg L
    refine ⟨o', L', dg', l1, fun hL => ⟨?_, ?_⟩⟩
    · intros
      rename_i h
      unfold wpX_writeValue
      refine nm_r k (br_f (by decide) (br_t rfl ?_))
      exact (H hL).1 _ h
    · intros
      rename_i h
      exact (H hL).2 _ v v0 k rfl h
  · have v0 : ¬ v = 0 := fun e => by subst e; exact absurd k (by decide)
    have x := v >>> ((2 : Int32) &&& 31)
    refine ⟨dl_eo (dl_md 4 0 (v >>> ((2 : Int32) &&& 31)) dg).2 (dl_md 4 0 (v >>> ((2 : Int32) &&& 31)) dg).1 o L, L + (dl_md 4 0 (v >>> ((2 : Int32) &&& 31)) dg).1, (dl_md 4 0 (v >>> ((2 : Int32) &&& 31)) dg).2, by have := dl_mdL 4 0 (v >>> ((2 : Int32) &&& 31)) dg; omega, fun hL => ⟨?_, ?_⟩⟩
    · intros
      rename_i h
      unfold wpX_writeValue
      refine nm_r k (br_f (by decide) (br_f (by decide) (br_t rfl ?_)))
      exact ⟨5, xw_name (by omega) 4 0 _ dg (by omega) h⟩
    · intros
      rename_i h
      unfold wpY_atom
      refine nm_e (br_f v0 ?_)
      unfold wY_atom_16
      refine br_f v0 ?_
      unfold wY_atom_26
      refine br_f (by rw [k]; decide) (br_t k ?_)
      exact ⟨5, yw_name (by omega) 4 0 _ dg (by omega) h⟩
  · exact absurd k hn
end
end DLEMIT
end
section
section DLPS
variable {car cdr inn : Nat → Int32} {v0 nv : Int32} {op : Nat → Nat} {lb fr ft wh wc wc' : Nat → Int32} {g d p b k : Nat}
def dl_op (op : Nat → Nat) (p : Nat) : Nat → Nat := fun x => if x = p then 1 else op x
def dl_un (car cdr inn : Nat → Int32) (op : Nat → Nat) (p q : Nat) : Nat := if inn q = 0 then 0 else if op q = 0 then dl_ed car cdr p q else 0
/-- the edges not used yet: those on the stack and those of pairs not opened -/
def dl_Ph (car cdr inn : Nat → Int32) (v0 : Int32) (op : Nat → Nat) (k : Nat) (wc : Nat → Int32) : Prop :=
  ∀ p, p < 48 → dl_sm (fun i => dl_eq (wc i) p) k + dl_sm (dl_un car cdr inn op p) 48 + op p ≤ dl_E car cdr inn v0 p
theorem dl_ph0 (h : ∀ p, op p = 0) (hw : wc 0 = v0) : dl_Ph car cdr inn v0 op 1 wc := by
  intro p hp
  have e1 : dl_sm (fun i => dl_eq (wc i) p) 1 = dl_eq v0 p := by
    show 0 + dl_eq (wc 0) p = dl_eq v0 p
    rw [hw, Nat.zero_add]
  have e2 : dl_sm (dl_un car cdr inn op p) 48 = dl_sm (fun q => if inn q = 0 then 0 else dl_ed car cdr p q) 48 := by
    apply dl_smC
    intro i _
    unfold dl_un
    rw [if_pos (h i)]
  rw [e1, e2, h p]
  exact Nat.le_refl _
theorem dl_phC (h : ∀ i, i < k → wc' i = wc i) (H : dl_Ph car cdr inn v0 op k wc) : dl_Ph car cdr inn v0 op k wc' := by
  intro p hp
  rw [dl_smC (g := fun i => dl_eq (wc' i) p) (g' := fun i => dl_eq (wc i) p) k (fun i hi => by (try dsimp only); rw [h i hi])]
  exact H p hp
theorem dl_phPop (H : dl_Ph car cdr inn v0 op (k + 1) wc) : dl_Ph car cdr inn v0 op k wc := by
  intro p hp
  have := H p hp
  rw [dl_smS] at this
  omega
theorem dl_eq0 (p : Nat) (hp : p < 48) : dl_eq 0 p = 0 := if_neg (fun e => by
  have := dl_pvA p hp
  rw [← e] at this
  exact absurd this (by decide))
theorem dl_phDot {t : Int32} (H : dl_Ph car cdr inn v0 op (b + 1) wc) (hb : wc b = t) (h : ∀ i, i < b → wc' i = wc i) (h0 : wc' b = 0) (h1 : wc' (b + 1) = t) : dl_Ph car cdr inn v0 op (b + 2) wc' := by
  intro p hp
  have := H p hp
  have e := dl_smC (g := fun i => dl_eq (wc' i) p) (g' := fun i => dl_eq (wc i) p) b (fun i hi => by (try dsimp only); rw [h i hi])
  rw [dl_smS, hb] at this
  rw [dl_smS, dl_smS, e, h0, h1, dl_eq0 p hp]
  omega
theorem dl_phO (H : dl_Ph car cdr inn v0 op (b + 1) wc) (hp : p < 48) (hb : wc b = dl_pv p) (hi : ¬ inn p = 0) (ho : op p = 0) (h : ∀ i, i < b → wc' i = wc i) (h0 : wc' b = cdr p) (h1 : wc' (b + 1) = car p) :
    dl_Ph car cdr inn v0 (dl_op op p) (b + 2) wc' := by
  intro p' hp'
  have H1 := H p' hp'
  have e := dl_smC (g := fun i => dl_eq (wc' i) p') (g' := fun i => dl_eq (wc i) p') b (fun i hi => by (try dsimp only); rw [h i hi])
  rw [dl_smS, hb, dl_eqP hp hp'] at H1
  rw [dl_smS, dl_smS, e, h0, h1]
  have u := dl_smU (g := dl_un car cdr inn op p') (g' := dl_un car cdr inn (dl_op op p) p') (p := p) 48 hp (fun i _ hn => by
    unfold dl_un dl_op
    rw [if_neg hn])
  have u1 : dl_un car cdr inn op p' p = dl_eq (car p) p' + dl_eq (cdr p) p' := by
    unfold dl_un dl_ed
    rw [if_neg hi, if_pos ho]
  have u2 : dl_un car cdr inn (dl_op op p) p' p = 0 := by
    unfold dl_un dl_op
    rw [if_neg hi, if_pos rfl]
    rfl
  rw [u1, u2] at u
  unfold dl_op
  by_cases z : p' = p
  · rw [if_pos z] at H1 ⊢
    rw [z] at H1 ⊢
    rw [ho] at H1
    rw [z] at u
    unfold dl_op at u
    omega
  · rw [if_neg z] at H1 ⊢
    unfold dl_op at u
    omega
theorem dl_op0 (H : dl_Ph car cdr inn v0 op (b + 1) wc) (hp : p < 48) (hb : wc b = dl_pv p) (hE : dl_E car cdr inn v0 p < 2) : op p = 0 := by
  have H1 := H p hp
  rw [dl_smS, hb, dl_eqP hp hp, if_pos rfl] at H1
  omega
def dl_Op (op : Nat → Nat) (d g : Nat) : Prop := (∀ p, p < 48 → op p ≤ 1) ∧ d ≤ dl_sm op 48 ∧ g ≤ dl_sm op 48
theorem dl_opL (H : dl_Op op d g) (hp : p < 48) (ho : op p = 0) : dl_sm op 48 < 48 := dl_smL 48 H.1 hp ho
theorem dl_opS (hp : p < 48) (ho : op p = 0) : dl_sm (dl_op op p) 48 = dl_sm op 48 + 1 := by
  have u := dl_smU (g := op) (g' := dl_op op p) (p := p) 48 hp (fun i _ hn => if_neg hn)
  have e : dl_op op p p = 1 := if_pos rfl
  omega
theorem dl_opB (H : dl_Op op d g) : ∀ q, q < 48 → dl_op op p q ≤ 1 := by
  intro q hq
  unfold dl_op
  split
  · omega
  · exact H.1 q hq
theorem dl_opM (H : dl_Op op d g) : d ≤ 48 ∧ g ≤ 48 := by
  have := dl_smB (g := op) (c := 1) 48 H.1
  have := H.2
  omega
def dl_Fx (cdr : Nat → Int32) (d : Nat) (fr ft wh wc : Nat → Int32) : Prop :=
  ∀ i, i < d → ∃ p, p < 48 ∧ fr i = nI p ∧ ((ft i = 0 ∧ wh i = 116 ∧ wc i = cdr p) ∨ (ft i = 1 ∧ wh i = 41 ∧ wc i = 0))
theorem dl_fxC {fr' ft' wh' : Nat → Int32} (H : dl_Fx cdr d fr ft wh wc) (hb : b ≤ d) (h : ∀ i, i < b → fr' i = fr i ∧ ft' i = ft i ∧ wh' i = wh i ∧ wc' i = wc i) : dl_Fx cdr b fr' ft' wh' wc' := by
  intro i hi
  obtain ⟨a1, a2, a3, a4⟩ := h i hi
  rw [a1, a2, a3, a4]
  exact H i (by omega)
theorem dl_fxS (H : dl_Fx cdr b fr ft wh wc) (hp : p < 48) (h1 : fr b = nI p) (h2 : (ft b = 0 ∧ wh b = 116 ∧ wc b = cdr p) ∨ (ft b = 1 ∧ wh b = 41 ∧ wc b = 0)) : dl_Fx cdr (b + 1) fr ft wh wc := by
  intro i hi
  by_cases e : i = b
  · subst e; exact ⟨p, hp, h1, h2⟩
  · exact H i (by omega)
def dl_Wv (inn : Nat → Int32) (k : Nat) (wc : Nat → Int32) : Prop := ∀ i, i < k → dl_V 48 (wc i) ∧ ∀ p, p < 48 → wc i = dl_pv p → inn p = 1
theorem dl_wvC (H : dl_Wv inn k wc) (hb : b ≤ k) (h : ∀ i, i < b → wc' i = wc i) : dl_Wv inn b wc' := by
  intro i hi
  rw [h i hi]; exact H i (by omega)
theorem dl_wvS (H : dl_Wv inn b wc) (h1 : dl_V 48 (wc b)) (h2 : ∀ p, p < 48 → wc b = dl_pv p → inn p = 1) : dl_Wv inn (b + 1) wc := by
  intro i hi
  by_cases e : i = b
  · subst e; exact ⟨h1, h2⟩
  · exact H i (by omega)
def dl_Lb (car cdr inn : Nat → Int32) (v0 : Int32) (op : Nat → Nat) (lb : Nat → Int32) : Prop :=
  (∀ p, p < 48 → lb p = -1 ∨ ∃ l, l < 48 ∧ lb p = nI l) ∧ (∀ p, p < 48 → 2 ≤ dl_E car cdr inn v0 p → lb p = -1 → op p = 0)
theorem dl_lbO (H : dl_Lb car cdr inn v0 op lb) (hE : dl_E car cdr inn v0 p < 2) : dl_Lb car cdr inn v0 (dl_op op p) lb := by
  refine ⟨H.1, fun q hq h2 h => ?_⟩
  have : ¬ q = p := fun e => by rw [e] at h2; omega
  unfold dl_op
  rw [if_neg this]
  exact H.2 q hq h2 h
theorem dl_lbU (H : dl_Lb car cdr inn v0 op lb) (hg : g < 48) : dl_Lb car cdr inn v0 (dl_op op p) (upd lb p (nI g)) := by
  refine ⟨fun q hq => ?_, fun q hq h2 h => ?_⟩
  · by_cases e : q = p
    · rw [e, pk_us]; exact Or.inr ⟨g, hg, rfl⟩
    · rw [pk_un e]; exact H.1 q hq
  · by_cases e : q = p
    · rw [e, pk_us] at h; exact absurd h (dl_nm1 (by omega))
    · rw [pk_un e] at h
      unfold dl_op
      rw [if_neg e]
      exact H.2 q hq h2 h
/-- the state of both printers -/
def dl_PS (car cdr inn : Nat → Int32) (v0 : Int32) (op : Nat → Nat) (lb : Nat → Int32) (g d pend : Nat) (nv : Int32) (fr ft wh wc : Nat → Int32) : Prop :=
  dl_Op op d g ∧ dl_Ph car cdr inn v0 op (d + pend) wc ∧ dl_Lb car cdr inn v0 op lb ∧ dl_Fx cdr d fr ft wh wc ∧ dl_Wv inn (d + pend) wc ∧ (pend = 0 ∨ (pend = 1 ∧ wh d = 118 ∧ wc d = nv))
/-- a value is gone -/
theorem dl_psA (P : dl_PS car cdr inn v0 op lb g d 1 nv fr ft wh wc) : dl_PS car cdr inn v0 op lb g d 0 nv fr ft wh wc := by
  obtain ⟨a, b, c, e, f, _⟩ := P
  exact ⟨a, dl_phPop b, c, e, dl_wvC f (by omega) (fun _ _ => rfl), Or.inl rfl⟩
/-- a body ends -/
theorem dl_psE (P : dl_PS car cdr inn v0 op lb g (d + 1) 0 nv fr ft wh wc) : dl_PS car cdr inn v0 op lb g d 0 nv fr ft wh wc := by
  obtain ⟨a, b, c, e, f, _⟩ := P
  exact ⟨⟨a.1, by have := a.2.1; omega, a.2.2⟩, dl_phPop b, c, dl_fxC e (by omega) (fun _ _ => ⟨rfl, rfl, rfl, rfl⟩), dl_wvC f (by omega) (fun _ _ => rfl), Or.inl rfl⟩
theorem dl_u2a {a : Nat → Int32} {x y : Int32} {i : Nat} (h : i < b) : upd (upd a b x) (b + 1) y i = a i := by rw [pk_un (by omega), pk_un (by omega)]
theorem dl_u2b {a : Nat → Int32} {x y : Int32} : upd (upd a b x) (b + 1) y b = x := by rw [pk_un (by omega), pk_us]
/-- a pair p is opened as a value: the item at b = d becomes its tail and its head -/
theorem dl_psB {lb' : Nat → Int32} {g' : Nat} (P : dl_PS car cdr inn v0 op lb g d 1 nv fr ft wh wc) (hp : p < 48) (e : nv = dl_pv p) (ho : op p = 0) (hc : dl_V 48 (car p)) (hd : dl_V 48 (cdr p))
    (hC : inn p = 1 → ∀ q, q < 48 → (car p = dl_pv q ∨ cdr p = dl_pv q) → inn q = 1) (hg : g' ≤ g + 1) (hl : dl_Lb car cdr inn v0 (dl_op op p) lb') :
    dl_PS car cdr inn v0 (dl_op op p) lb' g' (d + 1) 1 (car p) (upd fr d (nI p)) (upd ft d 0) (upd (upd wh d 116) (d + 1) 118) (upd (upd wc d (cdr p)) (d + 1) (car p)) := by
  obtain ⟨A, B, C, E, F, G⟩ := P
  have G : wh d = 118 ∧ wc d = nv := by
    rcases G with G | G
    · omega
    · exact G.2
  have i1 : inn p = 1 := (F d (by omega)).2 p hp (by rw [G.2, e])
  have hS := dl_opS hp ho
  refine ⟨⟨dl_opB A, by have := A.2; omega, by have := A.2; omega⟩, ?_, hl, ?_, ?_, Or.inr ⟨rfl, pk_us, pk_us⟩⟩
  · exact dl_phO B hp (by rw [G.2, e]) (by rw [i1]; decide) ho (fun i hi => dl_u2a hi) dl_u2b pk_us
  · refine dl_fxS (dl_fxC E (Nat.le_refl _) (fun i hi => ⟨pk_un (by omega), pk_un (by omega), dl_u2a hi, dl_u2a hi⟩)) hp pk_us (Or.inl ⟨pk_us, dl_u2b, dl_u2b⟩)
  · refine dl_wvS (dl_wvS (dl_wvC F (b := d) (by omega) (fun i hi => dl_u2a hi)) ?_ ?_) ?_ ?_
    · rw [dl_u2b]; exact hd
    · intro q hq h
      rw [dl_u2b] at h
      exact hC i1 q hq (Or.inr h)
    · rw [pk_us]; exact hc
    · intro q hq h
      rw [pk_us] at h
      exact hC i1 q hq (Or.inl h)
/-- a pair p is opened as the rest of a body: the item at b = d - 1 -/
theorem dl_psF (P : dl_PS car cdr inn v0 op lb g (d + 1) 0 nv fr ft wh wc) (hp : p < 48) (e : wc d = dl_pv p) (h0 : ft d = 0) (ho : op p = 0) (hc : dl_V 48 (car p)) (hd : dl_V 48 (cdr p))
    (hC : inn p = 1 → ∀ q, q < 48 → (car p = dl_pv q ∨ cdr p = dl_pv q) → inn q = 1) (hE : dl_E car cdr inn v0 p < 2) :
    dl_PS car cdr inn v0 (dl_op op p) lb g (d + 1) 1 (car p) (upd fr d (nI p)) ft (upd (upd wh d 116) (d + 1) 118) (upd (upd wc d (cdr p)) (d + 1) (car p)) := by
  obtain ⟨A, B, C, E, F, _⟩ := P
  have i1 : inn p = 1 := (F d (by omega)).2 p hp e
  have hS := dl_opS hp ho
  refine ⟨⟨dl_opB A, by have := A.2; omega, by have := A.2; omega⟩, ?_, dl_lbO C hE, ?_, ?_, Or.inr ⟨rfl, pk_us, pk_us⟩⟩
  · exact dl_phO B hp e (by rw [i1]; decide) ho (fun i hi => dl_u2a hi) dl_u2b pk_us
  · refine dl_fxS (dl_fxC E (b := d) (by omega) (fun i hi => ⟨pk_un (by omega), rfl, dl_u2a hi, dl_u2a hi⟩)) hp pk_us (Or.inl ⟨h0, dl_u2b, dl_u2b⟩)
  · refine dl_wvS (dl_wvS (dl_wvC F (b := d) (by omega) (fun i hi => dl_u2a hi)) ?_ ?_) ?_ ?_
    · rw [dl_u2b]; exact hd
    · intro q hq h
      rw [dl_u2b] at h
      exact hC i1 q hq (Or.inr h)
    · rw [pk_us]; exact hc
    · intro q hq h
      rw [pk_us] at h
      exact hC i1 q hq (Or.inl h)
/-- a dotted tail begins -/
theorem dl_psG {t : Int32} (P : dl_PS car cdr inn v0 op lb g (d + 1) 0 nv fr ft wh wc) (e : wc d = t) :
    dl_PS car cdr inn v0 op lb g (d + 1) 1 t fr (upd ft d 1) (upd (upd wh d 41) (d + 1) 118) (upd (upd wc d 0) (d + 1) t) := by
  obtain ⟨A, B, C, E, F, _⟩ := P
  obtain ⟨p, hp, e1, _⟩ := E d (by omega)
  refine ⟨A, ?_, C, ?_, ?_, Or.inr ⟨rfl, pk_us, pk_us⟩⟩
  · exact dl_phDot B e (fun i hi => dl_u2a hi) dl_u2b pk_us
  · refine dl_fxS (dl_fxC E (b := d) (by omega) (fun i hi => ⟨rfl, pk_un (by omega), dl_u2a hi, dl_u2a hi⟩)) hp e1 (Or.inr ⟨pk_us, dl_u2b, dl_u2b⟩)
  · refine dl_wvS (dl_wvS (dl_wvC F (b := d) (by omega) (fun i hi => dl_u2a hi)) ?_ ?_) ?_ ?_
    · rw [dl_u2b]; exact dl_V0 48
    · intro q hq h
      rw [dl_u2b] at h
      have := dl_pvA q hq
      rw [← h] at this
      exact absurd this (by decide)
    · rw [pk_us, ← e]; exact (F d (by omega)).1
    · intro q hq h
      rw [pk_us, ← e] at h
      exact (F d (by omega)).2 q hq h
end DLPS
end
section
section DLPW
theorem dl_lab : ∀ l, l < 48 → ¬ nI l * 4 + 1 = 0 ∧ (nI l * 4 + 1) &&& 3 = 1 ∧ (nI l * 4 + 1) >>> ((2 : Int32) &&& 31) = nI l := by decide +kernel
section
variable {f_cap f_limit f_regs f_textLen f_fault f_found f_outLen f_nextLabel f_frames f_nextValue f_scanType f_scanValue f_tokens f_place f_depth f_elems : Int32} {a_reg a_carOf a_cdrOf a_text a_seen a_queue a_edgeCount a_image a_origin a_out a_labelOf a_frame a_frameTail a_digits a_tokType a_tokValue a_openFirst a_openTok a_lastElem a_inTail a_elemTok a_elemNext a_elemTail a_slot a_labelTok : Nat → Int32}
theorem xp_open {post : Int32 → SX → Prop} {L d p : Nat} (hL : L < 2 ^ 30) (hd : d < 48) (hp : p < 48) (h : post 1 (f_cap, f_limit, f_regs, f_textLen, f_fault, f_found, nI (L + 1), f_nextLabel, nI (d + 1), a_carOf p, f_scanType, f_scanValue, f_tokens, f_place, f_depth, f_elems, a_reg, a_carOf, a_cdrOf, a_text, a_seen, a_queue, a_edgeCount, a_image, a_origin, dl_em a_out L 40, a_labelOf, upd a_frame d (nI p), upd a_frameTail d 0, a_digits, a_tokType, a_tokValue, a_openFirst, a_openTok, a_lastElem, a_inTail, a_elemTok, a_elemNext, a_elemTail, a_slot, a_labelTok)) : wpX_openBody post (f_cap, f_limit, f_regs, f_textLen, f_fault, f_found, nI L, f_nextLabel, nI d, f_nextValue, f_scanType, f_scanValue, f_tokens, f_place, f_depth, f_elems, a_reg, a_carOf, a_cdrOf, a_text, a_seen, a_queue, a_edgeCount, a_image, a_origin, a_out, a_labelOf, a_frame, a_frameTail, a_digits, a_tokType, a_tokValue, a_openFirst, a_openTok, a_lastElem, a_inTail, a_elemTok, a_elemNext, a_elemTail, a_slot, a_labelTok) (nI p) := by
  unfold wpX_openBody
  refine br_t (nI_lt (b := 48) hd (by decide)) (xw_emit hL ?_)
  exact And.intro (vp_in_nI hd (by decide)) (nm_r (e' := upd a_frame d (nI p)) (by rw [nI_clamp (by omega)]) ⟨vp_in_nI hd (by decide), nm_r (e' := upd a_frameTail d 0) (by rw [nI_clamp (by omega), dl_b0]) (nm_r (nI_1 d) ⟨vp_in_nI hp (by decide), nm_r (e' := a_carOf p) (by rw [nI_clamp (by omega)]) h⟩)⟩)
theorem xp_133 {post : Int32 → SX → Prop} {L d p : Nat} (hL : L < 2 ^ 30) (hd : d < 48) (hp : p < 48) (h : post 1 (f_cap, f_limit, f_regs, f_textLen, f_fault, f_found, nI (L + 1), f_nextLabel, nI (d + 1), a_carOf p, f_scanType, f_scanValue, f_tokens, f_place, f_depth, f_elems, a_reg, a_carOf, a_cdrOf, a_text, a_seen, a_queue, a_edgeCount, a_image, a_origin, dl_em a_out L 40, a_labelOf, upd a_frame d (nI p), upd a_frameTail d 0, a_digits, a_tokType, a_tokValue, a_openFirst, a_openTok, a_lastElem, a_inTail, a_elemTok, a_elemNext, a_elemTail, a_slot, a_labelTok)) : wX_writeValue_133 post (nI p) f_cap f_limit f_regs f_textLen f_fault f_found (nI L) f_nextLabel (nI d) f_nextValue f_scanType f_scanValue f_tokens f_place f_depth f_elems a_reg a_carOf a_cdrOf a_text a_seen a_queue a_edgeCount a_image a_origin a_out a_labelOf a_frame a_frameTail a_digits a_tokType a_tokValue a_openFirst a_openTok a_lastElem a_inTail a_elemTok a_elemNext a_elemTail a_slot a_labelTok := by
  unfold wX_writeValue_133
  exact xp_open hL hd hp (And.intro narrow_b1 h)
theorem xp_B {post : Int32 → SX → Prop} {L d p e : Nat} (hL : L < 2 ^ 30) (hd : d < 48) (hp : p < 48) (he : a_edgeCount p = nI e) (he2 : e < 2) (h : post 1 (f_cap, f_limit, f_regs, f_textLen, f_fault, f_found, nI (L + 1), f_nextLabel, nI (d + 1), a_carOf p, f_scanType, f_scanValue, f_tokens, f_place, f_depth, f_elems, a_reg, a_carOf, a_cdrOf, a_text, a_seen, a_queue, a_edgeCount, a_image, a_origin, dl_em a_out L 40, a_labelOf, upd a_frame d (nI p), upd a_frameTail d 0, a_digits, a_tokType, a_tokValue, a_openFirst, a_openTok, a_lastElem, a_inTail, a_elemTok, a_elemNext, a_elemTail, a_slot, a_labelTok)) : wpX_writeValue post (f_cap, f_limit, f_regs, f_textLen, f_fault, f_found, nI L, f_nextLabel, nI d, f_nextValue, f_scanType, f_scanValue, f_tokens, f_place, f_depth, f_elems, a_reg, a_carOf, a_cdrOf, a_text, a_seen, a_queue, a_edgeCount, a_image, a_origin, a_out, a_labelOf, a_frame, a_frameTail, a_digits, a_tokType, a_tokValue, a_openFirst, a_openTok, a_lastElem, a_inTail, a_elemTok, a_elemNext, a_elemTail, a_slot, a_labelTok) (dl_pv p) := by
  unfold wpX_writeValue
  refine nm_r (dl_pvA p hp) (br_f (by decide) (br_f (by decide) (br_f (by decide) (nm_r (dl_pvS p hp) ⟨vp_in_nI hp (by decide), ?_⟩))))
  rw [nI_clamp (n := p) (by omega), he]
  exact br_t (nI_lt (b := 2) he2 (by decide)) (xp_133 hL hd hp h)
theorem xp_C {post : Int32 → SX → Prop} {L L2 d p e g : Nat} {o2 dg2 : Nat → Int32} (hL : L < 2 ^ 29) (hL2 : L2 < 2 ^ 29) (hd : d < 48) (hp : p < 48) (he : a_edgeCount p = nI e) (he97 : e ≤ 97) (he2 : 2 ≤ e) (hl : a_labelOf p = -1)
    (N : ∀ post : SX → Prop, post (f_cap, f_limit, f_regs, f_textLen, f_fault, f_found, nI L2, nI (g + 1), nI d, f_nextValue, f_scanType, f_scanValue, f_tokens, f_place, f_depth, f_elems, a_reg, a_carOf, a_cdrOf, a_text, a_seen, a_queue, a_edgeCount, a_image, a_origin, o2, upd a_labelOf p (nI g), a_frame, a_frameTail, dg2, a_tokType, a_tokValue, a_openFirst, a_openTok, a_lastElem, a_inTail, a_elemTok, a_elemNext, a_elemTail, a_slot, a_labelTok) → wpX_emitNumber post (f_cap, f_limit, f_regs, f_textLen, f_fault, f_found, nI (L + 1), nI (g + 1), nI d, f_nextValue, f_scanType, f_scanValue, f_tokens, f_place, f_depth, f_elems, a_reg, a_carOf, a_cdrOf, a_text, a_seen, a_queue, a_edgeCount, a_image, a_origin, dl_em a_out L 35, upd a_labelOf p (nI g), a_frame, a_frameTail, a_digits, a_tokType, a_tokValue, a_openFirst, a_openTok, a_lastElem, a_inTail, a_elemTok, a_elemNext, a_elemTail, a_slot, a_labelTok) (nI g))
    (h : post 1 (f_cap, f_limit, f_regs, f_textLen, f_fault, f_found, nI (L2 + 2), nI (g + 1), nI (d + 1), a_carOf p, f_scanType, f_scanValue, f_tokens, f_place, f_depth, f_elems, a_reg, a_carOf, a_cdrOf, a_text, a_seen, a_queue, a_edgeCount, a_image, a_origin, dl_em (dl_em o2 L2 61) (L2 + 1) 40, upd a_labelOf p (nI g), upd a_frame d (nI p), upd a_frameTail d 0, dg2, a_tokType, a_tokValue, a_openFirst, a_openTok, a_lastElem, a_inTail, a_elemTok, a_elemNext, a_elemTail, a_slot, a_labelTok)) :
    wpX_writeValue post (f_cap, f_limit, f_regs, f_textLen, f_fault, f_found, nI L, nI g, nI d, f_nextValue, f_scanType, f_scanValue, f_tokens, f_place, f_depth, f_elems, a_reg, a_carOf, a_cdrOf, a_text, a_seen, a_queue, a_edgeCount, a_image, a_origin, a_out, a_labelOf, a_frame, a_frameTail, a_digits, a_tokType, a_tokValue, a_openFirst, a_openTok, a_lastElem, a_inTail, a_elemTok, a_elemNext, a_elemTail, a_slot, a_labelTok) (dl_pv p) := by
  unfold wpX_writeValue
  refine nm_r (dl_pvA p hp) (br_f (by decide) (br_f (by decide) (br_f (by decide) (nm_r (dl_pvS p hp) ⟨vp_in_nI hp (by decide), ?_⟩))))
  rw [nI_clamp (n := p) (by omega), he]
  refine br_f (nI_nlt (b := 2) he2 (by omega)) (xw_emit (by omega) ?_)
  refine And.intro (vp_in_nI hp (by decide)) (br_t (by rw [hl]; decide) ⟨vp_in_nI hp (by decide), nm_e (nm_r (nI_1 g) ⟨vp_in_nI hp (by decide), ?_⟩)⟩)
  rw [pk_us]
  refine N _ (xw_emit (by omega) ?_)
  exact xp_133 (by omega) hd hp h
theorem xp_D {post : Int32 → SX → Prop} {L L2 p e l : Nat} {o2 dg2 : Nat → Int32} (hL : L < 2 ^ 29) (hL2 : L2 < 2 ^ 29) (hp : p < 48) (he : a_edgeCount p = nI e) (he97 : e ≤ 97) (he2 : 2 ≤ e) (hl : a_labelOf p = nI l) (hl48 : l < 48)
    (N : ∀ post : SX → Prop, post (f_cap, f_limit, f_regs, f_textLen, f_fault, f_found, nI L2, f_nextLabel, f_frames, f_nextValue, f_scanType, f_scanValue, f_tokens, f_place, f_depth, f_elems, a_reg, a_carOf, a_cdrOf, a_text, a_seen, a_queue, a_edgeCount, a_image, a_origin, o2, a_labelOf, a_frame, a_frameTail, dg2, a_tokType, a_tokValue, a_openFirst, a_openTok, a_lastElem, a_inTail, a_elemTok, a_elemNext, a_elemTail, a_slot, a_labelTok) → wpX_emitNumber post (f_cap, f_limit, f_regs, f_textLen, f_fault, f_found, nI (L + 1), f_nextLabel, f_frames, f_nextValue, f_scanType, f_scanValue, f_tokens, f_place, f_depth, f_elems, a_reg, a_carOf, a_cdrOf, a_text, a_seen, a_queue, a_edgeCount, a_image, a_origin, dl_em a_out L 35, a_labelOf, a_frame, a_frameTail, a_digits, a_tokType, a_tokValue, a_openFirst, a_openTok, a_lastElem, a_inTail, a_elemTok, a_elemNext, a_elemTail, a_slot, a_labelTok) (nI l))
    (h : post 0 (f_cap, f_limit, f_regs, f_textLen, f_fault, f_found, nI (L2 + 1), f_nextLabel, f_frames, f_nextValue, f_scanType, f_scanValue, f_tokens, f_place, f_depth, f_elems, a_reg, a_carOf, a_cdrOf, a_text, a_seen, a_queue, a_edgeCount, a_image, a_origin, dl_em o2 L2 35, a_labelOf, a_frame, a_frameTail, dg2, a_tokType, a_tokValue, a_openFirst, a_openTok, a_lastElem, a_inTail, a_elemTok, a_elemNext, a_elemTail, a_slot, a_labelTok)) :
    wpX_writeValue post (f_cap, f_limit, f_regs, f_textLen, f_fault, f_found, nI L, f_nextLabel, f_frames, f_nextValue, f_scanType, f_scanValue, f_tokens, f_place, f_depth, f_elems, a_reg, a_carOf, a_cdrOf, a_text, a_seen, a_queue, a_edgeCount, a_image, a_origin, a_out, a_labelOf, a_frame, a_frameTail, a_digits, a_tokType, a_tokValue, a_openFirst, a_openTok, a_lastElem, a_inTail, a_elemTok, a_elemNext, a_elemTail, a_slot, a_labelTok) (dl_pv p) := by
  unfold wpX_writeValue
  refine nm_r (dl_pvA p hp) (br_f (by decide) (br_f (by decide) (br_f (by decide) (nm_r (dl_pvS p hp) ⟨vp_in_nI hp (by decide), ?_⟩))))
  rw [nI_clamp (n := p) (by omega), he]
  refine br_f (nI_nlt (b := 2) he2 (by omega)) (xw_emit (by omega) ?_)
  refine And.intro (vp_in_nI hp (by decide)) (br_f (by rw [hl]; exact nI_pos (by omega)) ⟨vp_in_nI hp (by decide), ?_⟩)
  rw [hl]
  refine N _ (xw_emit (by omega) ?_)
  exact h
theorem xp_E {post : Int32 → SX → Prop} {L d p : Nat} (hL : L < 2 ^ 29) (hd : d < 48) (hp : p < 48) (hf : a_frame d = nI p) (hz : ¬ a_frameTail d = 0 ∨ a_cdrOf p = 0) (h : post 0 (f_cap, f_limit, f_regs, f_textLen, f_fault, f_found, nI (L + 1), f_nextLabel, nI d, f_nextValue, f_scanType, f_scanValue, f_tokens, f_place, f_depth, f_elems, a_reg, a_carOf, a_cdrOf, a_text, a_seen, a_queue, a_edgeCount, a_image, a_origin, dl_em a_out L 41, a_labelOf, a_frame, a_frameTail, a_digits, a_tokType, a_tokValue, a_openFirst, a_openTok, a_lastElem, a_inTail, a_elemTok, a_elemNext, a_elemTail, a_slot, a_labelTok)) : wpX_continueBody post (f_cap, f_limit, f_regs, f_textLen, f_fault, f_found, nI L, f_nextLabel, nI (d + 1), f_nextValue, f_scanType, f_scanValue, f_tokens, f_place, f_depth, f_elems, a_reg, a_carOf, a_cdrOf, a_text, a_seen, a_queue, a_edgeCount, a_image, a_origin, a_out, a_labelOf, a_frame, a_frameTail, a_digits, a_tokType, a_tokValue, a_openFirst, a_openTok, a_lastElem, a_inTail, a_elemTok, a_elemNext, a_elemTail, a_slot, a_labelTok) := by
  have K : wX_continueBody_41 post f_cap f_limit f_regs f_textLen f_fault f_found (nI L) f_nextLabel (nI (d + 1)) f_nextValue f_scanType f_scanValue f_tokens f_place f_depth f_elems a_reg a_carOf a_cdrOf a_text a_seen a_queue a_edgeCount a_image a_origin a_out a_labelOf a_frame a_frameTail a_digits a_tokType a_tokValue a_openFirst a_openTok a_lastElem a_inTail a_elemTok a_elemNext a_elemTail a_slot a_labelTok := by
    unfold wX_continueBody_41
    exact xw_emit (by omega) (nm_r (nI_pred d) h)
  unfold wpX_continueBody
  refine br_t (nI_lt (a := 0) (by omega) (by omega)) (nm_r (nI_pred d) ⟨vp_in_nI hd (by decide), ?_⟩)
  rw [nI_clamp (n := d) (by omega), hf, nI_clamp (n := p) (by omega)]
  refine ⟨vp_in_nI hp (by decide), nm_e ⟨vp_in_nI hd (by decide), ?_⟩⟩
  by_cases z : a_frameTail d = 0
  · refine br_t z (br_t ?_ K)
    rcases hz with h | h
    · exact absurd z h
    · exact h
  · exact br_f z K
theorem xp_F {post : Int32 → SX → Prop} {L d p q e : Nat} (hL : L < 2 ^ 29) (hd : d < 48) (hp : p < 48) (hf : a_frame d = nI p) (hz : a_frameTail d = 0) (hq : q < 48) (ht : a_cdrOf p = dl_pv q) (he : a_edgeCount q = nI e) (he2 : e < 2)
    (h : post 1 (f_cap, f_limit, f_regs, f_textLen, f_fault, f_found, nI (L + 1), f_nextLabel, nI (d + 1), a_carOf q, f_scanType, f_scanValue, f_tokens, f_place, f_depth, f_elems, a_reg, a_carOf, a_cdrOf, a_text, a_seen, a_queue, a_edgeCount, a_image, a_origin, dl_em a_out L 32, a_labelOf, upd a_frame d (nI q), a_frameTail, a_digits, a_tokType, a_tokValue, a_openFirst, a_openTok, a_lastElem, a_inTail, a_elemTok, a_elemNext, a_elemTail, a_slot, a_labelTok)) : wpX_continueBody post (f_cap, f_limit, f_regs, f_textLen, f_fault, f_found, nI L, f_nextLabel, nI (d + 1), f_nextValue, f_scanType, f_scanValue, f_tokens, f_place, f_depth, f_elems, a_reg, a_carOf, a_cdrOf, a_text, a_seen, a_queue, a_edgeCount, a_image, a_origin, a_out, a_labelOf, a_frame, a_frameTail, a_digits, a_tokType, a_tokValue, a_openFirst, a_openTok, a_lastElem, a_inTail, a_elemTok, a_elemNext, a_elemTail, a_slot, a_labelTok) := by
  unfold wpX_continueBody
  refine br_t (nI_lt (a := 0) (by omega) (by omega)) (nm_r (nI_pred d) ⟨vp_in_nI hd (by decide), ?_⟩)
  rw [nI_clamp (n := d) (by omega), hf, nI_clamp (n := p) (by omega)]
  refine ⟨vp_in_nI hp (by decide), nm_r ht ⟨vp_in_nI hd (by decide), br_t hz (br_f ?_ (xw_emit (by omega) ?_))⟩⟩
  · intro e0
    have := dl_pvA q hq
    rw [e0] at this
    exact absurd this (by decide)
  · refine xw_pair (fun _ => br_f dl_10 ?_) (fun hn => absurd (dl_pvA q hq) hn)
    rw [dl_pvS q hq, nI_clamp (n := q) (by omega), he]
    exact ⟨vp_in_nI hq (by decide), br_f (nI_ge (b := 2) he2 (by decide)) ⟨vp_in_nI hd (by decide), nm_e ⟨vp_in_nI hq (by decide), nm_e h⟩⟩⟩
theorem xp_G {post : Int32 → SX → Prop} {L d p : Nat} {t : Int32} (hL : L < 2 ^ 29) (hd : d < 48) (hp : p < 48) (hf : a_frame d = nI p) (hz : a_frameTail d = 0) (ht : a_cdrOf p = t) (h0 : ¬ t = 0) (hE : ¬ t &&& 3 = 3 ∨ ∃ q e, q < 48 ∧ t = dl_pv q ∧ a_edgeCount q = nI e ∧ 2 ≤ e ∧ e ≤ 97)
    (h : post 1 (f_cap, f_limit, f_regs, f_textLen, f_fault, f_found, nI (L + 3), f_nextLabel, nI (d + 1), t, f_scanType, f_scanValue, f_tokens, f_place, f_depth, f_elems, a_reg, a_carOf, a_cdrOf, a_text, a_seen, a_queue, a_edgeCount, a_image, a_origin, dl_em (dl_em (dl_em a_out L 32) (L + 1) 46) (L + 2) 32, a_labelOf, a_frame, upd a_frameTail d 1, a_digits, a_tokType, a_tokValue, a_openFirst, a_openTok, a_lastElem, a_inTail, a_elemTok, a_elemNext, a_elemTail, a_slot, a_labelTok)) : wpX_continueBody post (f_cap, f_limit, f_regs, f_textLen, f_fault, f_found, nI L, f_nextLabel, nI (d + 1), f_nextValue, f_scanType, f_scanValue, f_tokens, f_place, f_depth, f_elems, a_reg, a_carOf, a_cdrOf, a_text, a_seen, a_queue, a_edgeCount, a_image, a_origin, a_out, a_labelOf, a_frame, a_frameTail, a_digits, a_tokType, a_tokValue, a_openFirst, a_openTok, a_lastElem, a_inTail, a_elemTok, a_elemNext, a_elemTail, a_slot, a_labelTok) := by
  have K : wX_continueBody_108 post (nI d) t f_cap f_limit f_regs f_textLen f_fault f_found (nI (L + 1)) f_nextLabel (nI (d + 1)) f_nextValue f_scanType f_scanValue f_tokens f_place f_depth f_elems a_reg a_carOf a_cdrOf a_text a_seen a_queue a_edgeCount a_image a_origin (dl_em a_out L 32) a_labelOf a_frame a_frameTail a_digits a_tokType a_tokValue a_openFirst a_openTok a_lastElem a_inTail a_elemTok a_elemNext a_elemTail a_slot a_labelTok := by
    unfold wX_continueBody_108
    refine xw_emit (by omega) (xw_emit (by omega) ?_)
    exact And.intro (vp_in_nI hd (by decide)) (nm_r (e' := upd a_frameTail d 1) (by rw [nI_clamp (by omega), dl_b1]) h)
  unfold wpX_continueBody
  refine br_t (nI_lt (a := 0) (by omega) (by omega)) (nm_r (nI_pred d) ⟨vp_in_nI hd (by decide), ?_⟩)
  rw [nI_clamp (n := d) (by omega), hf, nI_clamp (n := p) (by omega)]
  refine ⟨vp_in_nI hp (by decide), nm_r ht ⟨vp_in_nI hd (by decide), br_t hz (br_f h0 (xw_emit (by omega) ?_))⟩⟩
  refine xw_pair (fun hpr => br_f dl_10 ?_) (fun hn => br_t rfl K)
  rcases hE with hE | ⟨q, e, hq, rfl, he, he2, he97⟩
  · exact absurd hpr hE
  · rw [dl_pvS q hq, nI_clamp (n := q) (by omega), he]
    exact ⟨vp_in_nI hq (by decide), br_t (nI_le (a := 2) he2 (by omega)) K⟩
end
section
variable {yf_cap yf_limit yf_regs yf_length yf_fault yf_written yf_top yf_tokens : Int32} {ya_reg ya_heads ya_tails ya_text ya_in ya_image ya_out ya_label ya_spell ya_what ya_which ya_type ya_num ya_cell : Nat → Int32}
variable {post : Int32 → SY → Prop} {J : Int32 → Int32 → Int32 → Int32 → Int32 → Int32 → Int32 → Int32 → Int32 → Int32 → (Nat → Int32) → (Nat → Int32) → (Nat → Int32) → (Nat → Int32) → (Nat → Int32) → (Nat → Int32) → (Nat → Int32) → (Nat → Int32) → (Nat → Int32) → (Nat → Int32) → (Nat → Int32) → (Nat → Int32) → (Nat → Int32) → (Nat → Int32) → Prop} {x1 x2 x6 : Int32} {s : Nat}
theorem yw_push {post : SY → Prop} {t : Nat} {a b : Int32} (ht : t < 256) (h : post (yf_cap, yf_limit, yf_regs, yf_length, yf_fault, yf_written, nI (t + 1), yf_tokens, ya_reg, ya_heads, ya_tails, ya_text, ya_in, ya_image, ya_out, ya_label, ya_spell, upd ya_what t a, upd ya_which t b, ya_type, ya_num, ya_cell)) : wpY_push post (yf_cap, yf_limit, yf_regs, yf_length, yf_fault, yf_written, nI t, yf_tokens, ya_reg, ya_heads, ya_tails, ya_text, ya_in, ya_image, ya_out, ya_label, ya_spell, ya_what, ya_which, ya_type, ya_num, ya_cell) a b := by
  unfold wpY_push
  dsimp only
  rw [nI_clamp (n := t) (by omega)]
  exact br_f (nI_ge (b := 256) ht (by decide)) ⟨vp_in_nI ht (by decide), nm_e ⟨vp_in_nI ht (by decide), nm_e (nm_r (nI_1 t) h)⟩⟩
theorem yp_352a (h : J x2 (nI (s + 1)) yf_cap yf_limit yf_regs yf_length yf_fault yf_written yf_top yf_tokens ya_reg ya_heads ya_tails ya_text ya_in ya_image ya_out ya_label ya_spell ya_what ya_which ya_type ya_num ya_cell) : wY_print_352 post J x1 x2 (nI s) x6 0 yf_cap yf_limit yf_regs yf_length yf_fault yf_written yf_top yf_tokens ya_reg ya_heads ya_tails ya_text ya_in ya_image ya_out ya_label ya_spell ya_what ya_which ya_type ya_num ya_cell := br_t rfl (nm_r (nI_1 s) h)
theorem yp_352b {p t : Nat} (hp : p < 48) (ht : t + 2 ≤ 256) (h : J x2 (nI (s + 1)) yf_cap yf_limit yf_regs yf_length yf_fault yf_written (nI (t + 2)) yf_tokens ya_reg ya_heads ya_tails ya_text ya_in ya_image ya_out ya_label ya_spell (upd (upd ya_what t 116) (t + 1) 118) (upd (upd ya_which t (ya_tails p)) (t + 1) (ya_heads p)) ya_type ya_num ya_cell) : wY_print_352 post J x1 x2 (nI s) (nI p) 1 yf_cap yf_limit yf_regs yf_length yf_fault yf_written (nI t) yf_tokens ya_reg ya_heads ya_tails ya_text ya_in ya_image ya_out ya_label ya_spell ya_what ya_which ya_type ya_num ya_cell := by
  unfold wY_print_352
  rw [nI_clamp (n := p) (by omega)]
  refine br_f dl_10 (br_f (nI_pos (by omega)) ⟨vp_in_nI hp (by decide), yw_push (by omega) ?_⟩)
  refine And.intro (vp_in_nI hp (by decide)) (yw_push (by omega) ?_)
  exact nm_r (nI_1 s) h
theorem yp_A {L2 : Nat} {o2 dg2 : Nat → Int32} {v : Int32} (N : ∀ post : SY → Prop, post (yf_cap, yf_limit, yf_regs, yf_length, yf_fault, nI L2, yf_top, yf_tokens, ya_reg, ya_heads, ya_tails, ya_text, ya_in, ya_image, o2, ya_label, dg2, ya_what, ya_which, ya_type, ya_num, ya_cell) → wpY_atom post (yf_cap, yf_limit, yf_regs, yf_length, yf_fault, yf_written, yf_top, yf_tokens, ya_reg, ya_heads, ya_tails, ya_text, ya_in, ya_image, ya_out, ya_label, ya_spell, ya_what, ya_which, ya_type, ya_num, ya_cell) v) (h : J x2 (nI (s + 1)) yf_cap yf_limit yf_regs yf_length yf_fault (nI L2) yf_top yf_tokens ya_reg ya_heads ya_tails ya_text ya_in ya_image o2 ya_label dg2 ya_what ya_which ya_type ya_num ya_cell) : wY_print_126 post J x1 x2 (nI s) 118 v (-1) yf_cap yf_limit yf_regs yf_length yf_fault yf_written yf_top yf_tokens ya_reg ya_heads ya_tails ya_text ya_in ya_image ya_out ya_label ya_spell ya_what ya_which ya_type ya_num ya_cell := by
  unfold wY_print_126
  refine br_t (by decide) ?_
  unfold wY_print_148 wY_print_149
  refine br_f (by decide) (br_f (by decide) ?_)
  unfold wY_print_182
  refine br_f (by decide) (br_f (by decide) (N _ ?_))
  exact yp_352a h
theorem yp_E {L : Nat} {w v : Int32} (hL : L < 2 ^ 29) (hw : w = 41 ∨ (w = 116 ∧ v = 0)) (h : J x2 (nI (s + 1)) yf_cap yf_limit yf_regs yf_length yf_fault (nI (L + 1)) yf_top yf_tokens ya_reg ya_heads ya_tails ya_text ya_in ya_image (dl_em ya_out L 41) ya_label ya_spell ya_what ya_which ya_type ya_num ya_cell) : wY_print_126 post J x1 x2 (nI s) w v (-1) yf_cap yf_limit yf_regs yf_length yf_fault (nI L) yf_top yf_tokens ya_reg ya_heads ya_tails ya_text ya_in ya_image ya_out ya_label ya_spell ya_what ya_which ya_type ya_num ya_cell := by
  have K : wY_print_173 post J x1 x2 (nI s) (-1) 0 yf_cap yf_limit yf_regs yf_length yf_fault (nI L) yf_top yf_tokens ya_reg ya_heads ya_tails ya_text ya_in ya_image ya_out ya_label ya_spell ya_what ya_which ya_type ya_num ya_cell := by
    unfold wY_print_173
    exact yw_emit (by omega) (yp_352a h)
  unfold wY_print_126
  refine br_t (by decide) ?_
  unfold wY_print_148 wY_print_149
  rcases hw with e | ⟨e, e2⟩
  · exact br_t e K
  · subst e; subst e2
    exact br_f (by decide) (br_t rfl (br_t rfl K))
theorem yp_M {r p : Nat} {w : Int32} (hr8 : r < 8) (hp : p < 48) (h0 : dl_E ya_heads ya_tails ya_in (ya_reg r) p < 2 → wY_print_149 post J (nI r) x2 (nI s) w (dl_pv p) (nI p) 0 yf_cap yf_limit yf_regs yf_length yf_fault yf_written yf_top yf_tokens ya_reg ya_heads ya_tails ya_text ya_in ya_image ya_out ya_label ya_spell ya_what ya_which ya_type ya_num ya_cell) (h1 : 2 ≤ dl_E ya_heads ya_tails ya_in (ya_reg r) p → wY_print_149 post J (nI r) x2 (nI s) w (dl_pv p) (nI p) 1 yf_cap yf_limit yf_regs yf_length yf_fault yf_written yf_top yf_tokens ya_reg ya_heads ya_tails ya_text ya_in ya_image ya_out ya_label ya_spell ya_what ya_which ya_type ya_num ya_cell) : wY_print_126 post J (nI r) x2 (nI s) w (dl_pv p) (nI p) yf_cap yf_limit yf_regs yf_length yf_fault yf_written yf_top yf_tokens ya_reg ya_heads ya_tails ya_text ya_in ya_image ya_out ya_label ya_spell ya_what ya_which ya_type ya_num ya_cell := by
  unfold wY_print_126
  refine br_f (nI_pos (by omega)) (yw_into hr8 ?_)
  have := dl_E97 (car := ya_heads) (cdr := ya_tails) (inn := ya_in) (v := ya_reg r) (p := p)
  by_cases z : dl_E ya_heads ya_tails ya_in (ya_reg r) p < 2
  · exact br_t (nI_lt (b := 2) z (by decide)) (h0 z)
  · exact br_f (nI_nlt (b := 2) (by omega) (by omega)) (h1 (by omega))
theorem yp_341 {L p t : Nat} (hL : L < 2 ^ 30) (hp : p < 48) (ht : t + 2 ≤ 256) (h : J x2 (nI (s + 1)) yf_cap yf_limit yf_regs yf_length yf_fault (nI (L + 1)) (nI (t + 2)) yf_tokens ya_reg ya_heads ya_tails ya_text ya_in ya_image (dl_em ya_out L 40) ya_label ya_spell (upd (upd ya_what t 116) (t + 1) 118) (upd (upd ya_which t (ya_tails p)) (t + 1) (ya_heads p)) ya_type ya_num ya_cell) : wY_print_341 post J x1 x2 (nI s) (nI p) 1 yf_cap yf_limit yf_regs yf_length yf_fault (nI L) (nI t) yf_tokens ya_reg ya_heads ya_tails ya_text ya_in ya_image ya_out ya_label ya_spell ya_what ya_which ya_type ya_num ya_cell := by
  unfold wY_print_341
  exact br_f dl_10 (yw_emit (by omega) (yp_352b hp ht h))
theorem yp_B {L p t : Nat} (hL : L < 2 ^ 29) (hp : p < 48) (ht : t + 2 ≤ 256) (h : J x2 (nI (s + 1)) yf_cap yf_limit yf_regs yf_length yf_fault (nI (L + 1)) (nI (t + 2)) yf_tokens ya_reg ya_heads ya_tails ya_text ya_in ya_image (dl_em ya_out L 40) ya_label ya_spell (upd (upd ya_what t 116) (t + 1) 118) (upd (upd ya_which t (ya_tails p)) (t + 1) (ya_heads p)) ya_type ya_num ya_cell) : wY_print_149 post J x1 x2 (nI s) 118 (dl_pv p) (nI p) 0 yf_cap yf_limit yf_regs yf_length yf_fault (nI L) (nI t) yf_tokens ya_reg ya_heads ya_tails ya_text ya_in ya_image ya_out ya_label ya_spell ya_what ya_which ya_type ya_num ya_cell := by
  unfold wY_print_149
  refine br_f (by decide) (br_f (by decide) ?_)
  unfold wY_print_182
  refine br_f (by decide) (br_t (nI_pos' (by omega)) (br_t rfl ?_))
  unfold wY_print_276 wY_print_281
  exact br_t rfl (yp_341 (by omega) hp ht h)
theorem yp_C {L L2 p t g : Nat} {o2 dg2 : Nat → Int32} (hL : L < 2 ^ 29) (hL2 : L2 < 2 ^ 29) (hp : p < 48) (ht : t + 2 ≤ 256) (hl : ya_label p = -1) (hg : g < 48)
    (N : ∀ post : SY → Prop, post (yf_cap, yf_limit, yf_regs, yf_length, yf_fault, nI L2, nI t, yf_tokens, ya_reg, ya_heads, ya_tails, ya_text, ya_in, ya_image, o2, upd ya_label p (nI g), dg2, ya_what, ya_which, ya_type, ya_num, ya_cell) → wpY_atom post (yf_cap, yf_limit, yf_regs, yf_length, yf_fault, nI (L + 1), nI t, yf_tokens, ya_reg, ya_heads, ya_tails, ya_text, ya_in, ya_image, dl_em ya_out L 35, upd ya_label p (nI g), ya_spell, ya_what, ya_which, ya_type, ya_num, ya_cell) (nI g * 4 + 1))
    (h : J (nI (g + 1)) (nI (s + 1)) yf_cap yf_limit yf_regs yf_length yf_fault (nI (L2 + 2)) (nI (t + 2)) yf_tokens ya_reg ya_heads ya_tails ya_text ya_in ya_image (dl_em (dl_em o2 L2 61) (L2 + 1) 40) (upd ya_label p (nI g)) dg2 (upd (upd ya_what t 116) (t + 1) 118) (upd (upd ya_which t (ya_tails p)) (t + 1) (ya_heads p)) ya_type ya_num ya_cell) :
    wY_print_149 post J x1 (nI g) (nI s) 118 (dl_pv p) (nI p) 1 yf_cap yf_limit yf_regs yf_length yf_fault (nI L) (nI t) yf_tokens ya_reg ya_heads ya_tails ya_text ya_in ya_image ya_out ya_label ya_spell ya_what ya_which ya_type ya_num ya_cell := by
  unfold wY_print_149
  refine br_f (by decide) (br_f (by decide) ?_)
  unfold wY_print_182
  refine br_f (by decide) (br_t (nI_pos' (by omega)) (br_f dl_10 ⟨vp_in_nI hp (by decide), ?_⟩))
  rw [nI_clamp (n := p) (by omega), hl]
  refine br_f (by decide) ?_
  unfold wY_print_276 wY_print_281
  rw [nI_clamp (n := p) (by omega)]
  refine br_f dl_10 (br_f dl_10 (nm_r (nI_1 g) ⟨vp_in_nI hp (by decide), nm_e ?_⟩))
  unfold wY_print_304
  refine yw_emit (by omega) ?_
  try dsimp only
  rw [nI_clamp (n := p) (by omega), pk_us]
  refine And.intro (vp_in_nI hp (by decide)) (N _ ?_)
  refine br_f dl_10 ?_
  unfold wY_print_338
  exact yw_emit (L := L2) (by omega) (yp_341 (L := L2 + 1) (by omega) hp ht h)
theorem yp_D {L L2 p l : Nat} {o2 dg2 : Nat → Int32} (hL : L < 2 ^ 29) (hL2 : L2 < 2 ^ 29) (hp : p < 48) (hl : ya_label p = nI l) (hl48 : l < 48)
    (N : ∀ post : SY → Prop, post (yf_cap, yf_limit, yf_regs, yf_length, yf_fault, nI L2, yf_top, yf_tokens, ya_reg, ya_heads, ya_tails, ya_text, ya_in, ya_image, o2, ya_label, dg2, ya_what, ya_which, ya_type, ya_num, ya_cell) → wpY_atom post (yf_cap, yf_limit, yf_regs, yf_length, yf_fault, nI (L + 1), yf_top, yf_tokens, ya_reg, ya_heads, ya_tails, ya_text, ya_in, ya_image, dl_em ya_out L 35, ya_label, ya_spell, ya_what, ya_which, ya_type, ya_num, ya_cell) (nI l * 4 + 1))
    (h : J x2 (nI (s + 1)) yf_cap yf_limit yf_regs yf_length yf_fault (nI (L2 + 1)) yf_top yf_tokens ya_reg ya_heads ya_tails ya_text ya_in ya_image (dl_em o2 L2 35) ya_label dg2 ya_what ya_which ya_type ya_num ya_cell) :
    wY_print_149 post J x1 x2 (nI s) 118 (dl_pv p) (nI p) 1 yf_cap yf_limit yf_regs yf_length yf_fault (nI L) yf_top yf_tokens ya_reg ya_heads ya_tails ya_text ya_in ya_image ya_out ya_label ya_spell ya_what ya_which ya_type ya_num ya_cell := by
  unfold wY_print_149
  refine br_f (by decide) (br_f (by decide) ?_)
  unfold wY_print_182
  refine br_f (by decide) (br_t (nI_pos' (by omega)) (br_f dl_10 ⟨vp_in_nI hp (by decide), ?_⟩))
  rw [nI_clamp (n := p) (by omega), hl]
  refine br_t (nI_pos' (by omega)) ?_
  unfold wY_print_281
  refine br_f dl_10 (br_t rfl ?_)
  unfold wY_print_304
  refine yw_emit (by omega) ?_
  try dsimp only
  rw [nI_clamp (n := p) (by omega), hl]
  refine And.intro (vp_in_nI hp (by decide)) (N _ ?_)
  refine br_t rfl ?_
  unfold wY_print_338
  refine yw_emit (by omega) ?_
  try dsimp only
  unfold wY_print_341
  exact br_t rfl (yp_352a h)
theorem yp_F {L p t : Nat} (hL : L < 2 ^ 29) (hp : p < 48) (ht : t + 2 ≤ 256) (h : J x2 (nI (s + 1)) yf_cap yf_limit yf_regs yf_length yf_fault (nI (L + 1)) (nI (t + 2)) yf_tokens ya_reg ya_heads ya_tails ya_text ya_in ya_image (dl_em ya_out L 32) ya_label ya_spell (upd (upd ya_what t 116) (t + 1) 118) (upd (upd ya_which t (ya_tails p)) (t + 1) (ya_heads p)) ya_type ya_num ya_cell) : wY_print_149 post J x1 x2 (nI s) 116 (dl_pv p) (nI p) 0 yf_cap yf_limit yf_regs yf_length yf_fault (nI L) (nI t) yf_tokens ya_reg ya_heads ya_tails ya_text ya_in ya_image ya_out ya_label ya_spell ya_what ya_which ya_type ya_num ya_cell := by
  have v0 : ¬ dl_pv p = 0 := fun e => by
    have := dl_pvA p hp
    rw [e] at this
    exact absurd this (by decide)
  unfold wY_print_149
  refine br_f (by decide) (br_t rfl (br_f v0 ?_))
  unfold wY_print_182
  refine br_t rfl (yw_emit (by omega) ?_)
  refine br_f (nI_pos (by omega)) (br_t rfl ?_)
  unfold wY_print_210
  exact br_f dl_10 (yp_352b hp ht h)
theorem yp_G182 {L t : Nat} {x7 v : Int32} (hL : L < 2 ^ 29) (ht : t + 2 ≤ 256) (hx : x6 < 0 ∨ (¬ x6 < 0 ∧ ¬ x7 = 0)) (h : J x2 (nI (s + 1)) yf_cap yf_limit yf_regs yf_length yf_fault (nI (L + 3)) (nI (t + 2)) yf_tokens ya_reg ya_heads ya_tails ya_text ya_in ya_image (dl_em (dl_em (dl_em ya_out L 32) (L + 1) 46) (L + 2) 32) ya_label ya_spell (upd (upd ya_what t 41) (t + 1) 118) (upd (upd ya_which t 0) (t + 1) v) ya_type ya_num ya_cell) :
    wY_print_182 post J x1 x2 (nI s) 116 v x6 x7 0 yf_cap yf_limit yf_regs yf_length yf_fault (nI L) (nI t) yf_tokens ya_reg ya_heads ya_tails ya_text ya_in ya_image ya_out ya_label ya_spell ya_what ya_which ya_type ya_num ya_cell := by
  have K : wY_print_209 post J x1 x2 (nI s) v x6 yf_cap yf_limit yf_regs yf_length yf_fault (nI (L + 1)) (nI t) yf_tokens ya_reg ya_heads ya_tails ya_text ya_in ya_image (dl_em ya_out L 32) ya_label ya_spell ya_what ya_which ya_type ya_num ya_cell := by
    unfold wY_print_209 wY_print_210
    refine br_t rfl (yw_emit (by omega) (yw_emit (by omega) (yw_push (by omega) (yw_push (by omega) ?_))))
    exact yp_352a h
  unfold wY_print_182
  refine br_t rfl (yw_emit (by omega) ?_)
  rcases hx with hx | ⟨hx, hy⟩
  · exact br_t hx K
  · exact br_f hx (br_f hy K)
theorem yp_G {L t : Nat} {v : Int32} (hL : L < 2 ^ 29) (ht : t + 2 ≤ 256) (v0 : ¬ v = 0) (h : J x2 (nI (s + 1)) yf_cap yf_limit yf_regs yf_length yf_fault (nI (L + 3)) (nI (t + 2)) yf_tokens ya_reg ya_heads ya_tails ya_text ya_in ya_image (dl_em (dl_em (dl_em ya_out L 32) (L + 1) 46) (L + 2) 32) ya_label ya_spell (upd (upd ya_what t 41) (t + 1) 118) (upd (upd ya_which t 0) (t + 1) v) ya_type ya_num ya_cell) :
    wY_print_126 post J x1 x2 (nI s) 116 v (-1) yf_cap yf_limit yf_regs yf_length yf_fault (nI L) (nI t) yf_tokens ya_reg ya_heads ya_tails ya_text ya_in ya_image ya_out ya_label ya_spell ya_what ya_which ya_type ya_num ya_cell := by
  unfold wY_print_126
  refine br_t (by decide) ?_
  unfold wY_print_148 wY_print_149
  exact br_f (by decide) (br_t rfl (br_f v0 (yp_G182 hL ht (Or.inl (by decide)) h)))
theorem yp_H {L p t : Nat} (hL : L < 2 ^ 29) (hp : p < 48) (ht : t + 2 ≤ 256) (h : J x2 (nI (s + 1)) yf_cap yf_limit yf_regs yf_length yf_fault (nI (L + 3)) (nI (t + 2)) yf_tokens ya_reg ya_heads ya_tails ya_text ya_in ya_image (dl_em (dl_em (dl_em ya_out L 32) (L + 1) 46) (L + 2) 32) ya_label ya_spell (upd (upd ya_what t 41) (t + 1) 118) (upd (upd ya_which t 0) (t + 1) (dl_pv p)) ya_type ya_num ya_cell) :
    wY_print_149 post J x1 x2 (nI s) 116 (dl_pv p) (nI p) 1 yf_cap yf_limit yf_regs yf_length yf_fault (nI L) (nI t) yf_tokens ya_reg ya_heads ya_tails ya_text ya_in ya_image ya_out ya_label ya_spell ya_what ya_which ya_type ya_num ya_cell := by
  have v0 : ¬ dl_pv p = 0 := fun e => by
    have := dl_pvA p hp
    rw [e] at this
    exact absurd this (by decide)
  unfold wY_print_149
  exact br_f (by decide) (br_t rfl (br_f v0 (yp_G182 hL ht (Or.inr ⟨nI_pos (by omega), dl_10⟩) h)))
end
end DLPW
end
section
section DLPL
def dl_cp (t o : Nat → Int32) (n : Nat) : Nat → Int32 := fun i => if i < n then o i else t i
theorem dl_cp0 (t o : Nat → Int32) : dl_cp t o 0 = t := by
  funext i; unfold dl_cp; rw [if_neg (by omega)]
theorem dl_cpS (t o : Nat → Int32) (n : Nat) : upd (dl_cp t o n) n (o n) = dl_cp t o (n + 1) := by
  funext i
  unfold upd dl_cp
  by_cases e : i = n
  · rw [if_pos e, if_pos (by omega), e]
  · rw [if_neg e]
    by_cases h : i < n
    · rw [if_pos h, if_pos (by omega)]
    · rw [if_neg h, if_neg (by omega)]
section
variable {f_cap f_limit f_regs f_textLen f_fault f_found f_outLen f_nextLabel f_frames f_nextValue f_scanType f_scanValue f_tokens f_place f_depth f_elems : Int32} {a_reg a_carOf a_cdrOf a_text a_seen a_queue a_edgeCount a_image a_origin a_out a_labelOf a_frame a_frameTail a_digits a_tokType a_tokValue a_openFirst a_openTok a_lastElem a_inTail a_elemTok a_elemNext a_elemTail a_slot a_labelTok : Nat → Int32}
variable {yf_cap yf_limit yf_regs yf_length yf_fault yf_written yf_top yf_tokens : Int32} {ya_reg ya_heads ya_tails ya_text ya_in ya_image ya_out ya_label ya_spell ya_what ya_which ya_type ya_num ya_cell : Nat → Int32}
theorem xp_41 {post : Int32 → SX → Prop} {L : Nat} (hL : L ≤ 256) (h : post 0 (f_cap, f_limit, f_regs, nI L, f_fault, f_found, nI L, f_nextLabel, f_frames, f_nextValue, f_scanType, f_scanValue, f_tokens, f_place, f_depth, f_elems, a_reg, a_carOf, a_cdrOf, dl_cp a_text a_out L, a_seen, a_queue, a_edgeCount, a_image, a_origin, a_out, a_labelOf, a_frame, a_frameTail, a_digits, a_tokType, a_tokValue, a_openFirst, a_openTok, a_lastElem, a_inTail, a_elemTok, a_elemNext, a_elemTail, a_slot, a_labelTok)) : ∃ n, wX_print_41 post f_cap f_limit f_regs f_textLen f_fault f_found (nI L) f_nextLabel f_frames f_nextValue f_scanType f_scanValue f_tokens f_place f_depth f_elems n 0 a_reg a_carOf a_cdrOf a_text a_seen a_queue a_edgeCount a_image a_origin a_out a_labelOf a_frame a_frameTail a_digits a_tokType a_tokValue a_openFirst a_openTok a_lastElem a_inTail a_elemTok a_elemNext a_elemTail a_slot a_labelTok := by
  have Lp : ∀ n i, 257 ≤ n + i → i ≤ L → wX_print_41 post f_cap f_limit f_regs f_textLen f_fault f_found (nI L) f_nextLabel f_frames f_nextValue f_scanType f_scanValue f_tokens f_place f_depth f_elems n (nI i) a_reg a_carOf a_cdrOf (dl_cp a_text a_out i) a_seen a_queue a_edgeCount a_image a_origin a_out a_labelOf a_frame a_frameTail a_digits a_tokType a_tokValue a_openFirst a_openTok a_lastElem a_inTail a_elemTok a_elemNext a_elemTail a_slot a_labelTok := by
    intro n
    induction n with
    | zero => intro i h1 h2; omega
    | succ n ih =>
      intro i h1 h2
      by_cases e : i = L
      · subst e
        exact br_t (nI_le (by omega) (by omega)) h
      · refine br_f (nI_ge (by omega) (by omega)) ⟨vp_in_nI (by omega) (by decide), vp_in_nI (by omega) (by decide), nm_r (e' := dl_cp a_text a_out (i + 1)) ?_ (nm_r (nI_1 i) (ih (i + 1) (by omega) (by omega)))⟩
        rw [nI_clamp (by omega), dl_cpS]
  have := Lp 257 0 (by omega) (by omega)
  rw [dl_cp0] at this
  exact ⟨257, this⟩
theorem yp_41 {post : Int32 → SY → Prop} {L : Nat} (hL : L ≤ 256) (h : post 0 (yf_cap, yf_limit, yf_regs, nI L, yf_fault, nI L, yf_top, yf_tokens, ya_reg, ya_heads, ya_tails, dl_cp ya_text ya_out L, ya_in, ya_image, ya_out, ya_label, ya_spell, ya_what, ya_which, ya_type, ya_num, ya_cell)) : ∃ n, wY_print_410 post yf_cap yf_limit yf_regs yf_length yf_fault (nI L) yf_top yf_tokens n 0 ya_reg ya_heads ya_tails ya_text ya_in ya_image ya_out ya_label ya_spell ya_what ya_which ya_type ya_num ya_cell := by
  have Lp : ∀ n i, 257 ≤ n + i → i ≤ L → wY_print_410 post yf_cap yf_limit yf_regs yf_length yf_fault (nI L) yf_top yf_tokens n (nI i) ya_reg ya_heads ya_tails (dl_cp ya_text ya_out i) ya_in ya_image ya_out ya_label ya_spell ya_what ya_which ya_type ya_num ya_cell := by
    intro n
    induction n with
    | zero => intro i h1 h2; omega
    | succ n ih =>
      intro i h1 h2
      by_cases e : i = L
      · subst e
        exact br_t (nI_le (by omega) (by omega)) h
      · refine br_f (nI_ge (by omega) (by omega)) ⟨vp_in_nI (by omega) (by decide), vp_in_nI (by omega) (by decide), nm_r (e' := dl_cp ya_text ya_out (i + 1)) ?_ (nm_r (nI_1 i) (ih (i + 1) (by omega) (by omega)))⟩
        rw [nI_clamp (by omega), dl_cpS]
  have := Lp 257 0 (by omega) (by omega)
  rw [dl_cp0] at this
  exact ⟨257, this⟩
theorem xp_init {post : SX → Prop} {root : Int32} (H : ∃ n, wX_writeGraph_45 post n (nI 1) (nI 0) f_cap f_limit f_regs f_textLen f_fault f_found (nI 0) (nI 0) (nI 0) root f_scanType f_scanValue f_tokens f_place f_depth f_elems a_reg a_carOf a_cdrOf a_text a_seen a_queue a_edgeCount a_image a_origin a_out (dl_fill a_labelOf (-1) 48) a_frame a_frameTail a_digits a_tokType a_tokValue a_openFirst a_openTok a_lastElem a_inTail a_elemTok a_elemNext a_elemTail a_slot a_labelTok) : wpX_writeGraph post (f_cap, f_limit, f_regs, f_textLen, f_fault, f_found, f_outLen, f_nextLabel, f_frames, f_nextValue, f_scanType, f_scanValue, f_tokens, f_place, f_depth, f_elems, a_reg, a_carOf, a_cdrOf, a_text, a_seen, a_queue, a_edgeCount, a_image, a_origin, a_out, a_labelOf, a_frame, a_frameTail, a_digits, a_tokType, a_tokValue, a_openFirst, a_openTok, a_lastElem, a_inTail, a_elemTok, a_elemNext, a_elemTail, a_slot, a_labelTok) root := by
  have L : ∀ n i, 49 ≤ n + i → i ≤ 48 → wX_writeGraph_17 post root f_cap f_limit f_regs f_textLen f_fault f_found (nI 0) (nI 0) (nI 0) f_nextValue f_scanType f_scanValue f_tokens f_place f_depth f_elems n (nI i) a_reg a_carOf a_cdrOf a_text a_seen a_queue a_edgeCount a_image a_origin a_out (dl_fill a_labelOf (-1) i) a_frame a_frameTail a_digits a_tokType a_tokValue a_openFirst a_openTok a_lastElem a_inTail a_elemTok a_elemNext a_elemTail a_slot a_labelTok := by
    intro n
    induction n with
    | zero => intro i h1 h2; omega
    | succ n ih =>
      intro i h1 h2
      by_cases e : i = 48
      · subst e
        exact br_t (nI_le (a := 48) (by omega) (by omega)) H
      · refine br_f (nI_ge (b := 48) (by omega) (by decide)) ⟨vp_in_nI (by omega) (by decide), nm_r (e' := dl_fill a_labelOf (-1) (i + 1)) ?_ (nm_r (nI_1 i) (ih (i + 1) (by omega) (by omega)))⟩
        rw [nI_clamp (by omega), dl_fillS]
  have := L 49 0 (by omega) (by omega)
  rw [dl_fill0] at this
  unfold wpX_writeGraph
  exact ⟨49, this⟩
theorem yp_init {post : Int32 → SY → Prop} {r : Nat} (hr8 : r < 8) (H : ∃ n, wY_print_64 post (nI r) n (nI 0) (nI 0) yf_cap yf_limit yf_regs yf_length yf_fault (nI 0) (nI 1) yf_tokens ya_reg ya_heads ya_tails ya_text ya_in ya_image ya_out (dl_fill ya_label (-1) 48) ya_spell (upd ya_what 0 118) (upd ya_which 0 (ya_reg r)) ya_type ya_num ya_cell) : ∃ n, wY_print_19 post (nI r) yf_cap yf_limit yf_regs yf_length yf_fault yf_written yf_top yf_tokens n 0 ya_reg ya_heads ya_tails ya_text ya_in ya_image ya_out ya_label ya_spell ya_what ya_which ya_type ya_num ya_cell := by
  have L : ∀ n i, 49 ≤ n + i → i ≤ 48 → wY_print_19 post (nI r) yf_cap yf_limit yf_regs yf_length yf_fault yf_written yf_top yf_tokens n (nI i) ya_reg ya_heads ya_tails ya_text ya_in ya_image ya_out (dl_fill ya_label (-1) i) ya_spell ya_what ya_which ya_type ya_num ya_cell := by
    intro n
    induction n with
    | zero => intro i h1 h2; omega
    | succ n ih =>
      intro i h1 h2
      by_cases e : i = 48
      · subst e
        refine br_t (nI_le (a := 48) (by omega) (by omega)) ⟨vp_in_nI hr8 (by decide), ?_⟩
        rw [nI_clamp (n := r) (by omega)]
        exact yw_push (t := 0) (by omega) H
      · refine br_f (nI_ge (b := 48) (by omega) (by decide)) ⟨vp_in_nI (by omega) (by decide), nm_r (e' := dl_fill ya_label (-1) (i + 1)) ?_ (nm_r (nI_1 i) (ih (i + 1) (by omega) (by omega)))⟩
        rw [nI_clamp (by omega), dl_fillS]
  have := L 49 0 (by omega) (by omega)
  rw [dl_fill0] at this
  exact ⟨49, this⟩
theorem yp_inP {post : Int32 → SY → Prop} {x1 x2 w : Int32} {n s t p : Nat} (hs : s < 1000) (ht : t < 256) (hw : ya_what t = w) (hp : p < 48) (hv : ya_which t = dl_pv p) (h : wY_print_126 post (wY_print_64 post x1 n) x1 x2 (nI s) w (dl_pv p) (nI p) yf_cap yf_limit yf_regs yf_length yf_fault yf_written (nI t) yf_tokens ya_reg ya_heads ya_tails ya_text ya_in ya_image ya_out ya_label ya_spell ya_what ya_which ya_type ya_num ya_cell) : wY_print_64 post x1 (n + 1) x2 (nI s) yf_cap yf_limit yf_regs yf_length yf_fault yf_written (nI (t + 1)) yf_tokens ya_reg ya_heads ya_tails ya_text ya_in ya_image ya_out ya_label ya_spell ya_what ya_which ya_type ya_num ya_cell := by
  refine br_f (nI_ge (b := 1000) (by omega) (by decide)) (br_f (nI_nle (by omega) (by omega)) (nm_r (nI_pred t) ⟨vp_in_nI ht (by decide), nm_r (e' := w) (by rw [nI_clamp (by omega)]; exact hw) ⟨vp_in_nI ht (by decide), nm_r (e' := dl_pv p) (by rw [nI_clamp (by omega)]; exact hv) (br_t (dl_pvA p hp) ?_)⟩⟩))
  rw [dl_pvS p hp]
  exact h
theorem yp_inN {post : Int32 → SY → Prop} {x1 x2 w v : Int32} {n s t : Nat} (hs : s < 1000) (ht : t < 256) (hw : ya_what t = w) (hv : ya_which t = v) (hn : ¬ v &&& 3 = 3) (h : wY_print_126 post (wY_print_64 post x1 n) x1 x2 (nI s) w v (-1) yf_cap yf_limit yf_regs yf_length yf_fault yf_written (nI t) yf_tokens ya_reg ya_heads ya_tails ya_text ya_in ya_image ya_out ya_label ya_spell ya_what ya_which ya_type ya_num ya_cell) : wY_print_64 post x1 (n + 1) x2 (nI s) yf_cap yf_limit yf_regs yf_length yf_fault yf_written (nI (t + 1)) yf_tokens ya_reg ya_heads ya_tails ya_text ya_in ya_image ya_out ya_label ya_spell ya_what ya_which ya_type ya_num ya_cell :=
  br_f (nI_ge (b := 1000) (by omega) (by decide)) (br_f (nI_nle (by omega) (by omega)) (nm_r (nI_pred t) ⟨vp_in_nI ht (by decide), nm_r (e' := w) (by rw [nI_clamp (by omega)]; exact hw) ⟨vp_in_nI ht (by decide), nm_r (e' := v) (by rw [nI_clamp (by omega)]; exact hv) (br_f hn h)⟩⟩))
theorem dl_ploop {r : Nat} {sn : Nat → Int32} (hr8 : r < 8) (hc : ∀ i, dl_V 48 (a_carOf i)) (hd : ∀ i, dl_V 48 (a_cdrOf i)) (hC : ∀ p, p < 48 → sn p = 1 → ∀ q, q < 48 → (a_carOf p = dl_pv q ∨ a_cdrOf p = dl_pv q) → sn q = 1)
    (he : ∀ p, p < 48 → a_edgeCount p = nI (dl_E a_carOf a_cdrOf sn (a_reg r) p)) :
    ∀ n s op o L lb dg g d pend nv fr ft wh wc, n + s = 1000 → L ≤ 16 * s → dl_PS a_carOf a_cdrOf sn (a_reg r) op lb g d pend nv fr ft wh wc →
    ∃ o' L' lb' dg' g' d' nv' fr' ft' top' wh' wc', L' ≤ 16000 ∧
      (∀ post : SX → Prop, post (f_cap, f_limit, f_regs, f_textLen, f_fault, f_found, nI L', nI g', nI d', nv', f_scanType, f_scanValue, f_tokens, f_place, f_depth, f_elems, a_reg, a_carOf, a_cdrOf, a_text, a_seen, a_queue, a_edgeCount, a_image, a_origin, o', lb', fr', ft', dg', a_tokType, a_tokValue, a_openFirst, a_openTok, a_lastElem, a_inTail, a_elemTok, a_elemNext, a_elemTail, a_slot, a_labelTok) → wX_writeGraph_45 post (n + 1) (nI pend) (nI s) f_cap f_limit f_regs f_textLen f_fault f_found (nI L) (nI g) (nI d) nv f_scanType f_scanValue f_tokens f_place f_depth f_elems a_reg a_carOf a_cdrOf a_text a_seen a_queue a_edgeCount a_image a_origin o lb fr ft dg a_tokType a_tokValue a_openFirst a_openTok a_lastElem a_inTail a_elemTok a_elemNext a_elemTail a_slot a_labelTok) ∧
      (∀ yin : Nat → Int32, (∀ q, q < 48 → (sn q = 0 ↔ yin q = 0)) → ∀ post : Int32 → SY → Prop, wY_print_394 post yf_cap yf_limit yf_regs yf_length yf_fault (nI L') (nI top') yf_tokens a_reg a_carOf a_cdrOf ya_text yin ya_image o' lb' dg' wh' wc' ya_type ya_num ya_cell → wY_print_64 post (nI r) (n + 1) (nI g) (nI s) yf_cap yf_limit yf_regs yf_length yf_fault (nI L) (nI (d + pend)) yf_tokens a_reg a_carOf a_cdrOf ya_text yin ya_image o lb dg wh wc ya_type ya_num ya_cell) := by
  intro n
  induction n with
  | zero =>
    intro s op o L lb dg g d pend nv fr ft wh wc hs hL P
    have es : s = 1000 := by omega
    subst es
    refine ⟨o, L, lb, dg, g, d, nv, fr, ft, d + pend, wh, wc, by omega, fun post h => ?_, fun yin hyi post h => ?_⟩
    · exact br_t (nI_le (a := 1000) (by omega) (by omega)) h
    · exact br_t (nI_le (a := 1000) (by omega) (by omega)) h
  | succ n ih =>
    intro s op o L lb dg g d pend nv fr ft wh wc hs hL P
    obtain ⟨PO, PP, PL, PF, PW, PE⟩ := id P
    obtain ⟨d48, g48⟩ := dl_opM PO
    rcases PE with rfl | ⟨rfl, w118, wnv⟩
    · by_cases d0 : d = 0
      · subst d0
        refine ⟨o, L, lb, dg, g, 0, nv, fr, ft, 0, wh, wc, by omega, fun post h => ?_, fun yin hyi post h => ?_⟩
        · exact br_f (nI_ge (b := 1000) (by omega) (by decide)) (br_t rfl (br_t (by decide) h))
        · exact br_f (nI_ge (b := 1000) (by omega) (by decide)) (br_t (by decide) h)
      · obtain ⟨d, rfl⟩ : ∃ d', d = d' + 1 := ⟨d - 1, by omega⟩
        obtain ⟨p, hp, efr, K⟩ := PF d (by omega)
        rcases K with ⟨f0, w116, wcd⟩ | ⟨f1, w41, w0⟩
        · by_cases t0 : a_cdrOf p = 0
          · have w0 : wc d = 0 := by rw [wcd, t0]
            obtain ⟨o', L', lb', dg', g', d', nv', fr', ft', top', wh', wc', hl, hX, hY⟩ := ih (s + 1) op (dl_em o L 41) (L + 1) lb dg g d 0 nv fr ft wh wc (by omega) (by omega) (dl_psE P)
            refine ⟨o', L', lb', dg', g', d', nv', fr', ft', top', wh', wc', hl, fun post h => ?_, fun yin hyi post h => ?_⟩
            · refine br_f (nI_ge (b := 1000) (by omega) (by decide)) ?_
              refine br_t rfl (br_f (nI_nle (by omega) (by omega)) ?_)
              unfold wX_writeGraph_63
              refine br_t rfl ?_
              exact xp_E (by omega) (by omega) hp efr (Or.inr t0) (nm_r (nI_1 s) (hX post h))
            · exact yp_inN (by omega) (by omega) w116 w0 (by decide) (yp_E (by omega) (Or.inr ⟨rfl, rfl⟩) (hY yin hyi post h))
          · by_cases tp : a_cdrOf p &&& 3 = 3
            · obtain ⟨q, hq, eq⟩ := (hd p).2 tp
              have wq : wc d = dl_pv q := by rw [wcd, eq]
              have E97 := dl_E97 (car := a_carOf) (cdr := a_cdrOf) (inn := sn) (v := a_reg r) (p := q)
              by_cases E2 : dl_E a_carOf a_cdrOf sn (a_reg r) q < 2
              · have o0 := dl_op0 PP hq wq E2
                obtain ⟨o', L', lb', dg', g', d', nv', fr', ft', top', wh', wc', hl, hX, hY⟩ := ih (s + 1) (dl_op op q) (dl_em o L 32) (L + 1) lb dg g (d + 1) 1 (a_carOf q) (upd fr d (nI q)) ft (upd (upd wh d 116) (d + 1) 118) (upd (upd wc d (a_cdrOf q)) (d + 1) (a_carOf q)) (by omega) (by omega) (dl_psF P hq wq f0 o0 (hc q) (hd q) (hC q hq) E2)
                refine ⟨o', L', lb', dg', g', d', nv', fr', ft', top', wh', wc', hl, fun post h => ?_, fun yin hyi post h => ?_⟩
                · refine br_f (nI_ge (b := 1000) (by omega) (by decide)) ?_
                  refine br_t rfl (br_f (nI_nle (by omega) (by omega)) ?_)
                  unfold wX_writeGraph_63
                  refine br_t rfl ?_
                  exact xp_F (by omega) (by omega) hp efr f0 hq eq (he q hq) E2 (nm_r (nI_1 s) (hX post h))
                · exact yp_inP (by omega) (by omega) w116 hq wq (yp_M hr8 hq (fun _ => yp_F (by omega) hq (by omega) (hY yin hyi post h)) (fun z => by rw [← dl_EC hyi] at z; omega))
              · have wt : wc d = a_cdrOf p := wcd
                obtain ⟨o', L', lb', dg', g', d', nv', fr', ft', top', wh', wc', hl, hX, hY⟩ := ih (s + 1) op (dl_em (dl_em (dl_em o L 32) (L + 1) 46) (L + 2) 32) (L + 3) lb dg g (d + 1) 1 (dl_pv q) fr (upd ft d 1) (upd (upd wh d 41) (d + 1) 118) (upd (upd wc d 0) (d + 1) (dl_pv q)) (by omega) (by omega) (dl_psG P wq)
                refine ⟨o', L', lb', dg', g', d', nv', fr', ft', top', wh', wc', hl, fun post h => ?_, fun yin hyi post h => ?_⟩
                · refine br_f (nI_ge (b := 1000) (by omega) (by decide)) ?_
                  refine br_t rfl (br_f (nI_nle (by omega) (by omega)) ?_)
                  unfold wX_writeGraph_63
                  refine br_t rfl ?_
                  exact xp_G (by omega) (by omega) hp efr f0 eq (by rw [← eq]; exact t0) (Or.inr ⟨q, _, hq, rfl, he q hq, by omega, by omega⟩) (nm_r (nI_1 s) (hX post h))
                · exact yp_inP (by omega) (by omega) w116 hq wq (yp_M hr8 hq (fun z => by rw [← dl_EC hyi] at z; exact absurd z E2) (fun _ => yp_H (by omega) hq (by omega) (hY yin hyi post h)))
            · have wt : wc d = a_cdrOf p := wcd
              obtain ⟨o', L', lb', dg', g', d', nv', fr', ft', top', wh', wc', hl, hX, hY⟩ := ih (s + 1) op (dl_em (dl_em (dl_em o L 32) (L + 1) 46) (L + 2) 32) (L + 3) lb dg g (d + 1) 1 (a_cdrOf p) fr (upd ft d 1) (upd (upd wh d 41) (d + 1) 118) (upd (upd wc d 0) (d + 1) (a_cdrOf p)) (by omega) (by omega) (dl_psG P wt)
              refine ⟨o', L', lb', dg', g', d', nv', fr', ft', top', wh', wc', hl, fun post h => ?_, fun yin hyi post h => ?_⟩
              · refine br_f (nI_ge (b := 1000) (by omega) (by decide)) ?_
                refine br_t rfl (br_f (nI_nle (by omega) (by omega)) ?_)
                unfold wX_writeGraph_63
                refine br_t rfl ?_
                exact xp_G (by omega) (by omega) hp efr f0 rfl t0 (Or.inl tp) (nm_r (nI_1 s) (hX post h))
              · exact yp_inN (by omega) (by omega) w116 wt tp (yp_G (by omega) (by omega) t0 (hY yin hyi post h))
        · have z1 : ¬ ft d = 0 := by rw [f1]; decide
          obtain ⟨o', L', lb', dg', g', d', nv', fr', ft', top', wh', wc', hl, hX, hY⟩ := ih (s + 1) op (dl_em o L 41) (L + 1) lb dg g d 0 nv fr ft wh wc (by omega) (by omega) (dl_psE P)
          refine ⟨o', L', lb', dg', g', d', nv', fr', ft', top', wh', wc', hl, fun post h => ?_, fun yin hyi post h => ?_⟩
          · refine br_f (nI_ge (b := 1000) (by omega) (by decide)) ?_
            refine br_t rfl (br_f (nI_nle (by omega) (by omega)) ?_)
            unfold wX_writeGraph_63
            refine br_t rfl ?_
            exact xp_E (by omega) (by omega) hp efr (Or.inl z1) (nm_r (nI_1 s) (hX post h))
          · exact yp_inN (by omega) (by omega) w41 w0 (by decide) (yp_E (by omega) (Or.inl rfl) (hY yin hyi post h))
    · obtain ⟨Vn, In⟩ := PW d (by omega)
      rw [wnv] at Vn
      by_cases vp : nv &&& 3 = 3
      · obtain ⟨p, hp, rfl⟩ := Vn.2 vp
        have E97 := dl_E97 (car := a_carOf) (cdr := a_cdrOf) (inn := sn) (v := a_reg r) (p := p)
        by_cases E2 : dl_E a_carOf a_cdrOf sn (a_reg r) p < 2
        · have o0 := dl_op0 PP hp wnv E2
          have d47 := dl_opL PO hp o0
          have dle := PO.2.1
          obtain ⟨o', L', lb', dg', g', d', nv', fr', ft', top', wh', wc', hl, hX, hY⟩ := ih (s + 1) (dl_op op p) (dl_em o L 40) (L + 1) lb dg g (d + 1) 1 (a_carOf p) (upd fr d (nI p)) (upd ft d 0) (upd (upd wh d 116) (d + 1) 118) (upd (upd wc d (a_cdrOf p)) (d + 1) (a_carOf p)) (by omega) (by omega) (dl_psB P hp rfl o0 (hc p) (hd p) (hC p hp) (by omega) (dl_lbO PL E2))
          refine ⟨o', L', lb', dg', g', d', nv', fr', ft', top', wh', wc', hl, fun post h => ?_, fun yin hyi post h => ?_⟩
          · refine br_f (nI_ge (b := 1000) (by omega) (by decide)) ?_
            refine br_f dl_10 ?_
            unfold wX_writeGraph_63
            refine br_f dl_10 ?_
            exact xp_B (by omega) (by omega) hp (he p hp) E2 (nm_r (nI_1 s) (hX post h))
          · exact yp_inP (by omega) (by omega) w118 hp wnv (yp_M hr8 hp (fun _ => yp_B (by omega) hp (by omega) (hY yin hyi post h)) (fun z => by rw [← dl_EC hyi] at z; omega))
        · rcases PL.1 p hp with l1 | ⟨l, hl48, l1⟩
          · have o0 := PL.2 p hp (by omega) l1
            have d47 := dl_opL PO hp o0
            have dle := PO.2.1
            have gle := PO.2.2
            obtain ⟨o2, L2, dg2, l2, N⟩ := dl_number (nI g) (dl_em o L 35) dg (L + 1)
            obtain ⟨NX, NY⟩ := N (by omega)
            obtain ⟨b1, b2, b3⟩ := dl_lab g (by omega)
            obtain ⟨o', L', lb', dg', g', d', nv', fr', ft', top', wh', wc', hl, hX, hY⟩ := ih (s + 1) (dl_op op p) (dl_em (dl_em o2 L2 61) (L2 + 1) 40) (L2 + 2) (upd lb p (nI g)) dg2 (g + 1) (d + 1) 1 (a_carOf p) (upd fr d (nI p)) (upd ft d 0) (upd (upd wh d 116) (d + 1) 118) (upd (upd wc d (a_cdrOf p)) (d + 1) (a_carOf p)) (by omega) (by omega) (dl_psB P hp rfl o0 (hc p) (hd p) (hC p hp) (by omega) (dl_lbU PL (by omega)))
            refine ⟨o', L', lb', dg', g', d', nv', fr', ft', top', wh', wc', hl, fun post h => ?_, fun yin hyi post h => ?_⟩
            · refine br_f (nI_ge (b := 1000) (by omega) (by decide)) ?_
              refine br_f dl_10 ?_
              unfold wX_writeGraph_63
              refine br_f dl_10 ?_
              exact xp_C (by omega) (by omega) (by omega) hp (he p hp) E97 (by omega) l1 (fun post' h' => NX post' h') (nm_r (nI_1 s) (hX post h))
            · exact yp_inP (by omega) (by omega) w118 hp wnv (yp_M hr8 hp (fun z => by rw [← dl_EC hyi] at z; exact absurd z E2) (fun _ => yp_C (by omega) (by omega) hp (by omega) l1 (by omega) (fun post' h' => NY post' _ b1 b2 b3 h') (hY yin hyi post h)))
          · obtain ⟨o2, L2, dg2, l2, N⟩ := dl_number (nI l) (dl_em o L 35) dg (L + 1)
            obtain ⟨NX, NY⟩ := N (by omega)
            obtain ⟨b1, b2, b3⟩ := dl_lab l (by omega)
            obtain ⟨o', L', lb', dg', g', d', nv', fr', ft', top', wh', wc', hl, hX, hY⟩ := ih (s + 1) op (dl_em o2 L2 35) (L2 + 1) lb dg2 g d 0 (dl_pv p) fr ft wh wc (by omega) (by omega) (dl_psA P)
            refine ⟨o', L', lb', dg', g', d', nv', fr', ft', top', wh', wc', hl, fun post h => ?_, fun yin hyi post h => ?_⟩
            · refine br_f (nI_ge (b := 1000) (by omega) (by decide)) ?_
              refine br_f dl_10 ?_
              unfold wX_writeGraph_63
              refine br_f dl_10 ?_
              exact xp_D (by omega) (by omega) hp (he p hp) E97 (by omega) l1 hl48 (fun post' h' => NX post' h') (nm_r (nI_1 s) (hX post h))
            · exact yp_inP (by omega) (by omega) w118 hp wnv (yp_M hr8 hp (fun z => by rw [← dl_EC hyi] at z; exact absurd z E2) (fun _ => yp_D (by omega) (by omega) hp l1 hl48 (fun post' h' => NY post' _ b1 b2 b3 h') (hY yin hyi post h)))
      · obtain ⟨o2, L2, dg2, l2, N⟩ := dl_atom Vn vp o dg L
        obtain ⟨NX, NY⟩ := N (by omega)
        obtain ⟨o', L', lb', dg', g', d', nv', fr', ft', top', wh', wc', hl, hX, hY⟩ := ih (s + 1) op o2 L2 lb dg2 g d 0 nv fr ft wh wc (by omega) (by omega) (dl_psA P)
        refine ⟨o', L', lb', dg', g', d', nv', fr', ft', top', wh', wc', hl, fun post h => ?_, fun yin hyi post h => ?_⟩
        · refine br_f (nI_ge (b := 1000) (by omega) (by decide)) ?_
          refine br_f dl_10 ?_
          unfold wX_writeGraph_63
          refine br_f dl_10 ?_
          exact NX _ (nm_r (nI_1 s) (hX post h))
        · exact yp_inN (by omega) (by omega) w118 wnv vp (yp_A (fun post' h' => NY post' h') (hY yin hyi post h))
end
theorem i_vc_print {k : Nat} {u : SX} {v : SY} (I : i_Rel k u v) (hk : k + 4 ≤ 2051) (v1 : Int32) : wpX_print (fun r u' => wpY_print (fun r' v' => r' = r ∧ i_Rel (k + 4) u' v') v v1) u v1 := by
  refine zz_el (P := fun u v => wpX_print (fun r u' => wpY_print (fun r' v' => r' = r ∧ i_Rel (k + 4) u' v') v v1) u v1) ?_ I
  clear I
  intro cap limit regs len f_fault f_found f_outLen f_nextLabel f_frames f_nextValue f_scanType f_scanValue f_tokens f_place f_depth f_elems a_reg a_carOf a_cdrOf a_text a_seen a_queue a_edgeCount a_image a_origin a_out a_labelOf a_frame a_frameTail a_digits a_tokType a_tokValue a_openFirst a_openTok a_lastElem a_inTail a_elemTok a_elemNext a_elemTail a_slot a_labelTok yf_written yf_top yf_tokens ya_in ya_image ya_what ya_which ya_type ya_num ya_cell g
  try dsimp only
  obtain ⟨V1, V2, V3⟩ := dl_gV g
  obtain ⟨g1, g2, g3, g4, g5, g6, g7, _⟩ := id g
  have gR : regs < 2 ^ 31 := by omega
  by_cases hb : dl_bad regs v1
  · exact xw_printB gR hb (yw_printB gR hb ⟨rfl, zz_in g⟩)
  · obtain ⟨i, hi, rfl⟩ := dl_good gR hb
    have i8 : i < 8 := by omega
    unfold wpX_print
    refine xw_badF hi gR (br_t rfl ?_)
    refine xw_count i8 (V1 i) V2 V3 (fun seen queue m e F hE => ?_)
    refine And.intro (vp_in_nI i8 (by decide)) ?_
    rw [nI_clamp (n := i) (by omega)]
    have hC : ∀ p, p < 48 → seen p = 1 → ∀ q, q < 48 → (a_carOf p = dl_pv q ∨ a_cdrOf p = dl_pv q) → seen q = 1 := by
      intro p hp h q hq hh
      exact (F.2 q hq).mpr (dl_Rs ((F.2 p hp).mp h) hq hh)
    have P0 : dl_PS a_carOf a_cdrOf seen (a_reg i) (fun _ => 0) (dl_fill a_labelOf (-1) 48) 0 0 1 (a_reg i) a_frame a_frameTail (upd ya_what 0 118) (upd ya_which 0 (a_reg i)) := by
      refine ⟨⟨fun _ _ => Nat.zero_le _, Nat.zero_le _, Nat.zero_le _⟩, dl_ph0 (fun _ => rfl) pk_us, ⟨fun p hp => Or.inl (dl_fillI hp), fun _ _ _ _ => rfl⟩, fun i hi => absurd hi (by omega), ?_, Or.inr ⟨rfl, pk_us, pk_us⟩⟩
      intro j hj
      have : j = 0 := by omega
      subst this
      rw [pk_us]
      exact ⟨V1 i, fun p hp e => (F.2 p hp).mpr (dl_Rr hp e)⟩
    obtain ⟨o', L', lb', dg', g', d', nv', fr', ft', top', wh', wc', hl, hX, hY⟩ := dl_ploop (f_cap := nI cap) (f_limit := nI limit) (f_regs := nI regs) (f_textLen := nI len) (f_found := nI m) (a_seen := seen) (a_queue := queue) (a_edgeCount := e) (yf_cap := nI cap) (yf_limit := nI limit) (yf_regs := nI regs) (yf_length := nI len) (yf_fault := f_fault) (ya_text := a_text) (r := i) (sn := seen) i8 V2 V3 hC hE 1000 0 (fun _ => 0) a_out 0 (dl_fill a_labelOf (-1) 48) a_digits 0 0 1 (a_reg i) a_frame a_frameTail (upd ya_what 0 118) (upd ya_which 0 (a_reg i)) (by omega) (by omega) P0
    refine xp_init ⟨1001, hX _ ?_⟩
    try dsimp only
    have goY : ∀ post : Int32 → SY → Prop, (∀ inn, dl_YF a_carOf a_cdrOf (fun p => ∃ r, r < 8 ∧ i ≤ r ∧ r ≤ i ∧ a_reg r = dl_pv p) inn → wY_print_394 post (nI cap) (nI limit) (nI regs) (nI len) f_fault (nI L') (nI top') yf_tokens a_reg a_carOf a_cdrOf a_text inn ya_image o' lb' dg' wh' wc' ya_type ya_num ya_cell) → wpY_print post (nI cap, nI limit, nI regs, nI len, f_fault, yf_written, yf_top, yf_tokens, a_reg, a_carOf, a_cdrOf, a_text, ya_in, ya_image, a_out, a_labelOf, a_digits, ya_what, ya_which, ya_type, ya_num, ya_cell) (nI i) := by
      intro post h
      unfold wpY_print
      refine yw_badF hi gR (br_t rfl ?_)
      refine yw_graph (a := i) (b := i) i8 i8 V1 V2 V3 (fun inn Fy => ?_)
      have sm := dl_same (dl_xfR F (dl_rr i8)) Fy
      exact yp_init i8 ⟨1001, hY inn sm post (h inn Fy)⟩
    by_cases z : L' ≤ limit
    · refine br_t (nI_le z (by omega)) (xp_41 (by omega) ?_)
      refine goY _ (fun inn Fy => ?_)
      unfold wY_print_394
      exact br_t (nI_le z (by omega)) (yp_41 (by omega) ⟨rfl, zz_in (dl_gL g z)⟩)
    · refine br_f (nI_ge (by omega) (by omega)) ?_
      refine goY _ (fun inn Fy => ?_)
      unfold wY_print_394
      exact br_f (nI_ge (by omega) (by omega)) ⟨rfl, zz_in g⟩
end DLPL
end
section
section DLSC
/-- Y's token (t, v) and X's (xt, xv) -/
def rd_tk (t v xt xv : Int32) : Prop :=
  ((t = 40 ∨ t = 41 ∨ t = 46) ∧ xt = t ∧ xv = 0) ∨ (t = 97 ∧ xt = 97 ∧ xv = v * 4 + 2) ∨ (t = 48 ∧ xt = 97 ∧ xv = v * 4 + 1) ∨ ((t = 61 ∨ t = 35) ∧ xt = t ∧ xv = v ∧ ∃ q, q < 100 ∧ v = nI q)
theorem dl_uu {f : Nat → Int32} {k : Nat} {x y : Int32} : upd (upd f k x) k y = upd f k y := by
  funext i
  by_cases e : i = k
  · rw [e, pk_us, pk_us]
  · rw [pk_un e, pk_un e, pk_un e]
theorem rd_as (a b c : Int32) : a + b - c = a + (b - c) := by
  rw [Int32.sub_eq_add_neg, Int32.sub_eq_add_neg, Int32.add_assoc]
theorem rd_run (P : Int32 → Prop) (tx : Nat → Int32) {a len : Nat} (h : a ≤ len) : ∃ E, a ≤ E ∧ E ≤ len ∧ (∀ i, a ≤ i → i < E → P (tx i)) ∧ (E < len → ¬ P (tx E)) := by
  obtain ⟨E, ⟨h1, h2⟩, h3⟩ := pk_least (fun e => a ≤ e ∧ (e = len ∨ ¬ P (tx e))) ⟨len, h, Or.inl rfl⟩
  have hE : E ≤ len := by
    apply Classical.byContradiction
    intro z
    exact h3 len (by omega) ⟨h, Or.inl rfl⟩
  refine ⟨E, h1, hE, fun i hi hi2 => ?_, fun z => ?_⟩
  · apply Classical.byContradiction
    intro hn
    exact h3 i hi2 ⟨hi, Or.inr hn⟩
  · rcases h2 with h2 | h2
    · omega
    · exact h2
theorem rd_diN {c : Int32} (h : dl_di c) : ∃ d, d < 10 ∧ c = nI (48 + d) := by
  have h0 : ¬ c < 0 := fun z => h.1 (Int32.lt_trans z (by decide))
  obtain ⟨j, hj, rfl⟩ := nI_of h0
  have a : ¬ j < 48 := fun z => h.1 (nI_lt (b := 48) z (by decide))
  have b : ¬ 57 < j := fun z => h.2 (nI_lt (a := 57) z hj)
  exact ⟨j - 48, by omega, by rw [show 48 + (j - 48) = j from by omega]⟩
def rd_f10 (tx : Nat → Int32) (s : Nat) : Nat → Int32
  | 0 => 0
  | n + 1 => rd_f10 tx s n * 10 + (tx (s + n) - 48)
def rd_f26 (tx : Nat → Int32) (s : Nat) : Nat → Int32
  | 0 => 0
  | n + 1 => rd_f26 tx s n * 26 + ((tx (s + n) - 97) + 1)
theorem rd_d48 (d : Nat) : nI (48 + d) - 48 = nI d := by
  have := pk_sub (a := 48 + d) (b := 48) (by omega)
  rw [show 48 + d - 48 = d from by omega] at this
  exact this
theorem rd_lab100 {tx : Nat → Int32} {s c : Nat} (h1 : 1 ≤ c) (h2 : c ≤ 2) (h : ∀ i, s ≤ i → i < s + c → dl_di (tx i)) : ∃ q, q < 100 ∧ rd_f10 tx s c = nI q := by
  obtain ⟨d, hd, e⟩ := rd_diN (h s (by omega) (by omega))
  have a : rd_f10 tx s 1 = nI d := by
    show 0 * 10 + (tx (s + 0) - 48) = nI d
    rw [Nat.add_zero, e, rd_d48, Int32.zero_mul, Int32.zero_add]
  by_cases z : c = 1
  · rw [z]; exact ⟨d, by omega, a⟩
  · have : c = 2 := by omega
    subst this
    obtain ⟨d2, hd2, e2⟩ := rd_diN (h (s + 1) (by omega) (by omega))
    refine ⟨d * 10 + d2, by omega, ?_⟩
    show rd_f10 tx s 1 * 10 + (tx (s + 1) - 48) = _
    rw [a, e2, rd_d48]
    show nI d * nI 10 + nI d2 = _
    rw [pk_mul, nI_add]
/-! the label's run of digits -/
def rd_GL (tx : Nat → Int32) (len pos E : Nat) : Prop := 1 ≤ E - (pos + 1) ∧ E - (pos + 1) ≤ 2 ∧ E < len ∧ (tx E = 61 ∨ tx E = 35)
section
variable {f_cap f_limit f_regs f_textLen f_fault f_found f_outLen f_nextLabel f_frames f_nextValue f_scanType f_scanValue f_tokens f_place f_depth f_elems : Int32} {a_reg a_carOf a_cdrOf a_text a_seen a_queue a_edgeCount a_image a_origin a_out a_labelOf a_frame a_frameTail a_digits a_tokType a_tokValue a_openFirst a_openTok a_lastElem a_inTail a_elemTok a_elemNext a_elemTail a_slot a_labelTok : Nat → Int32}
variable {yf_cap yf_limit yf_regs yf_length yf_fault yf_written yf_top yf_tokens : Int32} {ya_reg ya_heads ya_tails ya_text ya_in ya_image ya_out ya_label ya_spell ya_what ya_which ya_type ya_num ya_cell : Nat → Int32}
variable {len pos E : Nat}
theorem xs_label {post : Int32 → SX → Prop} (hlen : len ≤ 256) (hp : pos < len) (h1 : pos + 1 ≤ E) (h2 : E ≤ len) (h3 : ∀ i, pos + 1 ≤ i → i < E → dl_di (a_text i)) (h4 : E < len → ¬ dl_di (a_text E))
    (hg : rd_GL a_text len pos E → post (nI (E + 1)) (f_cap, f_limit, f_regs, nI len, f_fault, f_found, f_outLen, f_nextLabel, f_frames, f_nextValue, a_text E, rd_f10 a_text (pos + 1) (E - (pos + 1)), f_tokens, f_place, f_depth, f_elems, a_reg, a_carOf, a_cdrOf, a_text, a_seen, a_queue, a_edgeCount, a_image, a_origin, a_out, a_labelOf, a_frame, a_frameTail, a_digits, a_tokType, a_tokValue, a_openFirst, a_openTok, a_lastElem, a_inTail, a_elemTok, a_elemNext, a_elemTail, a_slot, a_labelTok)) (hb : ¬ rd_GL a_text len pos E → post (-1) (f_cap, f_limit, f_regs, nI len, f_fault, f_found, f_outLen, f_nextLabel, f_frames, f_nextValue, f_scanType, f_scanValue, f_tokens, f_place, f_depth, f_elems, a_reg, a_carOf, a_cdrOf, a_text, a_seen, a_queue, a_edgeCount, a_image, a_origin, a_out, a_labelOf, a_frame, a_frameTail, a_digits, a_tokType, a_tokValue, a_openFirst, a_openTok, a_lastElem, a_inTail, a_elemTok, a_elemNext, a_elemTail, a_slot, a_labelTok)) :
    wpX_scanLabel post (f_cap, f_limit, f_regs, nI len, f_fault, f_found, f_outLen, f_nextLabel, f_frames, f_nextValue, f_scanType, f_scanValue, f_tokens, f_place, f_depth, f_elems, a_reg, a_carOf, a_cdrOf, a_text, a_seen, a_queue, a_edgeCount, a_image, a_origin, a_out, a_labelOf, a_frame, a_frameTail, a_digits, a_tokType, a_tokValue, a_openFirst, a_openTok, a_lastElem, a_inTail, a_elemTok, a_elemNext, a_elemTail, a_slot, a_labelTok) (nI pos) := by
  have K89 : rd_GL a_text len pos E → ∀ n j, 260 ≤ n + j → pos + 1 + j ≤ E → wX_scanLabel_89 post (nI E) f_cap f_limit f_regs (nI len) f_fault f_found f_outLen f_nextLabel f_frames f_nextValue f_scanType f_scanValue f_tokens f_place f_depth f_elems a_reg a_carOf a_cdrOf a_text a_seen a_queue a_edgeCount a_image a_origin a_out a_labelOf a_frame a_frameTail a_digits a_tokType a_tokValue a_openFirst a_openTok a_lastElem a_inTail a_elemTok a_elemNext a_elemTail a_slot a_labelTok n (rd_f10 a_text (pos + 1) j) (nI (pos + 1 + j)) := by
    intro G n
    induction n with
    | zero => intro j a b; omega
    | succ n ih =>
      intro j a b
      by_cases e : pos + 1 + j = E
      · have e2 : j = E - (pos + 1) := by omega
        subst e2
        refine br_t (nI_le (by omega) (by omega)) ⟨vp_in_nI (by have := G.2.2.1; omega) (by decide), nm_r (e' := a_text E) (by rw [nI_clamp (by omega)]) ?_⟩
        rw [nI_1]
        exact hg G
      · refine br_f (nI_ge (by omega) (by omega)) ⟨vp_in_nI (by omega) (by decide), nm_r (e' := rd_f10 a_text (pos + 1) (j + 1)) (by rw [nI_clamp (by omega)]; rfl) (nm_r (nI_1 _) ?_)⟩
        exact ih (j + 1) (by omega) (by omega)
  have K31 : wX_scanLabel_31 post (nI pos) (nI E) f_cap f_limit f_regs (nI len) f_fault f_found f_outLen f_nextLabel f_frames f_nextValue f_scanType f_scanValue f_tokens f_place f_depth f_elems a_reg a_carOf a_cdrOf a_text a_seen a_queue a_edgeCount a_image a_origin a_out a_labelOf a_frame a_frameTail a_digits a_tokType a_tokValue a_openFirst a_openTok a_lastElem a_inTail a_elemTok a_elemNext a_elemTail a_slot a_labelTok := by
    unfold wX_scanLabel_31
    rw [pk_sub (by omega), nI_1 pos]
    refine nm_r (e' := nI (E - (pos + 1))) (by rw [dl_s1 (by omega)]; exact congrArg nI (by omega)) ?_
    by_cases c1 : E - (pos + 1) < 1
    · exact br_t (nI_lt (b := 1) c1 (by decide)) (hb (fun G => by have := G.1; omega))
    · refine br_f (nI_nlt (b := 1) (by omega) (by omega)) ?_
      by_cases c2 : 2 < E - (pos + 1)
      · exact br_t (nI_lt (a := 2) c2 (by omega)) (hb (fun G => by have := G.2.1; omega))
      · refine br_f (nI_nlt (a := 2) (by omega) (by omega)) ?_
        by_cases c3 : E < len
        · refine br_t (nI_lt c3 (by omega)) ⟨vp_in_nI (by omega) (by decide), ?_⟩
          rw [nI_clamp (n := E) (by omega)]
          by_cases c4 : a_text E = 61
          · exact br_t c4 (nm_e ⟨260, K89 ⟨by omega, by omega, c3, Or.inl c4⟩ 260 0 (by omega) (by omega)⟩)
          · refine br_f c4 ⟨vp_in_nI (by omega) (by decide), ?_⟩
            by_cases c5 : a_text E = 35
            · exact br_t c5 (nm_e ⟨260, K89 ⟨by omega, by omega, c3, Or.inr c5⟩ 260 0 (by omega) (by omega)⟩)
            · refine br_f c5 (hb (fun G => ?_))
              rcases G.2.2.2 with z | z
              · exact c4 z
              · exact c5 z
        · exact br_f (nI_nlt (by omega) (by omega)) (hb (fun G => by have := G.2.2.1; omega))
  have K4 : ∀ n i, 260 ≤ n + i → pos + 1 ≤ i → i ≤ E → wX_scanLabel_4 post (nI pos) f_cap f_limit f_regs (nI len) f_fault f_found f_outLen f_nextLabel f_frames f_nextValue f_scanType f_scanValue f_tokens f_place f_depth f_elems a_reg a_carOf a_cdrOf a_text a_seen a_queue a_edgeCount a_image a_origin a_out a_labelOf a_frame a_frameTail a_digits a_tokType a_tokValue a_openFirst a_openTok a_lastElem a_inTail a_elemTok a_elemNext a_elemTail a_slot a_labelTok n (nI i) := by
    intro n
    induction n with
    | zero => intro i a b c; omega
    | succ n ih =>
      intro i a b c
      by_cases e : i = len
      · have : i = E := by omega
        subst this
        exact br_t (nI_le (by omega) (by omega)) K31
      · refine br_f (nI_ge (by omega) (by omega)) ⟨vp_in_nI (by omega) (by decide), ?_⟩
        rw [nI_clamp (n := i) (by omega)]
        by_cases e2 : i = E
        · subst e2
          exact xw_digit (fun z => absurd z (h4 (by omega))) (fun _ => br_t rfl K31)
        · exact xw_digit (fun _ => br_f dl_10 (nm_r (nI_1 i) (ih (i + 1) (by omega) (by omega) (by omega)))) (fun z => absurd (h3 i b (by omega)) z)
  unfold wpX_scanLabel
  exact nm_r (nI_1 pos) ⟨260, K4 260 (pos + 1) (by omega) (by omega) h1⟩
theorem ys_label {post : Int32 → SY → Prop} {k : Nat} {ty nu : Nat → Int32} (hk : k < 260) (hlen : len ≤ 256) (hp : pos < len) (h1 : pos + 1 ≤ E) (h2 : E ≤ len) (h3 : ∀ i, pos + 1 ≤ i → i < E → dl_di (ya_text i)) (h4 : E < len → ¬ dl_di (ya_text E))
    (hg : rd_GL ya_text len pos E → post (nI (E + 1)) (yf_cap, yf_limit, yf_regs, nI len, yf_fault, yf_written, yf_top, yf_tokens, ya_reg, ya_heads, ya_tails, ya_text, ya_in, ya_image, ya_out, ya_label, ya_spell, ya_what, ya_which, upd ty k (ya_text E), upd nu k (rd_f10 ya_text (pos + 1) (E - (pos + 1))), ya_cell)) (hb : ¬ rd_GL ya_text len pos E → post (nI (E + 1)) (yf_cap, yf_limit, yf_regs, nI len, yf_fault, yf_written, yf_top, yf_tokens, ya_reg, ya_heads, ya_tails, ya_text, ya_in, ya_image, ya_out, ya_label, ya_spell, ya_what, ya_which, upd ty k 0, upd nu k (rd_f10 ya_text (pos + 1) (E - (pos + 1))), ya_cell)) :
    ∃ n, wY_scan_70 post (nI pos) (nI k) yf_cap yf_limit yf_regs (nI len) yf_fault yf_written yf_top yf_tokens n (nI (pos + 1)) ya_reg ya_heads ya_tails ya_text ya_in ya_image ya_out ya_label ya_spell ya_what ya_which (upd ty k 0) (upd nu k 0) ya_cell := by
  have K178 : rd_GL ya_text len pos E → wY_scan_178 post (nI k) (nI E) yf_cap yf_limit yf_regs (nI len) yf_fault yf_written yf_top yf_tokens ya_reg ya_heads ya_tails ya_text ya_in ya_image ya_out ya_label ya_spell ya_what ya_which (upd ty k 0) (upd nu k (rd_f10 ya_text (pos + 1) (E - (pos + 1)))) ya_cell := by
    intro G
    have := G.2.2.1
    unfold wY_scan_178
    rw [nI_clamp (n := E) (by omega), nI_clamp (n := k) (by omega), dl_uu, nI_1]
    exact ⟨vp_in_nI (by omega) (by decide), vp_in_nI hk (by decide), nm_e (hg G)⟩
  have K125 : wY_scan_125 post (nI pos) (nI k) (nI E) yf_cap yf_limit yf_regs (nI len) yf_fault yf_written yf_top yf_tokens ya_reg ya_heads ya_tails ya_text ya_in ya_image ya_out ya_label ya_spell ya_what ya_which (upd ty k 0) (upd nu k (rd_f10 ya_text (pos + 1) (E - (pos + 1)))) ya_cell := by
    unfold wY_scan_125
    rw [pk_sub (by omega), nI_1 E]
    refine nm_r (e' := nI (E - (pos + 1))) (by rw [dl_s1 (by omega)]; exact congrArg nI (by omega)) ?_
    by_cases c1 : E - (pos + 1) < 1
    · exact br_t (nI_lt (b := 1) c1 (by decide)) (hb (fun G => by have := G.1; omega))
    · refine br_f (nI_nlt (b := 1) (by omega) (by omega)) ?_
      by_cases c2 : 2 < E - (pos + 1)
      · exact br_t (nI_lt (a := 2) c2 (by omega)) (hb (fun G => by have := G.2.1; omega))
      · refine br_f (nI_nlt (a := 2) (by omega) (by omega)) ?_
        by_cases c3 : E < len
        · refine br_f (nI_ge c3 (by omega)) ⟨vp_in_nI (by omega) (by decide), ?_⟩
          rw [nI_clamp (n := E) (by omega)]
          by_cases c4 : ya_text E = 61
          · exact br_t c4 (K178 ⟨by omega, by omega, c3, Or.inl c4⟩)
          · refine br_f c4 ⟨vp_in_nI (by omega) (by decide), ?_⟩
            by_cases c5 : ya_text E = 35
            · exact br_t c5 (K178 ⟨by omega, by omega, c3, Or.inr c5⟩)
            · refine br_f c5 (hb (fun G => ?_))
              rcases G.2.2.2 with z | z
              · exact c4 z
              · exact c5 z
        · exact br_t (nI_le (by omega) (by omega)) (hb (fun G => by have := G.2.2.1; omega))
  have K70 : ∀ n j, 260 ≤ n + (pos + 1 + j) → pos + 1 + j ≤ E → wY_scan_70 post (nI pos) (nI k) yf_cap yf_limit yf_regs (nI len) yf_fault yf_written yf_top yf_tokens n (nI (pos + 1 + j)) ya_reg ya_heads ya_tails ya_text ya_in ya_image ya_out ya_label ya_spell ya_what ya_which (upd ty k 0) (upd nu k (rd_f10 ya_text (pos + 1) j)) ya_cell := by
    intro n
    induction n with
    | zero => intro j a b; omega
    | succ n ih =>
      intro j a b
      by_cases e : pos + 1 + j = len
      · have e2 : j = E - (pos + 1) := by omega
        subst e2
        refine br_t (nI_le (by omega) (by omega)) ?_
        rw [show pos + 1 + (E - (pos + 1)) = E from by omega]
        exact K125
      · refine br_f (nI_ge (by omega) (by omega)) ⟨vp_in_nI (by omega) (by decide), ?_⟩
        rw [nI_clamp (n := pos + 1 + j) (by omega), nI_clamp (n := k) (by omega)]
        by_cases e2 : pos + 1 + j = E
        · have e3 : j = E - (pos + 1) := by omega
          subst e3
          rw [e2]
          exact yw_digit (fun z => absurd z (h4 (by omega))) (fun _ => br_t rfl K125)
        · refine yw_digit (fun _ => br_f dl_10 ?_) (fun z => absurd (h3 _ (by omega) (by omega)) z)
          refine ⟨vp_in_nI hk (by decide), vp_in_nI (by omega) (by decide), vp_in_nI hk (by decide), nm_r (e' := upd nu k (rd_f10 ya_text (pos + 1) (j + 1))) ?_ (nm_r (nI_1 _) (ih (j + 1) (by omega) (by omega)))⟩
          rw [dl_uu, pk_us, rd_as]
          rfl
  exact ⟨260, K70 260 0 (by omega) (by omega)⟩
end
end DLSC
end
section
section DLWD
def rd_leN (c : Int32) : Nat := if c < 97 then 0 else if 122 < c then 0 else 1
def rd_diC (c : Int32) : Nat := if c < 48 then 0 else if 57 < c then 0 else 1
theorem rd_leT {c : Int32} (h : dl_le c) : rd_leN c = 1 := by unfold rd_leN; rw [if_neg h.1, if_neg h.2]
theorem rd_leF {c : Int32} (h : ¬ dl_le c) : rd_leN c = 0 := by
  unfold rd_leN
  by_cases a : c < 97
  · rw [if_pos a]
  · rw [if_neg a]
    by_cases b : 122 < c
    · rw [if_pos b]
    · exact absurd ⟨a, b⟩ h
theorem rd_diT {c : Int32} (h : dl_di c) : rd_diC c = 1 := by unfold rd_diC; rw [if_neg h.1, if_neg h.2]
theorem rd_diF {c : Int32} (h : ¬ dl_di c) : rd_diC c = 0 := by
  unfold rd_diC
  by_cases a : c < 48
  · rw [if_pos a]
  · rw [if_neg a]
    by_cases b : 57 < c
    · rw [if_pos b]
    · exact absurd ⟨a, b⟩ h
theorem rd_ld {c : Int32} (h : dl_le c) : ¬ dl_di c := fun d => h.1 (Int32.lt_of_le_of_lt (Int32.not_lt.mp d.2) (by decide))
theorem rd_l45 {c : Int32} (h : dl_le c) : ¬ c = 45 := fun e => h.1 (by rw [e]; decide)
theorem rd_d45 {c : Int32} (h : dl_di c) : ¬ c = 45 := fun e => h.1 (by rw [e]; decide)
theorem rd_le1 (c : Int32) : rd_leN c ≤ 1 := by unfold rd_leN; split; omega; split <;> omega
theorem rd_di1 (c : Int32) : rd_diC c ≤ 1 := by unfold rd_diC; split; omega; split <;> omega
theorem rd_ld1 (c : Int32) : rd_leN c + rd_diC c ≤ 1 := by
  by_cases h : dl_le c
  · rw [rd_leT h, rd_diF (rd_ld h)]; omega
  · rw [rd_leF h]; have := rd_di1 c; omega
def rd_lc (tx : Nat → Int32) (s : Nat) : Nat → Nat := dl_sm (fun j => rd_leN (tx (s + j)))
def rd_dc (tx : Nat → Int32) (s : Nat) : Nat → Nat := dl_sm (fun j => rd_diC (tx (s + j)))
theorem rd_smI {g : Nat → Nat} : ∀ n, (∀ i, i < n → g i ≤ 1) → dl_sm g n = n → ∀ i, i < n → g i = 1 := by
  intro n h e i hi
  apply Classical.byContradiction
  intro z
  have := dl_smL (g := g) n h hi (by have := h i hi; omega)
  omega
theorem rd_smE {g : Nat → Nat} (n : Nat) (h : ∀ i, i < n → g i = 1) : dl_sm g n = n := by
  rw [dl_smC (g := g) (g' := fun _ => 1) n h, dl_sm1]
theorem rd_lcdc {tx : Nat → Int32} {s n : Nat} : rd_lc tx s n + rd_dc tx s n ≤ n := by
  unfold rd_lc rd_dc
  rw [← dl_smA]
  have := dl_smB (g := fun i => rd_leN (tx (s + i)) + rd_diC (tx (s + i))) (c := 1) n (fun i _ => rd_ld1 _)
  omega
def rd_yn (tx : Nat → Int32) (s : Nat) : Nat → Int32
  | 0 => 0
  | n + 1 => if rd_leN (tx (s + n)) = 1 then rd_yn tx s n * 26 + ((tx (s + n) - 97) + 1) else if rd_diC (tx (s + n)) = 1 then rd_yn tx s n * 10 + (tx (s + n) - 48) else rd_yn tx s n
theorem rd_ynL {tx : Nat → Int32} {s n : Nat} (h : dl_le (tx (s + n))) : rd_yn tx s (n + 1) = rd_yn tx s n * 26 + ((tx (s + n) - 97) + 1) := if_pos (rd_leT h)
theorem rd_ynD {tx : Nat → Int32} {s n : Nat} (h : dl_di (tx (s + n))) : rd_yn tx s (n + 1) = rd_yn tx s n * 10 + (tx (s + n) - 48) := by
  have a : ¬ rd_leN (tx (s + n)) = 1 := by rw [rd_leF (fun l => rd_ld l h)]; omega
  show (if _ then _ else _) = _
  rw [if_neg a, if_pos (rd_diT h)]
theorem rd_ynN {tx : Nat → Int32} {s n : Nat} (h : ¬ dl_le (tx (s + n))) (h2 : ¬ dl_di (tx (s + n))) : rd_yn tx s (n + 1) = rd_yn tx s n := by
  have a : ¬ rd_leN (tx (s + n)) = 1 := by rw [rd_leF h]; omega
  have b : ¬ rd_diC (tx (s + n)) = 1 := by rw [rd_diF h2]; omega
  show (if _ then _ else _) = _
  rw [if_neg a, if_neg b]
theorem rd_yn26 {tx : Nat → Int32} {s : Nat} : ∀ n, (∀ i, i < n → dl_le (tx (s + i))) → rd_yn tx s n = rd_f26 tx s n := by
  intro n
  induction n with
  | zero => intro _; rfl
  | succ n ih =>
    intro h
    rw [rd_ynL (h n (by omega)), ih (fun i hi => h i (by omega))]
    rfl
theorem rd_yn10 {tx : Nat → Int32} {s : Nat} : ∀ n, (∀ i, i < n → dl_di (tx (s + i))) → rd_yn tx s n = rd_f10 tx s n := by
  intro n
  induction n with
  | zero => intro _; rfl
  | succ n ih =>
    intro h
    rw [rd_ynD (h n (by omega)), ih (fun i hi => h i (by omega))]
    rfl
theorem rd_yn10m {tx : Nat → Int32} {s : Nat} (h0 : tx s = 45) : ∀ n, (∀ i, i < n → dl_di (tx (s + 1 + i))) → rd_yn tx s (n + 1) = rd_f10 tx (s + 1) n := by
  intro n
  induction n with
  | zero =>
    intro _
    have e : rd_yn tx s 1 = rd_yn tx s 0 := rd_ynN (n := 0) (by rw [Nat.add_zero, h0]; exact fun l => rd_l45 l rfl) (by rw [Nat.add_zero, h0]; exact fun l => rd_d45 l rfl)
    exact e
  | succ n ih =>
    intro h
    have a : s + (n + 1) = s + 1 + n := by omega
    rw [rd_ynD (n := n + 1) (by rw [a]; exact h n (by omega)), ih (fun i hi => h i (by omega)), a]
    rfl
def rd_GS (tx : Nat → Int32) (pos E : Nat) : Prop := E - pos ≤ 4 ∧ ∀ i, pos ≤ i → i < E → dl_le (tx i)
def rd_GI (tx : Nat → Int32) (f E : Nat) : Prop := 1 ≤ E - f ∧ E - f ≤ 5 ∧ ∀ i, f ≤ i → i < E → dl_di (tx i)
section
variable {f_cap f_limit f_regs f_textLen f_fault f_found f_outLen f_nextLabel f_frames f_nextValue f_scanType f_scanValue f_tokens f_place f_depth f_elems : Int32} {a_reg a_carOf a_cdrOf a_text a_seen a_queue a_edgeCount a_image a_origin a_out a_labelOf a_frame a_frameTail a_digits a_tokType a_tokValue a_openFirst a_openTok a_lastElem a_inTail a_elemTok a_elemNext a_elemTail a_slot a_labelTok : Nat → Int32}
variable {len pos E : Nat}
theorem xs_sym {post : Int32 → SX → Prop} (hE : E ≤ 256) (hp : pos < E)
    (hg : rd_GS a_text pos E → post (nI E) (f_cap, f_limit, f_regs, f_textLen, f_fault, f_found, f_outLen, f_nextLabel, f_frames, f_nextValue, f_scanType, rd_f26 a_text pos (E - pos) * 4 + 2, f_tokens, f_place, f_depth, f_elems, a_reg, a_carOf, a_cdrOf, a_text, a_seen, a_queue, a_edgeCount, a_image, a_origin, a_out, a_labelOf, a_frame, a_frameTail, a_digits, a_tokType, a_tokValue, a_openFirst, a_openTok, a_lastElem, a_inTail, a_elemTok, a_elemNext, a_elemTail, a_slot, a_labelTok)) (hb : ¬ rd_GS a_text pos E → post (-1) (f_cap, f_limit, f_regs, f_textLen, f_fault, f_found, f_outLen, f_nextLabel, f_frames, f_nextValue, f_scanType, f_scanValue, f_tokens, f_place, f_depth, f_elems, a_reg, a_carOf, a_cdrOf, a_text, a_seen, a_queue, a_edgeCount, a_image, a_origin, a_out, a_labelOf, a_frame, a_frameTail, a_digits, a_tokType, a_tokValue, a_openFirst, a_openTok, a_lastElem, a_inTail, a_elemTok, a_elemNext, a_elemTail, a_slot, a_labelTok)) : wpX_scanSymbol post (f_cap, f_limit, f_regs, f_textLen, f_fault, f_found, f_outLen, f_nextLabel, f_frames, f_nextValue, f_scanType, f_scanValue, f_tokens, f_place, f_depth, f_elems, a_reg, a_carOf, a_cdrOf, a_text, a_seen, a_queue, a_edgeCount, a_image, a_origin, a_out, a_labelOf, a_frame, a_frameTail, a_digits, a_tokType, a_tokValue, a_openFirst, a_openTok, a_lastElem, a_inTail, a_elemTok, a_elemNext, a_elemTail, a_slot, a_labelTok) (nI pos) (nI E) := by
  unfold wpX_scanSymbol
  rw [pk_sub (by omega)]
  by_cases c1 : E - pos ≤ 4
  · refine br_t (nI_le (b := 4) c1 (by decide)) ⟨260, ?_⟩
    have K : ∀ n j, 260 ≤ n + j → pos + j ≤ E → (∀ i, pos ≤ i → i < pos + j → dl_le (a_text i)) → wX_scanSymbol_14 post (nI E) f_cap f_limit f_regs f_textLen f_fault f_found f_outLen f_nextLabel f_frames f_nextValue f_scanType f_scanValue f_tokens f_place f_depth f_elems a_reg a_carOf a_cdrOf a_text a_seen a_queue a_edgeCount a_image a_origin a_out a_labelOf a_frame a_frameTail a_digits a_tokType a_tokValue a_openFirst a_openTok a_lastElem a_inTail a_elemTok a_elemNext a_elemTail a_slot a_labelTok n (rd_f26 a_text pos j) (nI (pos + j)) := by
      intro n
      induction n with
      | zero => intro j a b; omega
      | succ n ih =>
        intro j a b h
        by_cases e : pos + j = E
        · have e2 : j = E - pos := by omega
          subst e2
          refine br_t (nI_le (by omega) (by omega)) (nm_e (hg ⟨c1, fun i hi hi2 => h i hi (by omega)⟩))
        · refine br_f (nI_ge (by omega) (by omega)) ⟨vp_in_nI (by omega) (by decide), ?_⟩
          rw [nI_clamp (n := pos + j) (by omega)]
          refine xw_letter (fun z => br_f dl_10 ⟨vp_in_nI (by omega) (by decide), nm_r (e' := rd_f26 a_text pos (j + 1)) rfl (nm_r (nI_1 _) (ih (j + 1) (by omega) (by omega) ?_))⟩) (fun z => br_t rfl (hb (fun G => z (G.2 _ (by omega) (by omega)))))
          intro i hi hi2
          by_cases e3 : i = pos + j
          · rw [e3]; exact z
          · exact h i hi (by omega)
    exact K 260 0 (by omega) (by omega) (fun i hi hi2 => by omega)
  · exact br_f (nI_ge (a := 4) (by omega) (by omega)) (hb (fun G => c1 G.1))
theorem xs_int27 {post : Int32 → SX → Prop} {f : Nat} {x3 : Int32} (hE : E ≤ 256) (hf : f ≤ E)
    (hg : rd_GI a_text f E → post (nI E) (f_cap, f_limit, f_regs, f_textLen, f_fault, f_found, f_outLen, f_nextLabel, f_frames, f_nextValue, f_scanType, (if x3 = 0 then rd_f10 a_text f (E - f) else -rd_f10 a_text f (E - f)) * 4 + 1, f_tokens, f_place, f_depth, f_elems, a_reg, a_carOf, a_cdrOf, a_text, a_seen, a_queue, a_edgeCount, a_image, a_origin, a_out, a_labelOf, a_frame, a_frameTail, a_digits, a_tokType, a_tokValue, a_openFirst, a_openTok, a_lastElem, a_inTail, a_elemTok, a_elemNext, a_elemTail, a_slot, a_labelTok)) (hb : ¬ rd_GI a_text f E → post (-1) (f_cap, f_limit, f_regs, f_textLen, f_fault, f_found, f_outLen, f_nextLabel, f_frames, f_nextValue, f_scanType, f_scanValue, f_tokens, f_place, f_depth, f_elems, a_reg, a_carOf, a_cdrOf, a_text, a_seen, a_queue, a_edgeCount, a_image, a_origin, a_out, a_labelOf, a_frame, a_frameTail, a_digits, a_tokType, a_tokValue, a_openFirst, a_openTok, a_lastElem, a_inTail, a_elemTok, a_elemNext, a_elemTail, a_slot, a_labelTok)) : wX_scanInteger_27 post (nI E) x3 (nI f) f_cap f_limit f_regs f_textLen f_fault f_found f_outLen f_nextLabel f_frames f_nextValue f_scanType f_scanValue f_tokens f_place f_depth f_elems a_reg a_carOf a_cdrOf a_text a_seen a_queue a_edgeCount a_image a_origin a_out a_labelOf a_frame a_frameTail a_digits a_tokType a_tokValue a_openFirst a_openTok a_lastElem a_inTail a_elemTok a_elemNext a_elemTail a_slot a_labelTok := by
  unfold wX_scanInteger_27
  rw [pk_sub (by omega)]
  by_cases c0 : E - f < 1
  · exact br_t (nI_lt (b := 1) c0 (by decide)) (hb (fun G => by have := G.1; omega))
  · refine br_f (nI_nlt (b := 1) (by omega) (by omega)) ?_
    by_cases c1 : E - f ≤ 5
    · refine br_t (nI_le (b := 5) c1 (by decide)) ⟨260, ?_⟩
      have K : ∀ n j, 260 ≤ n + j → f + j ≤ E → (∀ i, f ≤ i → i < f + j → dl_di (a_text i)) → wX_scanInteger_52 post (nI E) x3 f_cap f_limit f_regs f_textLen f_fault f_found f_outLen f_nextLabel f_frames f_nextValue f_scanType f_scanValue f_tokens f_place f_depth f_elems a_reg a_carOf a_cdrOf a_text a_seen a_queue a_edgeCount a_image a_origin a_out a_labelOf a_frame a_frameTail a_digits a_tokType a_tokValue a_openFirst a_openTok a_lastElem a_inTail a_elemTok a_elemNext a_elemTail a_slot a_labelTok n (rd_f10 a_text f j) (nI (f + j)) := by
        intro n
        induction n with
        | zero => intro j a b; omega
        | succ n ih =>
          intro j a b h
          by_cases e : f + j = E
          · have e2 : j = E - f := by omega
            subst e2
            have G := hg ⟨by omega, c1, fun i hi hi2 => h i hi (by omega)⟩
            refine br_t (nI_le (by omega) (by omega)) ?_
            by_cases z : x3 = 0
            · rw [if_pos z] at G
              refine br_t z ?_
              unfold wX_scanInteger_107
              exact nm_e G
            · rw [if_neg z] at G
              refine br_f z (nm_e ?_)
              unfold wX_scanInteger_107
              exact nm_e G
          · refine br_f (nI_ge (by omega) (by omega)) ⟨vp_in_nI (by omega) (by decide), ?_⟩
            rw [nI_clamp (n := f + j) (by omega)]
            refine xw_digit (fun z => br_f dl_10 ⟨vp_in_nI (by omega) (by decide), nm_r (e' := rd_f10 a_text f (j + 1)) rfl (nm_r (nI_1 _) (ih (j + 1) (by omega) (by omega) ?_))⟩) (fun z => br_t rfl (hb (fun G => z (G.2.2 _ (by omega) (by omega)))))
            intro i hi hi2
            by_cases e3 : i = f + j
            · rw [e3]; exact z
            · exact h i hi (by omega)
      exact K 260 0 (by omega) (by omega) (fun i hi hi2 => by omega)
    · exact br_f (nI_ge (a := 5) (by omega) (by omega)) (hb (fun G => c1 G.2.1))
theorem xs_int {post : Int32 → SX → Prop} (hE : E ≤ 256) (hp : pos < E)
    (hm : a_text pos = 45 → rd_GI a_text (pos + 1) E → post (nI E) (f_cap, f_limit, f_regs, f_textLen, f_fault, f_found, f_outLen, f_nextLabel, f_frames, f_nextValue, f_scanType, -rd_f10 a_text (pos + 1) (E - (pos + 1)) * 4 + 1, f_tokens, f_place, f_depth, f_elems, a_reg, a_carOf, a_cdrOf, a_text, a_seen, a_queue, a_edgeCount, a_image, a_origin, a_out, a_labelOf, a_frame, a_frameTail, a_digits, a_tokType, a_tokValue, a_openFirst, a_openTok, a_lastElem, a_inTail, a_elemTok, a_elemNext, a_elemTail, a_slot, a_labelTok)) (hmb : a_text pos = 45 → ¬ rd_GI a_text (pos + 1) E → post (-1) (f_cap, f_limit, f_regs, f_textLen, f_fault, f_found, f_outLen, f_nextLabel, f_frames, f_nextValue, f_scanType, f_scanValue, f_tokens, f_place, f_depth, f_elems, a_reg, a_carOf, a_cdrOf, a_text, a_seen, a_queue, a_edgeCount, a_image, a_origin, a_out, a_labelOf, a_frame, a_frameTail, a_digits, a_tokType, a_tokValue, a_openFirst, a_openTok, a_lastElem, a_inTail, a_elemTok, a_elemNext, a_elemTail, a_slot, a_labelTok))
    (hg : ¬ a_text pos = 45 → rd_GI a_text pos E → post (nI E) (f_cap, f_limit, f_regs, f_textLen, f_fault, f_found, f_outLen, f_nextLabel, f_frames, f_nextValue, f_scanType, rd_f10 a_text pos (E - pos) * 4 + 1, f_tokens, f_place, f_depth, f_elems, a_reg, a_carOf, a_cdrOf, a_text, a_seen, a_queue, a_edgeCount, a_image, a_origin, a_out, a_labelOf, a_frame, a_frameTail, a_digits, a_tokType, a_tokValue, a_openFirst, a_openTok, a_lastElem, a_inTail, a_elemTok, a_elemNext, a_elemTail, a_slot, a_labelTok)) (hb : ¬ a_text pos = 45 → ¬ rd_GI a_text pos E → post (-1) (f_cap, f_limit, f_regs, f_textLen, f_fault, f_found, f_outLen, f_nextLabel, f_frames, f_nextValue, f_scanType, f_scanValue, f_tokens, f_place, f_depth, f_elems, a_reg, a_carOf, a_cdrOf, a_text, a_seen, a_queue, a_edgeCount, a_image, a_origin, a_out, a_labelOf, a_frame, a_frameTail, a_digits, a_tokType, a_tokValue, a_openFirst, a_openTok, a_lastElem, a_inTail, a_elemTok, a_elemNext, a_elemTail, a_slot, a_labelTok)) : wpX_scanInteger post (f_cap, f_limit, f_regs, f_textLen, f_fault, f_found, f_outLen, f_nextLabel, f_frames, f_nextValue, f_scanType, f_scanValue, f_tokens, f_place, f_depth, f_elems, a_reg, a_carOf, a_cdrOf, a_text, a_seen, a_queue, a_edgeCount, a_image, a_origin, a_out, a_labelOf, a_frame, a_frameTail, a_digits, a_tokType, a_tokValue, a_openFirst, a_openTok, a_lastElem, a_inTail, a_elemTok, a_elemNext, a_elemTail, a_slot, a_labelTok) (nI pos) (nI E) := by
  unfold wpX_scanInteger
  dsimp only
  rw [nI_clamp (n := pos) (by omega)]
  refine ⟨vp_in_nI (by omega) (by decide), ?_⟩
  by_cases z : a_text pos = 45
  · refine br_t z ?_
    unfold wX_scanInteger_16
    refine br_f dl_10 (nm_r (nI_1 pos) (xs_int27 hE (by omega) (fun G => ?_) (hmb z)))
    rw [if_neg dl_10]
    exact hm z G
  · refine br_f z ?_
    unfold wX_scanInteger_16
    refine br_t rfl (xs_int27 hE (by omega) (fun G => ?_) (hb z))
    rw [if_pos rfl]
    exact hg z G
theorem xs_word {post : Int32 → SX → Prop} (hlen : len ≤ 256) (h1 : pos < E) (h2 : E ≤ len) (h3 : ∀ i, pos ≤ i → i < E → dl_wo (a_text i)) (h4 : E < len → ¬ dl_wo (a_text E))
    (H : wX_scanWord_29 post (nI pos) (nI E) f_cap f_limit f_regs (nI len) f_fault f_found f_outLen f_nextLabel f_frames f_nextValue f_scanType f_scanValue f_tokens f_place f_depth f_elems a_reg a_carOf a_cdrOf a_text a_seen a_queue a_edgeCount a_image a_origin a_out a_labelOf a_frame a_frameTail a_digits a_tokType a_tokValue a_openFirst a_openTok a_lastElem a_inTail a_elemTok a_elemNext a_elemTail a_slot a_labelTok) : wpX_scanWord post (f_cap, f_limit, f_regs, nI len, f_fault, f_found, f_outLen, f_nextLabel, f_frames, f_nextValue, f_scanType, f_scanValue, f_tokens, f_place, f_depth, f_elems, a_reg, a_carOf, a_cdrOf, a_text, a_seen, a_queue, a_edgeCount, a_image, a_origin, a_out, a_labelOf, a_frame, a_frameTail, a_digits, a_tokType, a_tokValue, a_openFirst, a_openTok, a_lastElem, a_inTail, a_elemTok, a_elemNext, a_elemTail, a_slot, a_labelTok) (nI pos) := by
  have K : ∀ n i, 260 ≤ n + i → pos ≤ i → i ≤ E → wX_scanWord_2 post (nI pos) f_cap f_limit f_regs (nI len) f_fault f_found f_outLen f_nextLabel f_frames f_nextValue f_scanType f_scanValue f_tokens f_place f_depth f_elems a_reg a_carOf a_cdrOf a_text a_seen a_queue a_edgeCount a_image a_origin a_out a_labelOf a_frame a_frameTail a_digits a_tokType a_tokValue a_openFirst a_openTok a_lastElem a_inTail a_elemTok a_elemNext a_elemTail a_slot a_labelTok n (nI i) := by
    intro n
    induction n with
    | zero => intro i a b c; omega
    | succ n ih =>
      intro i a b c
      by_cases e : i = len
      · have : i = E := by omega
        subst this
        exact br_t (nI_le (by omega) (by omega)) H
      · refine br_f (nI_ge (by omega) (by omega)) ⟨vp_in_nI (by omega) (by decide), ?_⟩
        rw [nI_clamp (n := i) (by omega)]
        by_cases e2 : i = E
        · subst e2
          exact xw_word (fun z => absurd z (h4 (by omega))) (fun _ => br_t rfl H)
        · exact xw_word (fun _ => br_f dl_10 (nm_r (nI_1 i) (ih (i + 1) (by omega) (by omega) (by omega)))) (fun z => absurd (h3 i b (by omega)) z)
  unfold wpX_scanWord
  exact ⟨260, K 260 pos (by omega) (by omega) (by omega)⟩
end
section
variable {yf_cap yf_limit yf_regs yf_length yf_fault yf_written yf_top yf_tokens : Int32} {ya_reg ya_heads ya_tails ya_text ya_in ya_image ya_out ya_label ya_spell ya_what ya_which ya_type ya_num ya_cell : Nat → Int32}
variable {len pos E k : Nat} {ty nu : Nat → Int32} {post : Int32 → SY → Prop}
theorem ys_419 {v : Int32} {t : Int32} {sg : Nat} (hk : k < 260) (hE : E < 2 ^ 31) (hs : sg ≤ 1) (h : post (nI E) (yf_cap, yf_limit, yf_regs, yf_length, yf_fault, yf_written, yf_top, yf_tokens, ya_reg, ya_heads, ya_tails, ya_text, ya_in, ya_image, ya_out, ya_label, ya_spell, ya_what, ya_which, upd ty k t, upd nu k (if sg = 1 then -v else v), ya_cell)) : wY_scan_419 post (nI k) (nI E) (nI sg) yf_cap yf_limit yf_regs yf_length yf_fault yf_written yf_top yf_tokens ya_reg ya_heads ya_tails ya_text ya_in ya_image ya_out ya_label ya_spell ya_what ya_which (upd ty k t) (upd nu k v) ya_cell := by
  unfold wY_scan_419
  rw [nI_clamp (n := k) (by omega), dl_uu, pk_us]
  by_cases z : sg = 1
  · subst z
    rw [if_pos rfl] at h
    exact br_t rfl ⟨vp_in_nI hk (by decide), vp_in_nI hk (by decide), nm_e h⟩
  · rw [if_neg z] at h
    exact br_f (fun e => z (dl_inj (b := 1) (by omega) (by omega) e)) h
theorem ys_387 {v t : Int32} {d sg : Nat} (hk : k < 260) (hE : E ≤ 256) (hp : pos ≤ E) (hd : d ≤ 256) (hs : sg ≤ 1)
    (hB : 1 ≤ d → d ≤ 5 → d + sg = E - pos → post (nI E) (yf_cap, yf_limit, yf_regs, yf_length, yf_fault, yf_written, yf_top, yf_tokens, ya_reg, ya_heads, ya_tails, ya_text, ya_in, ya_image, ya_out, ya_label, ya_spell, ya_what, ya_which, upd ty k 48, upd nu k (if sg = 1 then -v else v), ya_cell)) (h0 : ¬ (1 ≤ d ∧ d ≤ 5 ∧ d + sg = E - pos) → post (nI E) (yf_cap, yf_limit, yf_regs, yf_length, yf_fault, yf_written, yf_top, yf_tokens, ya_reg, ya_heads, ya_tails, ya_text, ya_in, ya_image, ya_out, ya_label, ya_spell, ya_what, ya_which, upd ty k t, upd nu k (if sg = 1 then -v else v), ya_cell)) :
    wY_scan_387 post (nI pos) (nI k) (nI E) (nI d) (nI sg) yf_cap yf_limit yf_regs yf_length yf_fault yf_written yf_top yf_tokens ya_reg ya_heads ya_tails ya_text ya_in ya_image ya_out ya_label ya_spell ya_what ya_which (upd ty k t) (upd nu k v) ya_cell := by
  unfold wY_scan_387
  rw [nI_add, pk_sub hp, nI_clamp (n := k) (by omega), dl_uu]
  by_cases c1 : d < 1
  · exact br_t (nI_lt (b := 1) c1 (by decide)) (ys_419 hk (by omega) hs (h0 (fun G => by omega)))
  · refine br_f (nI_nlt (b := 1) (by omega) (by omega)) ?_
    by_cases c2 : 5 < d
    · exact br_t (nI_lt (a := 5) c2 (by omega)) (ys_419 hk (by omega) hs (h0 (fun G => by omega)))
    · refine br_f (nI_nlt (a := 5) (by omega) (by omega)) ?_
      by_cases c3 : d + sg = E - pos
      · exact br_t (by rw [c3]) ⟨vp_in_nI hk (by decide), nm_e (ys_419 hk (by omega) hs (hB (by omega) (by omega) c3))⟩
      · exact br_f (fun e => c3 (dl_inj (by omega) (by omega) e)) (ys_419 hk (by omega) hs (h0 (fun G => c3 G.2.2)))
theorem ys_345 {v : Int32} {l d : Nat} {c : Int32} {sg : Nat} (hk : k < 260) (hE : E ≤ 256) (hp : pos ≤ E) (hl : l + d ≤ E - pos) (hs : (c = 45 ∧ sg = 1) ∨ (¬ c = 45 ∧ sg = 0))
    (hA : 1 ≤ l → l ≤ 4 → l = E - pos → post (nI E) (yf_cap, yf_limit, yf_regs, yf_length, yf_fault, yf_written, yf_top, yf_tokens, ya_reg, ya_heads, ya_tails, ya_text, ya_in, ya_image, ya_out, ya_label, ya_spell, ya_what, ya_which, upd ty k 97, upd nu k (if sg = 1 then -v else v), ya_cell))
    (hB : ¬ (1 ≤ l ∧ l ≤ 4 ∧ l = E - pos) → 1 ≤ d → d ≤ 5 → d + sg = E - pos → post (nI E) (yf_cap, yf_limit, yf_regs, yf_length, yf_fault, yf_written, yf_top, yf_tokens, ya_reg, ya_heads, ya_tails, ya_text, ya_in, ya_image, ya_out, ya_label, ya_spell, ya_what, ya_which, upd ty k 48, upd nu k (if sg = 1 then -v else v), ya_cell))
    (h0 : ¬ (1 ≤ l ∧ l ≤ 4 ∧ l = E - pos) → ¬ (1 ≤ d ∧ d ≤ 5 ∧ d + sg = E - pos) → post (nI E) (yf_cap, yf_limit, yf_regs, yf_length, yf_fault, yf_written, yf_top, yf_tokens, ya_reg, ya_heads, ya_tails, ya_text, ya_in, ya_image, ya_out, ya_label, ya_spell, ya_what, ya_which, upd ty k 0, upd nu k (if sg = 1 then -v else v), ya_cell)) :
    wY_scan_345 post (nI pos) (nI k) c (nI E) (nI l) (nI d) yf_cap yf_limit yf_regs yf_length yf_fault yf_written yf_top yf_tokens ya_reg ya_heads ya_tails ya_text ya_in ya_image ya_out ya_label ya_spell ya_what ya_which (upd ty k 0) (upd nu k v) ya_cell := by
  have K : wY_scan_356 post (nI pos) (nI k) (nI E) (nI l) (nI d) (nI sg) yf_cap yf_limit yf_regs yf_length yf_fault yf_written yf_top yf_tokens ya_reg ya_heads ya_tails ya_text ya_in ya_image ya_out ya_label ya_spell ya_what ya_which (upd ty k 0) (upd nu k v) ya_cell := by
    have sg1 : sg ≤ 1 := by omega
    unfold wY_scan_356
    rw [pk_sub hp, nI_clamp (n := k) (by omega), dl_uu]
    have no : ¬ (1 ≤ l ∧ l ≤ 4 ∧ l = E - pos) → wY_scan_387 post (nI pos) (nI k) (nI E) (nI d) (nI sg) yf_cap yf_limit yf_regs yf_length yf_fault yf_written yf_top yf_tokens ya_reg ya_heads ya_tails ya_text ya_in ya_image ya_out ya_label ya_spell ya_what ya_which (upd ty k 0) (upd nu k v) ya_cell := fun n => ys_387 hk hE hp (by omega) sg1 (hB n) (h0 n)
    by_cases c1 : l < 1
    · exact br_t (nI_lt (b := 1) c1 (by decide)) (no (fun G => by omega))
    · refine br_f (nI_nlt (b := 1) (by omega) (by omega)) ?_
      by_cases c2 : 4 < l
      · exact br_t (nI_lt (a := 4) c2 (by omega)) (no (fun G => by omega))
      · refine br_f (nI_nlt (a := 4) (by omega) (by omega)) ?_
        by_cases c3 : l = E - pos
        · refine br_t (by rw [c3]) ⟨vp_in_nI hk (by decide), nm_e ?_⟩
          exact ys_387 hk hE hp (by omega) sg1 (fun G => by omega) (fun _ => hA (by omega) (by omega) c3)
        · exact br_f (fun e => c3 (dl_inj (by omega) (by omega) e)) (no (fun G => c3 G.2.2))
  unfold wY_scan_345
  rcases hs with ⟨e, rfl⟩ | ⟨e, rfl⟩
  · exact br_t e K
  · exact br_f e K
theorem ys_word {c : Int32} (hk : k < 260) (hlen : len ≤ 256) (h1 : pos ≤ E) (h2 : E ≤ len) (h3 : ∀ i, pos ≤ i → i < E → dl_wo (ya_text i)) (h4 : E < len → ¬ dl_wo (ya_text E))
    (H : wY_scan_345 post (nI pos) (nI k) c (nI E) (nI (rd_lc ya_text pos (E - pos))) (nI (rd_dc ya_text pos (E - pos))) yf_cap yf_limit yf_regs (nI len) yf_fault yf_written yf_top yf_tokens ya_reg ya_heads ya_tails ya_text ya_in ya_image ya_out ya_label ya_spell ya_what ya_which (upd ty k 0) (upd nu k (rd_yn ya_text pos (E - pos))) ya_cell) :
    ∃ n, wY_scan_199 post (nI pos) (nI k) c yf_cap yf_limit yf_regs (nI len) yf_fault yf_written yf_top yf_tokens n (nI pos) 0 0 ya_reg ya_heads ya_tails ya_text ya_in ya_image ya_out ya_label ya_spell ya_what ya_which (upd ty k 0) (upd nu k 0) ya_cell := by
  have K : ∀ n j, 260 ≤ n + j → pos + j ≤ E → wY_scan_199 post (nI pos) (nI k) c yf_cap yf_limit yf_regs (nI len) yf_fault yf_written yf_top yf_tokens n (nI (pos + j)) (nI (rd_lc ya_text pos j)) (nI (rd_dc ya_text pos j)) ya_reg ya_heads ya_tails ya_text ya_in ya_image ya_out ya_label ya_spell ya_what ya_which (upd ty k 0) (upd nu k (rd_yn ya_text pos j)) ya_cell := by
    intro n
    induction n with
    | zero => intro j a b; omega
    | succ n ih =>
      intro j a b
      by_cases e : pos + j = len
      · have e2 : j = E - pos := by omega
        subst e2
        refine br_t (nI_le (by omega) (by omega)) ?_
        rw [show pos + (E - pos) = E from by omega]
        exact H
      · refine br_f (nI_ge (by omega) (by omega)) ⟨vp_in_nI (by omega) (by decide), ?_⟩
        rw [nI_clamp (n := pos + j) (by omega)]
        by_cases e2 : pos + j = E
        · have nw := h4 (by omega)
          rw [← e2] at nw
          have e3 : j = E - pos := by omega
          refine br_f (fun z => nw (Or.inr (Or.inr z))) ⟨vp_in_nI (by omega) (by decide), ?_⟩
          refine yw_digit (fun z => absurd (Or.inr (Or.inl z)) nw) (fun _ => br_t rfl ⟨vp_in_nI (by omega) (by decide), ?_⟩)
          refine yw_letter (fun z => absurd (Or.inl z) nw) (fun _ => br_t rfl ?_)
          rw [e2, e3]
          exact H
        · have J := ih (j + 1) (by omega) (by omega)
          have S1 := dl_smS (fun j => rd_leN (ya_text (pos + j))) j
          have S2 := dl_smS (fun j => rd_diC (ya_text (pos + j))) j
          have K248 : wY_scan_248 post (wY_scan_199 post (nI pos) (nI k) c yf_cap yf_limit yf_regs (nI len) yf_fault yf_written yf_top yf_tokens n) (nI pos) (nI k) c (nI (pos + j)) (nI (rd_lc ya_text pos j)) (nI (rd_dc ya_text pos j)) yf_cap yf_limit yf_regs (nI len) yf_fault yf_written yf_top yf_tokens ya_reg ya_heads ya_tails ya_text ya_in ya_image ya_out ya_label ya_spell ya_what ya_which (upd ty k 0) (upd nu k (rd_yn ya_text pos j)) ya_cell := by
            unfold wY_scan_248
            rw [nI_clamp (n := pos + j) (by omega), nI_clamp (n := k) (by omega), dl_uu, dl_uu, pk_us]
            refine ⟨vp_in_nI (by omega) (by decide), ?_⟩
            refine yw_letter (fun z => br_f dl_10 ?_) (fun z => br_t rfl ⟨vp_in_nI (by omega) (by decide), ?_⟩)
            · have a1 : rd_lc ya_text pos (j + 1) = rd_lc ya_text pos j + 1 := by unfold rd_lc; rw [S1, rd_leT z]
              have a2 : rd_dc ya_text pos (j + 1) = rd_dc ya_text pos j := by unfold rd_dc; rw [S2, rd_diF (rd_ld z), Nat.add_zero]
              rw [a1, a2, rd_ynL z] at J
              refine nm_r (nI_1 _) ⟨vp_in_nI hk (by decide), vp_in_nI (by omega) (by decide), vp_in_nI hk (by decide), nm_r ?_ (nm_r (nI_1 _) J)⟩
              rw [rd_as, Int32.add_assoc]
            · refine yw_digit (fun y => br_f dl_10 ?_) (fun y => br_t rfl ?_)
              · have a1 : rd_lc ya_text pos (j + 1) = rd_lc ya_text pos j := by unfold rd_lc; rw [S1, rd_leF z, Nat.add_zero]
                have a2 : rd_dc ya_text pos (j + 1) = rd_dc ya_text pos j + 1 := by unfold rd_dc; rw [S2, rd_diT y]
                rw [a1, a2, rd_ynD y] at J
                refine nm_r (nI_1 _) ⟨vp_in_nI hk (by decide), vp_in_nI (by omega) (by decide), vp_in_nI hk (by decide), nm_r ?_ (nm_r (nI_1 _) J)⟩
                rw [rd_as]
              · have a1 : rd_lc ya_text pos (j + 1) = rd_lc ya_text pos j := by unfold rd_lc; rw [S1, rd_leF z, Nat.add_zero]
                have a2 : rd_dc ya_text pos (j + 1) = rd_dc ya_text pos j := by unfold rd_dc; rw [S2, rd_diF y, Nat.add_zero]
                rw [a1, a2, rd_ynN z y] at J
                exact nm_r (nI_1 _) J
          by_cases z : ya_text (pos + j) = 45
          · exact br_t z K248
          · refine br_f z ⟨vp_in_nI (by omega) (by decide), ?_⟩
            refine yw_digit (fun _ => br_f dl_10 K248) (fun y => br_t rfl ⟨vp_in_nI (by omega) (by decide), ?_⟩)
            refine yw_letter (fun _ => br_f dl_10 K248) (fun x => ?_)
            rcases h3 (pos + j) (by omega) (by omega) with w | w | w
            · exact absurd w x
            · exact absurd w y
            · exact absurd w z
  exact ⟨260, K 260 0 (by omega) (by omega)⟩
end
end DLWD
end
section
section DLSJ
theorem rd_smF {g : Nat → Nat} {s : Nat} : ∀ n, dl_sm (fun j => g (s + j)) (n + 1) = g s + dl_sm (fun j => g (s + 1 + j)) n := by
  intro n
  induction n with
  | zero => show 0 + g (s + 0) = g s + 0; rw [Nat.add_zero, Nat.add_zero, Nat.zero_add]
  | succ n ih =>
    rw [dl_smS, ih, dl_smS, show s + (n + 1) = s + 1 + n from by omega, Nat.add_assoc]
theorem rd_dcS {tx : Nat → Int32} {s : Nat} (n : Nat) : rd_dc tx s (n + 1) = rd_diC (tx s) + rd_dc tx (s + 1) n := rd_smF (g := fun i => rd_diC (tx i)) n
theorem rd_dcA {tx : Nat → Int32} {s n : Nat} : rd_dc tx s n = n ↔ ∀ i, s ≤ i → i < s + n → dl_di (tx i) := by
  constructor
  · intro h i hi hi2
    have := rd_smI n (fun i _ => rd_di1 (tx (s + i))) h (i - s) (by omega)
    rw [show s + (i - s) = i from by omega] at this
    apply Classical.byContradiction
    intro z
    rw [rd_diF z] at this; omega
  · intro h
    exact rd_smE n (fun i hi => rd_diT (h (s + i) (by omega) (by omega)))
theorem rd_lcA {tx : Nat → Int32} {s n : Nat} : rd_lc tx s n = n ↔ ∀ i, s ≤ i → i < s + n → dl_le (tx i) := by
  constructor
  · intro h i hi hi2
    have := rd_smI n (fun i _ => rd_le1 (tx (s + i))) h (i - s) (by omega)
    rw [show s + (i - s) = i from by omega] at this
    apply Classical.byContradiction
    intro z
    rw [rd_leF z] at this; omega
  · intro h
    exact rd_smE n (fun i hi => rd_leT (h (s + i) (by omega) (by omega)))
theorem rd_lc0 {tx : Nat → Int32} {s n : Nat} (hn : 0 < n) (h : dl_le (tx s)) : 1 ≤ rd_lc tx s n := by
  have := dl_smG (g := fun j => rd_leN (tx (s + j))) (p := 0) n hn
  try dsimp only at this
  rw [Nat.add_zero, rd_leT h] at this
  exact this
theorem rd_lcN {tx : Nat → Int32} {s n : Nat} (hn : 0 < n) (h : ¬ dl_le (tx s)) : ¬ rd_lc tx s n = n := fun e => h (rd_lcA.mp e s (Nat.le_refl _) (by omega))
section
variable {f_cap f_limit f_regs f_textLen f_fault f_found f_outLen f_nextLabel f_frames f_nextValue f_scanType f_scanValue f_tokens f_place f_depth f_elems : Int32} {a_reg a_carOf a_cdrOf a_text a_seen a_queue a_edgeCount a_image a_origin a_out a_labelOf a_frame a_frameTail a_digits a_tokType a_tokValue a_openFirst a_openTok a_lastElem a_inTail a_elemTok a_elemNext a_elemTail a_slot a_labelTok : Nat → Int32}
variable {yf_cap yf_limit yf_regs yf_length yf_fault yf_written yf_top yf_tokens : Int32} {ya_reg ya_heads ya_tails ya_text ya_in ya_image ya_out ya_label ya_spell ya_what ya_which ya_type ya_num ya_cell : Nat → Int32}
variable {len pos k : Nat} {tx : Nat → Int32}
/-- a scan of both sides -/
theorem rd_scan (hk : k < 260) (hlen : len ≤ 256) (hp : pos < len) :
    (∃ t v xt xv e, pos < e ∧ e ≤ len ∧ rd_tk t v xt xv ∧
      (∀ post : Int32 → SX → Prop, post (nI e) (f_cap, f_limit, f_regs, nI len, f_fault, f_found, f_outLen, f_nextLabel, f_frames, f_nextValue, xt, xv, f_tokens, f_place, f_depth, f_elems, a_reg, a_carOf, a_cdrOf, tx, a_seen, a_queue, a_edgeCount, a_image, a_origin, a_out, a_labelOf, a_frame, a_frameTail, a_digits, a_tokType, a_tokValue, a_openFirst, a_openTok, a_lastElem, a_inTail, a_elemTok, a_elemNext, a_elemTail, a_slot, a_labelTok) → wpX_scan post (f_cap, f_limit, f_regs, nI len, f_fault, f_found, f_outLen, f_nextLabel, f_frames, f_nextValue, f_scanType, f_scanValue, f_tokens, f_place, f_depth, f_elems, a_reg, a_carOf, a_cdrOf, tx, a_seen, a_queue, a_edgeCount, a_image, a_origin, a_out, a_labelOf, a_frame, a_frameTail, a_digits, a_tokType, a_tokValue, a_openFirst, a_openTok, a_lastElem, a_inTail, a_elemTok, a_elemNext, a_elemTail, a_slot, a_labelTok) (nI pos)) ∧
      (∀ post : Int32 → SY → Prop, post (nI e) (yf_cap, yf_limit, yf_regs, nI len, yf_fault, yf_written, yf_top, yf_tokens, ya_reg, ya_heads, ya_tails, tx, ya_in, ya_image, ya_out, ya_label, ya_spell, ya_what, ya_which, upd ya_type k t, upd ya_num k v, ya_cell) → wpY_scan post (yf_cap, yf_limit, yf_regs, nI len, yf_fault, yf_written, yf_top, yf_tokens, ya_reg, ya_heads, ya_tails, tx, ya_in, ya_image, ya_out, ya_label, ya_spell, ya_what, ya_which, ya_type, ya_num, ya_cell) (nI pos) (nI k))) ∨
    (∃ xt xv v e',
      (∀ post : Int32 → SX → Prop, post (-1) (f_cap, f_limit, f_regs, nI len, f_fault, f_found, f_outLen, f_nextLabel, f_frames, f_nextValue, xt, xv, f_tokens, f_place, f_depth, f_elems, a_reg, a_carOf, a_cdrOf, tx, a_seen, a_queue, a_edgeCount, a_image, a_origin, a_out, a_labelOf, a_frame, a_frameTail, a_digits, a_tokType, a_tokValue, a_openFirst, a_openTok, a_lastElem, a_inTail, a_elemTok, a_elemNext, a_elemTail, a_slot, a_labelTok) → wpX_scan post (f_cap, f_limit, f_regs, nI len, f_fault, f_found, f_outLen, f_nextLabel, f_frames, f_nextValue, f_scanType, f_scanValue, f_tokens, f_place, f_depth, f_elems, a_reg, a_carOf, a_cdrOf, tx, a_seen, a_queue, a_edgeCount, a_image, a_origin, a_out, a_labelOf, a_frame, a_frameTail, a_digits, a_tokType, a_tokValue, a_openFirst, a_openTok, a_lastElem, a_inTail, a_elemTok, a_elemNext, a_elemTail, a_slot, a_labelTok) (nI pos)) ∧
      (∀ post : Int32 → SY → Prop, post e' (yf_cap, yf_limit, yf_regs, nI len, yf_fault, yf_written, yf_top, yf_tokens, ya_reg, ya_heads, ya_tails, tx, ya_in, ya_image, ya_out, ya_label, ya_spell, ya_what, ya_which, upd ya_type k 0, upd ya_num k v, ya_cell) → wpY_scan post (yf_cap, yf_limit, yf_regs, nI len, yf_fault, yf_written, yf_top, yf_tokens, ya_reg, ya_heads, ya_tails, tx, ya_in, ya_image, ya_out, ya_label, ya_spell, ya_what, ya_which, ya_type, ya_num, ya_cell) (nI pos) (nI k))) := by
  have iv : vp_in (nI pos) 256 := vp_in_nI (by omega) (by decide)
  have ik : vp_in (nI k) 260 := vp_in_nI hk (by decide)
  have ep : (nI pos).toNatClampNeg = pos := nI_clamp (by omega)
  have ek : (nI k).toNatClampNeg = k := nI_clamp (by omega)
  by_cases s3 : tx pos = 40 ∨ tx pos = 41 ∨ tx pos = 46
  · left
    refine ⟨tx pos, 0, tx pos, 0, pos + 1, by omega, by omega, Or.inl ⟨s3, rfl, rfl⟩, fun post h => ?_, fun post h => ?_⟩
    · have K : wX_scan_25 post (nI pos) (tx pos) f_cap f_limit f_regs (nI len) f_fault f_found f_outLen f_nextLabel f_frames f_nextValue f_scanType f_scanValue f_tokens f_place f_depth f_elems a_reg a_carOf a_cdrOf tx a_seen a_queue a_edgeCount a_image a_origin a_out a_labelOf a_frame a_frameTail a_digits a_tokType a_tokValue a_openFirst a_openTok a_lastElem a_inTail a_elemTok a_elemNext a_elemTail a_slot a_labelTok := by
        unfold wX_scan_25
        rw [nI_1]
        exact h
      unfold wpX_scan
      dsimp only
      rw [ep]
      refine ⟨iv, nm_e ?_⟩
      by_cases a : tx pos = 40
      · exact br_t a K
      · refine br_f a ?_
        by_cases b : tx pos = 41
        · exact br_t b K
        · refine br_f b ?_
          by_cases c : tx pos = 46
          · exact br_t c K
          · exact absurd s3 (by rintro (h | h | h); exact a h; exact b h; exact c h)
    · have K : wY_scan_48 post (nI pos) (nI k) (tx pos) yf_cap yf_limit yf_regs (nI len) yf_fault yf_written yf_top yf_tokens ya_reg ya_heads ya_tails tx ya_in ya_image ya_out ya_label ya_spell ya_what ya_which (upd ya_type k 0) (upd ya_num k 0) ya_cell := by
        unfold wY_scan_48
        rw [ek, dl_uu, nI_1]
        exact ⟨ik, nm_e h⟩
      unfold wpY_scan
      dsimp only
      rw [ep, ek]
      refine ⟨iv, nm_e ⟨ik, nm_e ⟨ik, nm_e ?_⟩⟩⟩
      by_cases a : tx pos = 40
      · exact br_t a K
      · refine br_f a ?_
        by_cases b : tx pos = 41
        · exact br_t b K
        · refine br_f b ?_
          by_cases c : tx pos = 46
          · exact br_t c K
          · exact absurd s3 (by rintro (h | h | h); exact a h; exact b h; exact c h)
  · have n1 : ¬ tx pos = 40 := fun e => s3 (Or.inl e)
    have n2 : ¬ tx pos = 41 := fun e => s3 (Or.inr (Or.inl e))
    have n3 : ¬ tx pos = 46 := fun e => s3 (Or.inr (Or.inr e))
    by_cases s35 : tx pos = 35
    · obtain ⟨E, h1, h2, h3, h4⟩ := rd_run dl_di tx (a := pos + 1) (len := len) (by omega)
      have XL : ∀ post : Int32 → SX → Prop, wpX_scanLabel post (f_cap, f_limit, f_regs, nI len, f_fault, f_found, f_outLen, f_nextLabel, f_frames, f_nextValue, f_scanType, f_scanValue, f_tokens, f_place, f_depth, f_elems, a_reg, a_carOf, a_cdrOf, tx, a_seen, a_queue, a_edgeCount, a_image, a_origin, a_out, a_labelOf, a_frame, a_frameTail, a_digits, a_tokType, a_tokValue, a_openFirst, a_openTok, a_lastElem, a_inTail, a_elemTok, a_elemNext, a_elemTail, a_slot, a_labelTok) (nI pos) → wpX_scan post (f_cap, f_limit, f_regs, nI len, f_fault, f_found, f_outLen, f_nextLabel, f_frames, f_nextValue, f_scanType, f_scanValue, f_tokens, f_place, f_depth, f_elems, a_reg, a_carOf, a_cdrOf, tx, a_seen, a_queue, a_edgeCount, a_image, a_origin, a_out, a_labelOf, a_frame, a_frameTail, a_digits, a_tokType, a_tokValue, a_openFirst, a_openTok, a_lastElem, a_inTail, a_elemTok, a_elemNext, a_elemTail, a_slot, a_labelTok) (nI pos) := by
        intro post h
        unfold wpX_scan
        dsimp only
        rw [ep]
        exact ⟨iv, nm_e (br_f n1 (br_f n2 (br_f n3 (br_t s35 h))))⟩
      have YL : ∀ post : Int32 → SY → Prop, (∃ n, wY_scan_70 post (nI pos) (nI k) yf_cap yf_limit yf_regs (nI len) yf_fault yf_written yf_top yf_tokens n (nI (pos + 1)) ya_reg ya_heads ya_tails tx ya_in ya_image ya_out ya_label ya_spell ya_what ya_which (upd ya_type k 0) (upd ya_num k 0) ya_cell) → wpY_scan post (yf_cap, yf_limit, yf_regs, nI len, yf_fault, yf_written, yf_top, yf_tokens, ya_reg, ya_heads, ya_tails, tx, ya_in, ya_image, ya_out, ya_label, ya_spell, ya_what, ya_which, ya_type, ya_num, ya_cell) (nI pos) (nI k) := by
        intro post h
        unfold wpY_scan
        dsimp only
        rw [ep, ek]
        exact ⟨iv, nm_e ⟨ik, nm_e ⟨ik, nm_e (br_f n1 (br_f n2 (br_f n3 (br_t s35 (nm_r (nI_1 pos) h)))))⟩⟩⟩
      by_cases G : rd_GL tx len pos E
      · left
        refine ⟨tx E, rd_f10 tx (pos + 1) (E - (pos + 1)), tx E, rd_f10 tx (pos + 1) (E - (pos + 1)), E + 1, by omega, by have := G.2.2.1; omega, Or.inr (Or.inr (Or.inr ⟨G.2.2.2, rfl, rfl, ?_⟩)), fun post h => ?_, fun post h => ?_⟩
        · exact rd_lab100 G.1 G.2.1 (fun i hi hi2 => h3 i hi (by have := G.1; omega))
        · exact XL post (xs_label hlen hp h1 h2 h3 h4 (fun _ => h) (fun n => absurd G n))
        · exact YL post (ys_label hk hlen hp h1 h2 h3 h4 (fun _ => h) (fun n => absurd G n))
      · right
        refine ⟨f_scanType, f_scanValue, rd_f10 tx (pos + 1) (E - (pos + 1)), nI (E + 1), fun post h => ?_, fun post h => ?_⟩
        · exact XL post (xs_label hlen hp h1 h2 h3 h4 (fun n => absurd n G) (fun _ => h))
        · exact YL post (ys_label hk hlen hp h1 h2 h3 h4 (fun n => absurd n G) (fun _ => h))
    · have YW : ∀ post : Int32 → SY → Prop, (∃ n, wY_scan_199 post (nI pos) (nI k) (tx pos) yf_cap yf_limit yf_regs (nI len) yf_fault yf_written yf_top yf_tokens n (nI pos) 0 0 ya_reg ya_heads ya_tails tx ya_in ya_image ya_out ya_label ya_spell ya_what ya_which (upd ya_type k 0) (upd ya_num k 0) ya_cell) → wpY_scan post (yf_cap, yf_limit, yf_regs, nI len, yf_fault, yf_written, yf_top, yf_tokens, ya_reg, ya_heads, ya_tails, tx, ya_in, ya_image, ya_out, ya_label, ya_spell, ya_what, ya_which, ya_type, ya_num, ya_cell) (nI pos) (nI k) := by
        intro post h
        unfold wpY_scan
        dsimp only
        rw [ep, ek]
        exact ⟨iv, nm_e ⟨ik, nm_e ⟨ik, nm_e (br_f n1 (br_f n2 (br_f n3 (br_f s35 h))))⟩⟩⟩
      by_cases wo : dl_wo (tx pos)
      · obtain ⟨E, h1, h2, h3, h4⟩ := rd_run dl_wo tx (a := pos) (len := len) (by omega)
        have hE : pos < E := by
          apply Classical.byContradiction
          intro z
          have : E = pos := by omega
          subst this
          exact h4 hp wo
        have LD := rd_lcdc (tx := tx) (s := pos) (n := E - pos)
        have XW : ∀ post : Int32 → SX → Prop, wX_scanWord_29 post (nI pos) (nI E) f_cap f_limit f_regs (nI len) f_fault f_found f_outLen f_nextLabel f_frames f_nextValue f_scanType f_scanValue f_tokens f_place f_depth f_elems a_reg a_carOf a_cdrOf tx a_seen a_queue a_edgeCount a_image a_origin a_out a_labelOf a_frame a_frameTail a_digits a_tokType a_tokValue a_openFirst a_openTok a_lastElem a_inTail a_elemTok a_elemNext a_elemTail a_slot a_labelTok → wpX_scan post (f_cap, f_limit, f_regs, nI len, f_fault, f_found, f_outLen, f_nextLabel, f_frames, f_nextValue, f_scanType, f_scanValue, f_tokens, f_place, f_depth, f_elems, a_reg, a_carOf, a_cdrOf, tx, a_seen, a_queue, a_edgeCount, a_image, a_origin, a_out, a_labelOf, a_frame, a_frameTail, a_digits, a_tokType, a_tokValue, a_openFirst, a_openTok, a_lastElem, a_inTail, a_elemTok, a_elemNext, a_elemTail, a_slot, a_labelTok) (nI pos) := by
          intro post h
          unfold wpX_scan
          dsimp only
          rw [ep]
          refine ⟨iv, nm_e (br_f n1 (br_f n2 (br_f n3 (br_f s35 ?_))))⟩
          refine xw_word (fun _ => br_f dl_10 ?_) (fun n => absurd wo n)
          exact xs_word hlen hE h2 h3 h4 h
        by_cases le : dl_le (tx pos)
        · have c45 := rd_l45 le
          have XS : ∀ post : Int32 → SX → Prop, wpX_scanSymbol post (f_cap, f_limit, f_regs, nI len, f_fault, f_found, f_outLen, f_nextLabel, f_frames, f_nextValue, 97, f_scanValue, f_tokens, f_place, f_depth, f_elems, a_reg, a_carOf, a_cdrOf, tx, a_seen, a_queue, a_edgeCount, a_image, a_origin, a_out, a_labelOf, a_frame, a_frameTail, a_digits, a_tokType, a_tokValue, a_openFirst, a_openTok, a_lastElem, a_inTail, a_elemTok, a_elemNext, a_elemTail, a_slot, a_labelTok) (nI pos) (nI E) → wpX_scan post (f_cap, f_limit, f_regs, nI len, f_fault, f_found, f_outLen, f_nextLabel, f_frames, f_nextValue, f_scanType, f_scanValue, f_tokens, f_place, f_depth, f_elems, a_reg, a_carOf, a_cdrOf, tx, a_seen, a_queue, a_edgeCount, a_image, a_origin, a_out, a_labelOf, a_frame, a_frameTail, a_digits, a_tokType, a_tokValue, a_openFirst, a_openTok, a_lastElem, a_inTail, a_elemTok, a_elemNext, a_elemTail, a_slot, a_labelTok) (nI pos) := by
            intro post h
            refine XW post ?_
            unfold wX_scanWord_29
            rw [ep]
            refine ⟨iv, xw_letter (fun _ => br_f dl_10 h) (fun n => absurd le n)⟩
          by_cases G : rd_GS tx pos E
          · have al : rd_lc tx pos (E - pos) = E - pos := rd_lcA.mpr (fun i hi hi2 => G.2 i hi (by omega))
            left
            refine ⟨97, rd_f26 tx pos (E - pos), 97, rd_f26 tx pos (E - pos) * 4 + 2, E, hE, h2, Or.inr (Or.inl ⟨rfl, rfl, rfl⟩), fun post h => ?_, fun post h => ?_⟩
            · exact XS post (xs_sym (by omega) hE (fun _ => h) (fun n => absurd G n))
            · refine YW post (ys_word hk hlen h1 h2 h3 h4 (ys_345 (sg := 0) hk (by omega) h1 LD (Or.inr ⟨c45, rfl⟩) (fun _ _ _ => ?_) (fun n => absurd ⟨by omega, by have := G.1; omega, al⟩ n) (fun n => absurd ⟨by omega, by have := G.1; omega, al⟩ n)))
              rw [if_neg (by omega), rd_yn26 _ (fun i hi => G.2 _ (by omega) (by omega))]
              exact h
          · have nl : ¬ (1 ≤ rd_lc tx pos (E - pos) ∧ rd_lc tx pos (E - pos) ≤ 4 ∧ rd_lc tx pos (E - pos) = E - pos) := fun ⟨a, b, c⟩ => G ⟨by omega, fun i hi hi2 => rd_lcA.mp c i hi (by omega)⟩
            have l1 := rd_lc0 (n := E - pos) (by omega) le
            right
            refine ⟨97, f_scanValue, rd_yn tx pos (E - pos), nI E, fun post h => ?_, fun post h => ?_⟩
            · exact XS post (xs_sym (by omega) hE (fun n => absurd n G) (fun _ => h))
            · refine YW post (ys_word hk hlen h1 h2 h3 h4 (ys_345 (sg := 0) hk (by omega) h1 LD (Or.inr ⟨c45, rfl⟩) (fun a b c => absurd ⟨a, b, c⟩ nl) (fun _ _ _ _ => by omega) (fun _ _ => ?_)))
              rw [if_neg (by omega)]
              exact h
        · have XI : ∀ post : Int32 → SX → Prop, wpX_scanInteger post (f_cap, f_limit, f_regs, nI len, f_fault, f_found, f_outLen, f_nextLabel, f_frames, f_nextValue, 97, f_scanValue, f_tokens, f_place, f_depth, f_elems, a_reg, a_carOf, a_cdrOf, tx, a_seen, a_queue, a_edgeCount, a_image, a_origin, a_out, a_labelOf, a_frame, a_frameTail, a_digits, a_tokType, a_tokValue, a_openFirst, a_openTok, a_lastElem, a_inTail, a_elemTok, a_elemNext, a_elemTail, a_slot, a_labelTok) (nI pos) (nI E) → wpX_scan post (f_cap, f_limit, f_regs, nI len, f_fault, f_found, f_outLen, f_nextLabel, f_frames, f_nextValue, f_scanType, f_scanValue, f_tokens, f_place, f_depth, f_elems, a_reg, a_carOf, a_cdrOf, tx, a_seen, a_queue, a_edgeCount, a_image, a_origin, a_out, a_labelOf, a_frame, a_frameTail, a_digits, a_tokType, a_tokValue, a_openFirst, a_openTok, a_lastElem, a_inTail, a_elemTok, a_elemNext, a_elemTail, a_slot, a_labelTok) (nI pos) := by
            intro post h
            refine XW post ?_
            unfold wX_scanWord_29
            rw [ep]
            refine ⟨iv, xw_letter (fun n => absurd n le) (fun _ => br_t rfl h)⟩
          have nl : ¬ (1 ≤ rd_lc tx pos (E - pos) ∧ rd_lc tx pos (E - pos) ≤ 4 ∧ rd_lc tx pos (E - pos) = E - pos) := fun ⟨a, b, c⟩ => rd_lcN (by omega) le c
          by_cases c45 : tx pos = 45
          · have dcs : rd_dc tx pos (E - pos) = rd_dc tx (pos + 1) (E - (pos + 1)) := by
              rw [show E - pos = E - (pos + 1) + 1 from by omega, rd_dcS, rd_diF (by rw [c45]; exact fun l => rd_d45 l rfl), Nat.zero_add]
            by_cases G : rd_GI tx (pos + 1) E
            · have al : rd_dc tx (pos + 1) (E - (pos + 1)) = E - (pos + 1) := rd_dcA.mpr (fun i hi hi2 => G.2.2 i hi (by omega))
              obtain ⟨G1, G2, G3⟩ := id G
              left
              refine ⟨48, -rd_f10 tx (pos + 1) (E - (pos + 1)), 97, -rd_f10 tx (pos + 1) (E - (pos + 1)) * 4 + 1, E, hE, h2, Or.inr (Or.inr (Or.inl ⟨rfl, rfl, rfl⟩)), fun post h => ?_, fun post h => ?_⟩
              · exact XI post (xs_int (by omega) hE (fun _ _ => h) (fun _ n => absurd G n) (fun n => absurd c45 n) (fun n => absurd c45 n))
              · refine YW post (ys_word hk hlen h1 h2 h3 h4 (ys_345 (sg := 1) hk (by omega) h1 LD (Or.inl ⟨c45, rfl⟩) (fun a b c => absurd ⟨a, b, c⟩ nl) (fun _ _ _ _ => ?_) (fun _ n => absurd ⟨by omega, by omega, by omega⟩ n)))
                rw [if_pos rfl]
                have e := rd_yn10m (tx := tx) (s := pos) c45 (E - (pos + 1)) (fun i hi => G3 _ (by omega) (by omega))
                rw [show E - (pos + 1) + 1 = E - pos from by omega] at e
                rw [e]
                exact h
            · have nB : ¬ (1 ≤ rd_dc tx pos (E - pos) ∧ rd_dc tx pos (E - pos) ≤ 5 ∧ rd_dc tx pos (E - pos) + 1 = E - pos) := by
                rintro ⟨a, b, c⟩
                rw [dcs] at a b c
                exact G ⟨by omega, by omega, fun i hi hi2 => rd_dcA.mp (show rd_dc tx (pos + 1) (E - (pos + 1)) = E - (pos + 1) from by omega) i hi (by omega)⟩
              right
              refine ⟨97, f_scanValue, -rd_yn tx pos (E - pos), nI E, fun post h => ?_, fun post h => ?_⟩
              · exact XI post (xs_int (by omega) hE (fun _ n => absurd n G) (fun _ _ => h) (fun n => absurd c45 n) (fun n => absurd c45 n))
              · refine YW post (ys_word hk hlen h1 h2 h3 h4 (ys_345 (sg := 1) hk (by omega) h1 LD (Or.inl ⟨c45, rfl⟩) (fun a b c => absurd ⟨a, b, c⟩ nl) (fun _ a b c => absurd ⟨a, b, c⟩ nB) (fun _ _ => ?_)))
                rw [if_pos rfl]
                exact h
          · by_cases G : rd_GI tx pos E
            · have al : rd_dc tx pos (E - pos) = E - pos := rd_dcA.mpr (fun i hi hi2 => G.2.2 i hi (by omega))
              obtain ⟨G1, G2, G3⟩ := id G
              left
              refine ⟨48, rd_f10 tx pos (E - pos), 97, rd_f10 tx pos (E - pos) * 4 + 1, E, hE, h2, Or.inr (Or.inr (Or.inl ⟨rfl, rfl, rfl⟩)), fun post h => ?_, fun post h => ?_⟩
              · exact XI post (xs_int (by omega) hE (fun n => absurd n c45) (fun n => absurd n c45) (fun _ _ => h) (fun _ n => absurd G n))
              · refine YW post (ys_word hk hlen h1 h2 h3 h4 (ys_345 (sg := 0) hk (by omega) h1 LD (Or.inr ⟨c45, rfl⟩) (fun a b c => absurd ⟨a, b, c⟩ nl) (fun _ _ _ _ => ?_) (fun _ n => absurd ⟨by omega, by omega, by omega⟩ n)))
                rw [if_neg (by omega), rd_yn10 _ (fun i hi => G3 _ (by omega) (by omega))]
                exact h
            · have nB : ¬ (1 ≤ rd_dc tx pos (E - pos) ∧ rd_dc tx pos (E - pos) ≤ 5 ∧ rd_dc tx pos (E - pos) + 0 = E - pos) := by
                rintro ⟨a, b, c⟩
                exact G ⟨by omega, by omega, fun i hi hi2 => rd_dcA.mp (show rd_dc tx pos (E - pos) = E - pos from by omega) i hi (by omega)⟩
              right
              refine ⟨97, f_scanValue, rd_yn tx pos (E - pos), nI E, fun post h => ?_, fun post h => ?_⟩
              · exact XI post (xs_int (by omega) hE (fun n => absurd n c45) (fun n => absurd n c45) (fun _ n => absurd n G) (fun _ _ => h))
              · refine YW post (ys_word hk hlen h1 h2 h3 h4 (ys_345 (sg := 0) hk (by omega) h1 LD (Or.inr ⟨c45, rfl⟩) (fun a b c => absurd ⟨a, b, c⟩ nl) (fun _ a b c => absurd ⟨a, b, c⟩ nB) (fun _ _ => ?_)))
                rw [if_neg (by omega)]
                exact h
      · have c45 : ¬ tx pos = 45 := fun e => wo (Or.inr (Or.inr e))
        right
        refine ⟨f_scanType, f_scanValue, 0, nI pos, fun post h => ?_, fun post h => ?_⟩
        · unfold wpX_scan
          dsimp only
          rw [ep]
          refine ⟨iv, nm_e (br_f n1 (br_f n2 (br_f n3 (br_f s35 ?_))))⟩
          exact xw_word (fun n => absurd n wo) (fun _ => br_t rfl h)
        · refine YW post (ys_word (E := pos) hk hlen (Nat.le_refl _) (by omega) (fun i hi hi2 => by omega) (fun _ => wo) ?_)
          rw [Nat.sub_self]
          refine ys_345 (l := 0) (d := 0) (sg := 0) hk (by omega) (Nat.le_refl _) (by omega) (Or.inr ⟨c45, rfl⟩) (fun a b c => by omega) (fun _ a b c => by omega) (fun _ _ => ?_)
          rw [if_neg (by omega)]
          exact h
end
end DLSJ
end
section
section DLPI
variable {ty ty' nu nu' T V OF OT LE IT ET EN EL LT OF' OT' LE' IT' ET' EN' EL' LT' : Nat → Int32} {n D d k m i j : Nat} {pl : Int32}
/-- the depth before token i -/
def rd_hh (ty : Nat → Int32) : Nat → Nat
  | 0 => 0
  | i + 1 => if ty i = 40 then rd_hh ty i + 1 else if ty i = 41 then rd_hh ty i - 1 else rd_hh ty i
theorem rd_hhO (h : ty i = 40) : rd_hh ty (i + 1) = rd_hh ty i + 1 := if_pos h
theorem rd_hhC (h : ty i = 41) : rd_hh ty (i + 1) = rd_hh ty i - 1 := by
  show (if ty i = 40 then _ else if ty i = 41 then _ else _) = _
  rw [if_neg (by rw [h]; decide), if_pos h]
theorem rd_hhN (h : ¬ ty i = 40) (h' : ¬ ty i = 41) : rd_hh ty (i + 1) = rd_hh ty i := by
  show (if ty i = 40 then _ else if ty i = 41 then _ else _) = _
  rw [if_neg h, if_neg h']
theorem rd_hhE (h : ∀ i, i < n → ty' i = ty i) : ∀ j, j ≤ n → rd_hh ty' j = rd_hh ty j := by
  intro j
  induction j with
  | zero => intro _; rfl
  | succ j ih =>
    intro hj
    have e1 := ih (by omega)
    have e2 := h j (by omega)
    by_cases a : ty j = 40
    · rw [rd_hhO a, rd_hhO (by rw [e2]; exact a), e1]
    · by_cases b : ty j = 41
      · rw [rd_hhC b, rd_hhC (by rw [e2]; exact b), e1]
      · rw [rd_hhN a b, rd_hhN (by rw [e2]; exact a) (by rw [e2]; exact b), e1]
theorem rd_hhB : ∀ i, rd_hh ty i ≤ i := by
  intro i
  induction i with
  | zero => exact Nat.le_refl _
  | succ i ih =>
    by_cases a : ty i = 40
    · rw [rd_hhO a]; omega
    · by_cases b : ty i = 41
      · rw [rd_hhC b]; omega
      · rw [rd_hhN a b]; omega
/-- 1 if an element of a list begins at token k -/
def rd_eN (ty : Nat → Int32) (k : Nat) : Nat :=
  if k = 0 then 0 else if ty k = 41 then 0 else if ty k = 46 then 0 else if ty (k - 1) = 61 then 0 else if ty (k - 1) = 46 then 0 else 1
theorem rd_e1 : rd_eN ty k = 1 ↔ (0 < k ∧ ¬ ty k = 41 ∧ ¬ ty k = 46 ∧ ¬ ty (k - 1) = 61 ∧ ¬ ty (k - 1) = 46) := by
  unfold rd_eN
  by_cases a : k = 0
  · rw [if_pos a]; constructor
    · intro h; omega
    · intro h; omega
  · rw [if_neg a]
    by_cases b : ty k = 41
    · rw [if_pos b]; exact ⟨fun h => by omega, fun h => absurd b h.2.1⟩
    · rw [if_neg b]
      by_cases c : ty k = 46
      · rw [if_pos c]; exact ⟨fun h => by omega, fun h => absurd c h.2.2.1⟩
      · rw [if_neg c]
        by_cases e : ty (k - 1) = 61
        · rw [if_pos e]; exact ⟨fun h => by omega, fun h => absurd e h.2.2.2.1⟩
        · rw [if_neg e]
          by_cases f : ty (k - 1) = 46
          · rw [if_pos f]; exact ⟨fun h => by omega, fun h => absurd f h.2.2.2.2⟩
          · rw [if_neg f]; exact ⟨fun _ => ⟨by omega, b, c, e, f⟩, fun _ => rfl⟩
theorem rd_e01 (ty : Nat → Int32) (k : Nat) : rd_eN ty k = 0 ∨ rd_eN ty k = 1 := by
  unfold rd_eN
  split
  · exact Or.inl rfl
  split
  · exact Or.inl rfl
  split
  · exact Or.inl rfl
  split
  · exact Or.inl rfl
  split
  · exact Or.inl rfl
  · exact Or.inr rfl
theorem rd_eE (h : ∀ i, i < n → ty' i = ty i) (hk : k < n) : rd_eN ty' k = rd_eN ty k := by
  unfold rd_eN
  rw [h k hk, h (k - 1) (by omega)]
def rd_rk (ty : Nat → Int32) : Nat → Nat := dl_sm (rd_eN ty)
theorem rd_rkS (ty : Nat → Int32) (k : Nat) : rd_rk ty (k + 1) = rd_rk ty k + rd_eN ty k := rfl
theorem rd_rkE (h : ∀ i, i < n → ty' i = ty i) (hk : k ≤ n) : rd_rk ty' k = rd_rk ty k := dl_smC k (fun i hi => rd_eE h (by omega))
theorem rd_rkB (ty : Nat → Int32) (k : Nat) : rd_rk ty k ≤ k := by
  have := dl_smB (g := rd_eN ty) (c := 1) k (fun i _ => by have := rd_e01 ty i; omega)
  unfold rd_rk; omega
theorem rd_rkL (h : rd_eN ty k = 1) (hm : k < m) : rd_rk ty k < rd_rk ty m := by
  have := dl_smP (g := rd_eN ty) (n := k + 1) m (by omega)
  have e : dl_sm (rd_eN ty) (k + 1) = dl_sm (rd_eN ty) k + rd_eN ty k := rfl
  unfold rd_rk; omega
theorem rd_rkI (h : rd_eN ty k = 1) (h' : rd_eN ty m = 1) (e : rd_rk ty k = rd_rk ty m) : k = m := by
  rcases Nat.lt_trichotomy k m with z | z | z
  · have := rd_rkL h z; omega
  · exact z
  · have := rd_rkL h' z; omega
/-- the datum that begins at k ends before m; it has not ended before n -/
def rd_Af (ty : Nat → Int32) (k m : Nat) : Prop := k < m ∧ (∀ i, k ≤ i → i + 1 < m → ¬ (rd_hh ty (i + 1) = rd_hh ty k ∧ ¬ ty i = 61)) ∧ rd_hh ty m = rd_hh ty k ∧ ¬ ty (m - 1) = 61
def rd_Op (ty : Nat → Int32) (n k : Nat) : Prop := ∀ i, k ≤ i → i < n → ¬ (rd_hh ty (i + 1) = rd_hh ty k ∧ ¬ ty i = 61)
theorem rd_AfS (h : rd_Op ty n k) (hk : k ≤ n) (e : rd_hh ty (n + 1) = rd_hh ty k) (e2 : ¬ ty n = 61) : rd_Af ty k (n + 1) :=
  ⟨by omega, fun i hi hi2 => h i hi (by omega), e, e2⟩
theorem rd_OpS (h : rd_Op ty n k) (e : ¬ (rd_hh ty (n + 1) = rd_hh ty k ∧ ¬ ty n = 61)) : rd_Op ty (n + 1) k := by
  intro i hi hi2
  by_cases z : i = n
  · rw [z]; exact e
  · exact h i hi (by omega)
theorem rd_OpE (h : ∀ i, i < n → ty' i = ty i) (hk : k ≤ n) (o : rd_Op ty n k) : rd_Op ty' n k := by
  intro i hi hi2
  rw [rd_hhE h (i + 1) (by omega), rd_hhE h k hk, h i hi2]
  exact o i hi hi2
theorem rd_AfE (h : ∀ i, i < n → ty' i = ty i) (hm : m ≤ n) (a : rd_Af ty k m) : rd_Af ty' k m := by
  obtain ⟨a1, a2, a3, a4⟩ := a
  refine ⟨a1, fun i hi hi2 => ?_, ?_, ?_⟩
  · rw [rd_hhE h (i + 1) (by omega), rd_hhE h k (by omega), h i (by omega)]
    exact a2 i hi hi2
  · rw [rd_hhE h m hm, rd_hhE h k (by omega)]; exact a3
  · rw [h (m - 1) (by omega)]; exact a4
/-- an element that is followed by something -/
def rd_Fi (ty : Nat → Int32) (n : Nat) (EN EL : Nat → Int32) (m : Nat) : Prop :=
  (∃ j, j < n ∧ rd_Af ty m j ∧ rd_eN ty j = 1 ∧ EN (rd_rk ty m) = nI (rd_rk ty j)) ∨
  (EN (rd_rk ty m) = -1 ∧ ∃ j, j < n ∧ rd_Af ty m j ∧ ty j = 46 ∧ EL (rd_rk ty m) = nI (j + 1)) ∨
  (EN (rd_rk ty m) = -1 ∧ EL (rd_rk ty m) = -1 ∧ ∃ j, j < n ∧ rd_Af ty m j ∧ ty j = 41)
theorem rd_FiM (h : rd_Fi ty n EN EL m) : rd_Fi ty (n + 1) EN EL m := by
  rcases h with ⟨j, h1, h2⟩ | ⟨h0, j, h1, h2⟩ | ⟨h0, h3, j, h1, h2⟩
  · exact Or.inl ⟨j, by omega, h2⟩
  · exact Or.inr (Or.inl ⟨h0, j, by omega, h2⟩)
  · exact Or.inr (Or.inr ⟨h0, h3, j, by omega, h2⟩)
theorem rd_FiC (e1 : EN' (rd_rk ty m) = EN (rd_rk ty m)) (e2 : EL' (rd_rk ty m) = EL (rd_rk ty m)) (h : rd_Fi ty n EN EL m) : rd_Fi ty n EN' EL' m := by
  unfold rd_Fi
  rw [e1, e2]
  exact h
theorem rd_FiE (h : ∀ i, i < n → ty' i = ty i) (hm : m < n) (f : rd_Fi ty n EN EL m) : rd_Fi ty' n EN EL m := by
  unfold rd_Fi
  rw [rd_rkE h (k := m) (by omega)]
  rcases f with ⟨j, h1, h2, h3, h4⟩ | ⟨h0, j, h1, h2, h3⟩ | ⟨h0, h4, j, h1, h2, h3⟩
  · exact Or.inl ⟨j, h1, rd_AfE h (by omega) h2, by rw [rd_eE h h1]; exact h3, by rw [rd_rkE h (k := j) (by omega)]; exact h4⟩
  · exact Or.inr (Or.inl ⟨h0, j, h1, rd_AfE h (by omega) h2, by rw [h j h1]; exact h3⟩)
  · exact Or.inr (Or.inr ⟨h0, h4, j, h1, rd_AfE h (by omega) h2, by rw [h j h1]; exact h3⟩)
/-- a list at depth d that has not ended -/
def rd_Lv (ty : Nat → Int32) (n M D : Nat) (Q : Prop) (OT LE IT EN EL : Nat → Int32) (d : Nat) : Prop :=
  ∃ k, k < n ∧ OT d = nI k ∧ ty k = 40 ∧ rd_hh ty k = d ∧ (∀ j, k < j → j ≤ n → d + 1 ≤ rd_hh ty j) ∧
    ((LE d = -1 ∧ IT d = 0 ∧ n = k + 1 ∧ Q) ∨
     (∃ m, k < m ∧ m < M ∧ rd_eN ty m = 1 ∧ LE d = nI (rd_rk ty m) ∧ rd_hh ty m = d + 1 ∧ IT d = 0 ∧ EN (rd_rk ty m) = -1 ∧ EL (rd_rk ty m) = -1 ∧
        (∀ i, k < i → i < n → ty i = 46 → ¬ rd_hh ty i = d + 1) ∧ (rd_Op ty n m ∨ (rd_Af ty m n ∧ D = d + 1 ∧ Q))) ∨
     (IT d = 1 ∧ ∃ i, k < i ∧ i < n ∧ ty i = 46 ∧ rd_hh ty i = d + 1))
theorem rd_LvC {M : Nat} {Q : Prop} (e1 : OT' d = OT d) (e2 : LE' d = LE d) (e3 : IT' d = IT d) (h : rd_Lv ty n M D Q OT LE IT EN EL d) : rd_Lv ty n M D Q OT' LE' IT' EN EL d := by
  unfold rd_Lv
  rw [e1, e2, e3]
  exact h
theorem rd_LvE (h : ∀ i, i < n → ty' i = ty i) (l : rd_Lv ty n n D True OT LE IT EN EL d) : rd_Lv ty' n n D True OT LE IT EN EL d := by
  obtain ⟨k, a1, a2, a3, a4, a5, alt⟩ := l
  refine ⟨k, a1, a2, by rw [h k a1]; exact a3, by rw [rd_hhE h k (by omega)]; exact a4, fun j hj hj2 => by rw [rd_hhE h j hj2]; exact a5 j hj hj2, ?_⟩
  rcases alt with b | ⟨m, b1, b2, b3, b4, b5, b6, b7, b8, b9, b10⟩ | ⟨b1, i, b2, b3, b4, b5⟩
  · exact Or.inl b
  · refine Or.inr (Or.inl ⟨m, b1, b2, by rw [rd_eE h b2]; exact b3, by rw [rd_rkE h (k := m) (by omega)]; exact b4, by rw [rd_hhE h m (by omega)]; exact b5, b6, by rw [rd_rkE h (k := m) (by omega)]; exact b7, by rw [rd_rkE h (k := m) (by omega)]; exact b8, ?_, ?_⟩)
    · intro i hi hi2 e
      rw [rd_hhE h i (by omega)]
      exact b9 i hi hi2 (by rw [← h i hi2]; exact e)
    · rcases b10 with c | ⟨c1, c2⟩
      · exact Or.inl (rd_OpE h (by omega) c)
      · exact Or.inr ⟨rd_AfE h (Nat.le_refl _) c1, c2⟩
  · exact Or.inr (Or.inr ⟨b1, i, b2, b3, by rw [h i b3]; exact b4, by rw [rd_hhE h i (by omega)]; exact b5⟩)
def rd_Of (ty : Nat → Int32) (n : Nat) (OF : Nat → Int32) (k : Nat) : Prop :=
  (k + 1 = n ∧ OF k = -1) ∨ (k + 1 < n ∧ ty (k + 1) = 41 ∧ OF k = -1) ∨ (k + 1 < n ∧ ¬ ty (k + 1) = 41 ∧ rd_eN ty (k + 1) = 1 ∧ OF k = nI (rd_rk ty (k + 1)))
theorem rd_OfE (h : ∀ i, i < n → ty' i = ty i) (o : rd_Of ty n OF k) : rd_Of ty' n OF k := by
  rcases o with o | ⟨o1, o2, o3⟩ | ⟨o1, o2, o3, o4⟩
  · exact Or.inl o
  · exact Or.inr (Or.inl ⟨o1, by rw [h _ o1]; exact o2, o3⟩)
  · exact Or.inr (Or.inr ⟨o1, by rw [h _ o1]; exact o2, by rw [rd_eE h o1]; exact o3, by rw [rd_rkE h (k := k + 1) (by omega)]; exact o4⟩)
def rd_Lb (ty nu LT : Nat → Int32) (n : Nat) : Prop :=
  ∀ q, q < 100 → (LT q = -1 ∧ ∀ i, i < n → ty i = 61 → ¬ nu i = nI q) ∨ (∃ i, i < n ∧ LT q = nI (i + 1) ∧ ty i = 61 ∧ nu i = nI q ∧ ∀ j, j < n → ty j = 61 → nu j = nI q → j = i)
theorem rd_LbE (h : ∀ i, i < n → ty' i = ty i) (h' : ∀ i, i < n → nu' i = nu i) (l : rd_Lb ty nu LT n) : rd_Lb ty' nu' LT n := by
  intro q hq
  rcases l q hq with ⟨a, b⟩ | ⟨i, a1, a2, a3, a4, a5⟩
  · exact Or.inl ⟨a, fun i hi e => by rw [h' i hi]; exact b i hi (by rw [← h i hi]; exact e)⟩
  · exact Or.inr ⟨i, a1, a2, by rw [h i a1]; exact a3, by rw [h' i a1]; exact a4, fun j hj e1 e2 => a5 j hj (by rw [← h j hj]; exact e1) (by rw [← h' j hj]; exact e2)⟩
def rd_Pl (ty : Nat → Int32) (n D : Nat) (IT : Nat → Int32) (pl : Int32) : Prop :=
  (pl = 115 ∧ (n = 0 ∨ (0 < n ∧ (ty (n - 1) = 61 ∨ ty (n - 1) = 46)))) ∨ (pl = 111 ∧ 0 < n ∧ ty (n - 1) = 40) ∨
  (0 < n ∧ ¬ ty (n - 1) = 61 ∧ ¬ ty (n - 1) = 46 ∧ ¬ ty (n - 1) = 40 ∧ ((D = 0 ∧ pl = 120) ∨ (0 < D ∧ IT (D - 1) = 0 ∧ pl = 101) ∨ (0 < D ∧ IT (D - 1) = 1 ∧ pl = 116)))
theorem rd_PlE (h : ∀ i, i < n → ty' i = ty i) (p : rd_Pl ty n D IT pl) : rd_Pl ty' n D IT pl := by
  by_cases z : n = 0
  · subst z
    rcases p with ⟨a, _⟩ | ⟨_, b, _⟩ | ⟨b, _⟩
    · exact Or.inl ⟨a, Or.inl rfl⟩
    · omega
    · omega
  · unfold rd_Pl
    rw [h (n - 1) (by omega)]
    exact p
/-- the state of the reader after n tokens -/
def rd_PI (ty nu T V OF OT LE IT ET EN EL LT : Nat → Int32) (n D : Nat) (pl : Int32) : Prop :=
  (∀ i, i < n → rd_tk (ty i) (nu i) (T i) (V i)) ∧
  (∀ i, i < n → ty i = 41 → 0 < rd_hh ty i) ∧
  D = rd_hh ty n ∧
  rd_Lb ty nu LT n ∧
  (∀ k, k < n → rd_eN ty k = 1 → ET (rd_rk ty k) = nI k) ∧
  (∀ d, d < D → rd_Lv ty n n D True OT LE IT EN EL d) ∧
  (∀ m, m < n → rd_eN ty m = 1 → rd_Fi ty n EN EL m ∨ ∃ d, d < D ∧ IT d = 0 ∧ LE d = nI (rd_rk ty m)) ∧
  (∀ k, k < n → ty k = 40 → rd_Of ty n OF k) ∧
  rd_Pl ty n D IT pl
theorem rd_PIE (h : ∀ i, i < n → ty' i = ty i) (h' : ∀ i, i < n → nu' i = nu i) (P : rd_PI ty nu T V OF OT LE IT ET EN EL LT n D pl) : rd_PI ty' nu' T V OF OT LE IT ET EN EL LT n D pl := by
  obtain ⟨p1, p2, p3, p4, p5, p6, p7, p8, p9⟩ := P
  refine ⟨?_, ?_, ?_, rd_LbE h h' p4, ?_, fun d hd => rd_LvE h (p6 d hd), ?_, ?_, rd_PlE h p9⟩
  · intro i hi; rw [h i hi, h' i hi]; exact p1 i hi
  · intro i hi e; rw [rd_hhE h i (by omega)]; exact p2 i hi (by rw [← h i hi]; exact e)
  · rw [rd_hhE h n (Nat.le_refl _)]; exact p3
  · intro k hk e; rw [rd_rkE h (k := k) (by omega)]; exact p5 k hk (by rw [← rd_eE h hk]; exact e)
  · intro m hm e
    rw [rd_eE h hm] at e
    rcases p7 m hm e with f | ⟨d, f1, f2, f3⟩
    · exact Or.inl (rd_FiE h hm f)
    · exact Or.inr ⟨d, f1, f2, by rw [rd_rkE h (k := m) (by omega)]; exact f3⟩
  · intro k hk e
    exact rd_OfE h (p8 k hk (by rw [← h k hk]; exact e))
theorem rd_PI0 (h : ∀ q, q < 100 → LT q = -1) : rd_PI ty nu T V OF OT LE IT ET EN EL LT 0 0 115 :=
  ⟨fun i hi => absurd hi (by omega), fun i hi => absurd hi (by omega), rfl, fun q hq => Or.inl ⟨h q hq, fun i hi => absurd hi (by omega)⟩, fun i hi => absurd hi (by omega), fun i hi => absurd hi (by omega),
   fun i hi => absurd hi (by omega), fun i hi => absurd hi (by omega), Or.inl ⟨rfl, Or.inl rfl⟩⟩
end DLPI
end
section
section DLPT
variable {ty nu T V OF OT LE IT ET EN EL LT OF' OT' LE' IT' ET' EN' EL' LT' : Nat → Int32} {n D d k m i j q : Nat} {pl xt xv : Int32}
theorem rd_topO (P : rd_PI ty nu T V OF OT LE IT ET EN EL LT n D pl) (h0 : 0 < n) (h : ty (n - 1) = 40) : 0 < D ∧ LE (D - 1) = -1 ∧ IT (D - 1) = 0 ∧ OT (D - 1) = nI (n - 1) := by
  obtain ⟨p1, p2, p3, p4, p5, p6, p7, p8, p9⟩ := P
  have e := rd_hhO h
  rw [show n - 1 + 1 = n from by omega] at e
  have hD : 0 < D := by omega
  obtain ⟨k, a1, a2, a3, a4, a5, alt⟩ := p6 (D - 1) (by omega)
  have ek : k = n - 1 := by
    clear alt p6 p7 p8 p9
    apply Classical.byContradiction
    intro z
    have := a5 (n - 1) (by omega) (by omega)
    omega
  subst ek
  rcases alt with ⟨b1, b2, _⟩ | ⟨m, b1, b2, _⟩ | ⟨_, i, b1, b2, _⟩
  · exact ⟨hD, b1, b2, a2⟩
  · omega
  · omega
theorem rd_topE (P : rd_PI ty nu T V OF OT LE IT ET EN EL LT n D pl) (h0 : 0 < n) (h1 : ¬ ty (n - 1) = 61) (h3 : ¬ ty (n - 1) = 40) (hD : 0 < D) (hI : IT (D - 1) = 0) :
    ∃ k m, k < m ∧ m < n ∧ rd_eN ty m = 1 ∧ LE (D - 1) = nI (rd_rk ty m) ∧ rd_hh ty m = D ∧ EN (rd_rk ty m) = -1 ∧ EL (rd_rk ty m) = -1 ∧ rd_Af ty m n ∧
      OT (D - 1) = nI k ∧ ty k = 40 ∧ rd_hh ty k = D - 1 ∧ (∀ j, k < j → j ≤ n → D ≤ rd_hh ty j) ∧ (∀ i, k < i → i < n → ty i = 46 → ¬ rd_hh ty i = D) := by
  obtain ⟨p1, p2, p3, p4, p5, p6, p7, p8, p9⟩ := P
  obtain ⟨k, a1, a2, a3, a4, a5, alt⟩ := p6 (D - 1) (by omega)
  rw [Nat.sub_add_cancel hD] at a5 alt
  rcases alt with ⟨b1, b2, b3, _⟩ | ⟨m, b1, b2, b3, b4, b5, b6, b7, b8, b9, b10⟩ | ⟨b1, _⟩
  · rw [show n - 1 = k from by omega] at h3
    exact absurd a3 h3
  · refine ⟨k, m, b1, b2, b3, b4, b5, b7, b8, ?_, a2, a3, a4, a5, b9⟩
    rcases b10 with c | ⟨c, _⟩
    · refine absurd ⟨?_, h1⟩ (c (n - 1) (by omega) (by omega))
      rw [show n - 1 + 1 = n from by omega]
      omega
    · exact c
  · rw [hI] at b1
    exact absurd b1 (by decide)
def rd_P1 (ty OF OT LE IT ET EN EL : Nat → Int32) (n D : Nat) : Prop :=
  (∀ k, k < n + 1 → rd_eN ty k = 1 → ET (rd_rk ty k) = nI k) ∧
  (∀ d, d < D → rd_Lv ty n (n + 1) D (rd_eN ty n = 0) OT LE IT EN EL d) ∧
  (∀ m, m < n + 1 → rd_eN ty m = 1 → rd_Fi ty (n + 1) EN EL m ∨ ∃ d, d < D ∧ IT d = 0 ∧ LE d = nI (rd_rk ty m)) ∧
  (∀ k, k < n → ty k = 40 → rd_Of ty (n + 1) OF k) ∧ OF n = -1
theorem rd_ph1N (P : rd_PI ty nu T V OF OT LE IT ET EN EL LT n D pl) (he : rd_eN ty n = 0) (hO : 0 < n → ty (n - 1) = 40 → ty n = 41) : rd_P1 ty (upd OF n (-1)) OT LE IT ET EN EL n D := by
  obtain ⟨p1, p2, p3, p4, p5, p6, p7, p8, p9⟩ := P
  have ne : ∀ {k}, k < n + 1 → rd_eN ty k = 1 → k < n := fun {k} hk e => by
    by_cases z : k = n
    · rw [z, he] at e; omega
    · omega
  refine ⟨fun k hk e => p5 k (ne hk e) e, ?_, ?_, ?_, pk_us⟩
  · intro d hd
    obtain ⟨k, a1, a2, a3, a4, a5, alt⟩ := p6 d hd
    refine ⟨k, a1, a2, a3, a4, a5, ?_⟩
    rcases alt with ⟨b1, b2, b3, _⟩ | ⟨m, b1, b2, b3, b4, b5, b6, b7, b8, b9, b10⟩ | b
    · exact Or.inl ⟨b1, b2, b3, he⟩
    · refine Or.inr (Or.inl ⟨m, b1, by omega, b3, b4, b5, b6, b7, b8, b9, ?_⟩)
      rcases b10 with c | ⟨c1, c2, _⟩
      · exact Or.inl c
      · exact Or.inr ⟨c1, c2, he⟩
    · exact Or.inr (Or.inr b)
  · intro m hm e
    rcases p7 m (ne hm e) e with f | f
    · exact Or.inl (rd_FiM f)
    · exact Or.inr f
  · intro k hk e
    unfold rd_Of
    rw [pk_un (by omega)]
    rcases p8 k hk e with ⟨o1, o2⟩ | ⟨o1, o2, o3⟩ | ⟨o1, o2, o3, o4⟩
    · have ek : k = n - 1 := by omega
      have := hO (by omega) (by rw [← ek]; exact e)
      exact Or.inr (Or.inl ⟨by omega, by rw [o1]; exact this, o2⟩)
    · exact Or.inr (Or.inl ⟨by omega, o2, o3⟩)
    · exact Or.inr (Or.inr ⟨by omega, o2, o3, o4⟩)
theorem rd_lvB {Q : Prop} (L : rd_Lv ty n n D True OT LE IT EN EL d) (hD : D = rd_hh ty n) (hd : d + 1 < D) (e1 : LE' d = LE d)
    (hE : ∀ m, m < n → rd_eN ty m = 1 → rd_hh ty m = d + 1 → EN' (rd_rk ty m) = EN (rd_rk ty m) ∧ EL' (rd_rk ty m) = EL (rd_rk ty m)) : rd_Lv ty n (n + 1) D Q OT LE' IT EN' EL' d := by
  obtain ⟨k, a1, a2, a3, a4, a5, alt⟩ := L
  refine ⟨k, a1, a2, a3, a4, a5, ?_⟩
  rw [e1]
  rcases alt with ⟨b1, b2, b3, _⟩ | ⟨m, b1, b2, b3, b4, b5, b6, b7, b8, b9, b10⟩ | b
  · have := rd_hhO a3
    rw [← b3] at this
    omega
  · obtain ⟨x1, x2⟩ := hE m b2 b3 b5
    refine Or.inr (Or.inl ⟨m, b1, by omega, b3, b4, b5, b6, by rw [x1]; exact b7, by rw [x2]; exact b8, b9, ?_⟩)
    rcases b10 with c | ⟨_, c2, _⟩
    · exact Or.inl c
    · omega
  · exact Or.inr (Or.inr b)
theorem rd_ph1O (P : rd_PI ty nu T V OF OT LE IT ET EN EL LT n D pl) (hn : n < 2 ^ 30) (he : rd_eN ty n = 1) (h : ty (n - 1) = 40) :
    rd_P1 ty (upd (upd OF n (-1)) (n - 1) (nI (rd_rk ty n))) OT (upd LE (D - 1) (nI (rd_rk ty n))) IT (upd ET (rd_rk ty n) (nI n)) (upd EN (rd_rk ty n) (-1)) (upd EL (rd_rk ty n) (-1)) n D := by
  have h0 : 0 < n := (rd_e1.mp he).1
  obtain ⟨hD, t1, t2, t3⟩ := rd_topO P h0 h
  obtain ⟨p1, p2, p3, p4, p5, p6, p7, p8, p9⟩ := P
  have rkn : ∀ {m}, m < n → rd_eN ty m = 1 → ¬ rd_rk ty m = rd_rk ty n := fun hm e => by have := rd_rkL e hm; omega
  refine ⟨?_, ?_, ?_, ?_, ?_⟩
  · intro k hk e
    by_cases z : k = n
    · rw [z, pk_us]
    · rw [pk_un (rkn (by omega) e)]; exact p5 k (by omega) e
  · intro d hd
    by_cases z : d + 1 < D
    · exact rd_lvB (p6 d hd) p3 z (pk_un (by omega)) (fun m hm e _ => ⟨pk_un (rkn hm e), pk_un (rkn hm e)⟩)
    · have ed : d = D - 1 := by omega
      subst ed
      obtain ⟨k, a1, a2, a3, a4, a5, alt⟩ := p6 (D - 1) hd
      refine ⟨k, a1, a2, a3, a4, a5, Or.inr (Or.inl ⟨n, a1, by omega, he, pk_us, by omega, t2, pk_us, pk_us, ?_, Or.inl (fun i hi hi2 => by omega)⟩)⟩
      rcases alt with ⟨b1, b2, b3, _⟩ | ⟨m, b1, b2, b3, b4, b5, b6, b7, b8, b9, b10⟩ | ⟨b1, _⟩
      · intro i hi hi2; omega
      · exact b9
      · rw [t2] at b1; exact absurd b1 (by decide)
  · intro m hm e
    by_cases z : m = n
    · subst z; exact Or.inr ⟨D - 1, by omega, t2, pk_us⟩
    · rcases p7 m (by omega) e with f | ⟨d, f1, f2, f3⟩
      · exact Or.inl (rd_FiM (rd_FiC (pk_un (rkn (by omega) e)) (pk_un (rkn (by omega) e)) f))
      · refine Or.inr ⟨d, f1, f2, ?_⟩
        rw [pk_un (fun w => by rw [w, t1] at f3; exact absurd f3.symm (dl_nm1 (by have := rd_rkB ty m; omega)))]
        exact f3
  · intro k hk e
    unfold rd_Of
    by_cases z : k = n - 1
    · subst z
      rw [show n - 1 + 1 = n from by omega, pk_us]
      exact Or.inr (Or.inr ⟨by omega, (rd_e1.mp he).2.1, he, rfl⟩)
    · rw [pk_un z, pk_un (by omega)]
      rcases p8 k hk e with ⟨o1, o2⟩ | ⟨o1, o2, o3⟩ | ⟨o1, o2, o3, o4⟩
      · omega
      · exact Or.inr (Or.inl ⟨by omega, o2, o3⟩)
      · exact Or.inr (Or.inr ⟨by omega, o2, o3, o4⟩)
  · rw [pk_un (by omega), pk_us]
theorem rd_ph1E (P : rd_PI ty nu T V OF OT LE IT ET EN EL LT n D pl) (hn : n < 2 ^ 30) (he : rd_eN ty n = 1) (h : ¬ ty (n - 1) = 40) (hD : 0 < D) (hI : IT (D - 1) = 0)
    (hm : m < n) (em : rd_eN ty m = 1) (hl : LE (D - 1) = nI (rd_rk ty m)) (hh : rd_hh ty m = D) (hA : rd_Af ty m n) :
    rd_P1 ty (upd OF n (-1)) OT (upd LE (D - 1) (nI (rd_rk ty n))) IT (upd ET (rd_rk ty n) (nI n)) (upd (upd EN (rd_rk ty n) (-1)) (rd_rk ty m) (nI (rd_rk ty n))) (upd EL (rd_rk ty n) (-1)) n D := by
  have h0 : 0 < n := (rd_e1.mp he).1
  obtain ⟨p1, p2, p3, p4, p5, p6, p7, p8, p9⟩ := P
  have rkn : ∀ {m}, m < n → rd_eN ty m = 1 → ¬ rd_rk ty m = rd_rk ty n := fun hm e => by have := rd_rkL e hm; omega
  refine ⟨?_, ?_, ?_, ?_, pk_us⟩
  · intro k hk e
    by_cases z : k = n
    · rw [z, pk_us]
    · rw [pk_un (rkn (by omega) e)]; exact p5 k (by omega) e
  · intro d hd
    by_cases z : d + 1 < D
    · refine rd_lvB (p6 d hd) p3 z (pk_un (by omega)) (fun m' hm' e e2 => ⟨?_, pk_un (rkn hm' e)⟩)
      rw [pk_un (fun w => by have := rd_rkI e em w; subst this; omega), pk_un (rkn hm' e)]
    · have ed : d = D - 1 := by omega
      subst ed
      obtain ⟨k, a1, a2, a3, a4, a5, alt⟩ := p6 (D - 1) hd
      have rm := rkn hm em
      refine ⟨k, a1, a2, a3, a4, a5, Or.inr (Or.inl ⟨n, a1, by omega, he, pk_us, by omega, hI, ?_, pk_us, ?_, Or.inl (fun i hi hi2 => by omega)⟩)⟩
      · rw [pk_un (by omega), pk_us]
      · rcases alt with ⟨b1, b2, b3, _⟩ | ⟨m, b1, b2, b3, b4, b5, b6, b7, b8, b9, b10⟩ | ⟨b1, _⟩
        · intro i hi hi2; omega
        · exact b9
        · rw [hI] at b1; exact absurd b1 (by decide)
  · intro m' hm' e
    by_cases z : m' = n
    · subst z; exact Or.inr ⟨D - 1, by omega, hI, pk_us⟩
    · by_cases z2 : m' = m
      · subst z2
        exact Or.inl (Or.inl ⟨n, by omega, hA, he, pk_us⟩)
      · have r2 : ¬ rd_rk ty m' = rd_rk ty m := fun w => z2 (rd_rkI e em w)
        have r1 := rkn (m := m') (by omega) e
        rcases p7 m' (by omega) e with f | ⟨d, f1, f2, f3⟩
        · exact Or.inl (rd_FiM (rd_FiC (by rw [pk_un r2, pk_un r1]) (pk_un r1) f))
        · refine Or.inr ⟨d, f1, f2, ?_⟩
          rw [pk_un (fun w => by
            rw [w, hl] at f3
            have b1 := rd_rkB ty m
            have b2 := rd_rkB ty m'
            exact r2 (dl_inj (by omega) (by omega) f3).symm)]
          exact f3
  · intro k hk e
    unfold rd_Of
    rw [pk_un (by omega)]
    rcases p8 k hk e with ⟨o1, o2⟩ | ⟨o1, o2, o3⟩ | ⟨o1, o2, o3, o4⟩
    · rw [show n - 1 = k from by omega] at h
      exact absurd e h
    · exact Or.inr (Or.inl ⟨by omega, o2, o3⟩)
    · exact Or.inr (Or.inr ⟨by omega, o2, o3, o4⟩)
theorem rd_lvS (L : rd_Lv ty n (n + 1) D (rd_eN ty n = 0) OT LE IT EN EL d) (hD : D = rd_hh ty n) (h1 : d + 1 ≤ rd_hh ty (n + 1)) (h2 : d + 1 < D ∨ (¬ ty n = 41 ∧ ¬ ty n = 46)) :
    rd_Lv ty (n + 1) (n + 1) (rd_hh ty (n + 1)) True OT LE IT EN EL d := by
  obtain ⟨k, a1, a2, a3, a4, a5, alt⟩ := L
  have hx : (¬ ty n = 41 ∧ ¬ ty n = 46) → rd_eN ty n = 0 → ty (n - 1) = 61 ∨ ty (n - 1) = 46 := by
    intro s e
    apply Classical.byContradiction
    intro z
    have := rd_e1.mpr ⟨by omega, s.1, s.2, fun w => z (Or.inl w), fun w => z (Or.inr w)⟩
    omega
  refine ⟨k, by omega, a2, a3, a4, fun j hj hj2 => ?_, ?_⟩
  · by_cases z : j = n + 1
    · rw [z]; exact h1
    · exact a5 j hj (by omega)
  · rcases alt with ⟨b1, b2, b3, b4⟩ | ⟨m, b1, b2, b3, b4, b5, b6, b7, b8, b9, b10⟩ | ⟨b1, i, b2, b3, b4⟩
    · exfalso
      have e := rd_hhO a3
      rw [← b3] at e
      rcases h2 with h2 | h2
      · omega
      · have := hx h2 b4
        rw [show n - 1 = k from by omega, a3] at this
        rcases this with w | w
        · exact absurd w (by decide)
        · exact absurd w (by decide)
    · refine Or.inr (Or.inl ⟨m, b1, b2, b3, b4, b5, b6, b7, b8, ?_, ?_⟩)
      · intro i hi hi2 e
        by_cases z : i = n
        · rw [z] at e ⊢
          rcases h2 with h2 | h2
          · omega
          · exact absurd e h2.2
        · exact b9 i hi (by omega) e
      · rcases b10 with c | ⟨c1, c2, c3⟩
        · by_cases z : rd_hh ty (n + 1) = rd_hh ty m ∧ ¬ ty n = 61
          · exact Or.inr ⟨rd_AfS c (by omega) z.1 z.2, by omega, trivial⟩
          · exact Or.inl (rd_OpS c z)
        · exfalso
          rcases h2 with h2 | h2
          · omega
          · rcases hx h2 c3 with w | w
            · exact c1.2.2.2 w
            · have c0 := c1.1
              refine b9 (n - 1) (by omega) (by omega) w ?_
              have e := rd_hhN (ty := ty) (i := n - 1) (by rw [w]; decide) (by rw [w]; decide)
              rw [show n - 1 + 1 = n from by omega] at e
              omega
    · exact Or.inr (Or.inr ⟨b1, i, b2, by omega, b4⟩)
theorem rd_LbN (h : ¬ ty n = 61) (l : rd_Lb ty nu LT n) : rd_Lb ty nu LT (n + 1) := by
  have ne : ∀ {i}, i < n + 1 → ty i = 61 → i < n := fun {i} hi e => by
    by_cases z : i = n
    · rw [z] at e; exact absurd e h
    · omega
  intro q hq
  rcases l q hq with ⟨a, b⟩ | ⟨i, a1, a2, a3, a4, a5⟩
  · exact Or.inl ⟨a, fun i hi e => b i (ne hi e) e⟩
  · exact Or.inr ⟨i, by omega, a2, a3, a4, fun j hj e1 e2 => a5 j (ne hj e1) e1 e2⟩
theorem rd_LbU (hq : q < 100) (h : ty n = 61) (hv : nu n = nI q) (l : rd_Lb ty nu LT n) (hn : LT q = -1) (hn2 : n < 2 ^ 30) : rd_Lb ty nu (upd LT q (nI (n + 1))) (n + 1) := by
  intro q' hq'
  by_cases z : q' = q
  · subst z
    rw [pk_us]
    rcases l q' hq' with ⟨a, b⟩ | ⟨i, a1, a2, a3, a4, a5⟩
    · refine Or.inr ⟨n, by omega, rfl, h, hv, fun j hj e1 e2 => ?_⟩
      apply Classical.byContradiction
      intro w
      exact b j (by omega) e1 e2
    · rw [hn] at a2
      exact absurd a2.symm (dl_nm1 (by omega))
  · rw [pk_un z]
    have ne : ∀ {i}, i < n + 1 → nu i = nI q' → i < n := fun {i} hi e => by
      by_cases w : i = n
      · rw [w, hv] at e
        exact absurd (dl_inj (by omega) (by omega) e).symm z
      · omega
    rcases l q' hq' with ⟨a, b⟩ | ⟨i, a1, a2, a3, a4, a5⟩
    · exact Or.inl ⟨a, fun i hi e e2 => b i (ne hi e2) e e2⟩
    · exact Or.inr ⟨i, by omega, a2, a3, a4, fun j hj e1 e2 => a5 j (ne hj e2) e1 e2⟩
theorem rd_tkS (p : ∀ i, i < n → rd_tk (ty i) (nu i) (T i) (V i)) (h : rd_tk (ty n) (nu n) xt xv) : ∀ i, i < n + 1 → rd_tk (ty i) (nu i) (upd T n xt i) (upd V n xv i) := by
  intro i hi
  by_cases z : i = n
  · rw [z, pk_us, pk_us]; exact h
  · rw [pk_un z, pk_un z]; exact p i (by omega)
theorem rd_hhS (p : ∀ i, i < n → ty i = 41 → 0 < rd_hh ty i) (h : ty n = 41 → 0 < rd_hh ty n) : ∀ i, i < n + 1 → ty i = 41 → 0 < rd_hh ty i := by
  intro i hi e
  by_cases z : i = n
  · rw [z] at e ⊢; exact h e
  · exact p i (by omega) e
/-- an atom, a reference -/
theorem rd_ph2A {OF1 LE1 ET1 EN1 EL1 : Nat → Int32} {pl' : Int32} (P : rd_PI ty nu T V OF OT LE IT ET EN EL LT n D pl) (P1 : rd_P1 ty OF1 OT LE1 IT ET1 EN1 EL1 n D) (h0 : ¬ ty n = 40) (h1 : ¬ ty n = 41) (h2 : ¬ ty n = 46) (h3 : ¬ ty n = 61) (hk : rd_tk (ty n) (nu n) xt xv)
    (hp : (D = 0 ∧ pl' = 120) ∨ (0 < D ∧ IT (D - 1) = 0 ∧ pl' = 101) ∨ (0 < D ∧ IT (D - 1) = 1 ∧ pl' = 116)) :
    rd_PI ty nu (upd T n xt) (upd V n xv) OF1 OT LE1 IT ET1 EN1 EL1 LT (n + 1) D pl' := by
  obtain ⟨p1, p2, p3, p4, p5, p6, p7, p8, p9⟩ := P
  obtain ⟨q1, q2, q3, q4, q5⟩ := P1
  have e := rd_hhN h0 h1
  have e3 : D = rd_hh ty (n + 1) := by rw [e]; exact p3
  refine ⟨rd_tkS p1 hk, rd_hhS p2 (fun z => absurd z h1), e3, rd_LbN h3 p4, q1, ?_, q3, ?_, Or.inr (Or.inr ⟨by omega, h3, h2, h0, hp⟩)⟩
  · intro d hd
    rw [e3]
    exact rd_lvS (q2 d hd) p3 (by omega) (Or.inr ⟨h1, h2⟩)
  · intro k hk e
    by_cases z : k = n
    · rw [z] at e; exact absurd e h0
    · exact q4 k (by omega) e
/-- a label -/
theorem rd_ph2L {OF1 LE1 ET1 EN1 EL1 : Nat → Int32} (P : rd_PI ty nu T V OF OT LE IT ET EN EL LT n D pl) (P1 : rd_P1 ty OF1 OT LE1 IT ET1 EN1 EL1 n D) (hn : n < 2 ^ 30) (h : ty n = 61) (hk : rd_tk (ty n) (nu n) xt xv) (hq : q < 100) (hv : nu n = nI q) (hl : LT q = -1) :
    rd_PI ty nu (upd T n xt) (upd V n xv) OF1 OT LE1 IT ET1 EN1 EL1 (upd LT q (nI (n + 1))) (n + 1) D 115 := by
  obtain ⟨p1, p2, p3, p4, p5, p6, p7, p8, p9⟩ := P
  obtain ⟨q1, q2, q3, q4, q5⟩ := P1
  have h0 : ¬ ty n = 40 := by rw [h]; decide
  have h1 : ¬ ty n = 41 := by rw [h]; decide
  have h2 : ¬ ty n = 46 := by rw [h]; decide
  have e := rd_hhN h0 h1
  have e3 : D = rd_hh ty (n + 1) := by rw [e]; exact p3
  refine ⟨rd_tkS p1 hk, rd_hhS p2 (fun z => absurd z h1), e3, rd_LbU hq h hv p4 hl hn, q1, ?_, q3, ?_, Or.inl ⟨rfl, Or.inr ⟨by omega, Or.inl h⟩⟩⟩
  · intro d hd
    rw [e3]
    exact rd_lvS (q2 d hd) p3 (by omega) (Or.inr ⟨h1, h2⟩)
  · intro k hk e
    by_cases z : k = n
    · rw [z] at e; exact absurd e h0
    · exact q4 k (by omega) e
/-- an opened list -/
theorem rd_ph2O {OF1 LE1 ET1 EN1 EL1 : Nat → Int32} (P : rd_PI ty nu T V OF OT LE IT ET EN EL LT n D pl) (P1 : rd_P1 ty OF1 OT LE1 IT ET1 EN1 EL1 n D) (h : ty n = 40) (hk : rd_tk (ty n) (nu n) xt xv) :
    rd_PI ty nu (upd T n xt) (upd V n xv) OF1 (upd OT D (nI n)) (upd LE1 D (-1)) (upd IT D 0) ET1 EN1 EL1 LT (n + 1) (D + 1) 111 := by
  obtain ⟨p1, p2, p3, p4, p5, p6, p7, p8, p9⟩ := P
  obtain ⟨q1, q2, q3, q4, q5⟩ := P1
  have h1 : ¬ ty n = 41 := by rw [h]; decide
  have h2 : ¬ ty n = 46 := by rw [h]; decide
  have h3 : ¬ ty n = 61 := by rw [h]; decide
  have e := rd_hhO h
  have e3 : D + 1 = rd_hh ty (n + 1) := by omega
  refine ⟨rd_tkS p1 hk, rd_hhS p2 (fun z => absurd z h1), e3, rd_LbN h3 p4, q1, ?_, ?_, ?_, Or.inr (Or.inl ⟨rfl, by omega, h⟩)⟩
  · intro d hd
    by_cases z : d = D
    · subst z
      refine ⟨n, by omega, pk_us, h, p3.symm, fun j hj hj2 => ?_, Or.inl ⟨pk_us, pk_us, rfl, trivial⟩⟩
      have : j = n + 1 := by omega
      rw [this]; omega
    · rw [e3]
      exact rd_LvC (pk_un z) (pk_un z) (pk_un z) (rd_lvS (q2 d (by omega)) p3 (by omega) (Or.inr ⟨h1, h2⟩))
  · intro m hm e
    rcases q3 m hm e with f | ⟨d, f1, f2, f3⟩
    · exact Or.inl f
    · exact Or.inr ⟨d, by omega, by rw [pk_un (by omega)]; exact f2, by rw [pk_un (by omega)]; exact f3⟩
  · intro k hk e
    by_cases z : k = n
    · subst z; exact Or.inl ⟨rfl, q5⟩
    · exact q4 k (by omega) e
theorem rd_LvX {M : Nat} {Q : Prop} (e1 : OT' d = OT d) (e2 : LE' d = LE d) (e3 : IT' d = IT d) (hE : ∀ m, rd_eN ty m = 1 → rd_hh ty m = d + 1 → EN' (rd_rk ty m) = EN (rd_rk ty m) ∧ EL' (rd_rk ty m) = EL (rd_rk ty m))
    (h : rd_Lv ty n M D Q OT LE IT EN EL d) : rd_Lv ty n M D Q OT' LE' IT' EN' EL' d := by
  unfold rd_Lv
  rw [e1, e2, e3]
  obtain ⟨k, a1, a2, a3, a4, a5, alt⟩ := h
  refine ⟨k, a1, a2, a3, a4, a5, ?_⟩
  rcases alt with b | ⟨m, b1, b2, b3, b4, b5, b6, b7, b8, b9, b10⟩ | b
  · exact Or.inl b
  · obtain ⟨x1, x2⟩ := hE m b3 b5
    exact Or.inr (Or.inl ⟨m, b1, b2, b3, b4, b5, b6, by rw [x1]; exact b7, by rw [x2]; exact b8, b9, b10⟩)
  · exact Or.inr (Or.inr b)
/-- a dot -/
theorem rd_ph2D (P : rd_PI ty nu T V OF OT LE IT ET EN EL LT n D pl) (hn : n < 2 ^ 30) (h : ty n = 46) (hk : rd_tk (ty n) (nu n) xt xv) (h0 : 0 < n) (c1 : ¬ ty (n - 1) = 61) (c3 : ¬ ty (n - 1) = 40) (hD : 0 < D) (hI : IT (D - 1) = 0)
    (hm : m < n) (em : rd_eN ty m = 1) (hl : LE (D - 1) = nI (rd_rk ty m)) :
    rd_PI ty nu (upd T n xt) (upd V n xv) (upd OF n (-1)) OT LE (upd IT (D - 1) 1) ET EN (upd EL (rd_rk ty m) (nI (n + 1))) LT (n + 1) D 115 := by
  have he : rd_eN ty n = 0 := by
    rcases rd_e01 ty n with z | z
    · exact z
    · exact absurd h (rd_e1.mp z).2.2.1
  obtain ⟨k0, m0, t1, t2, t3, t4, t5, t6, t7, t8, t9, t10, t11, t12, t13⟩ := rd_topE P h0 c1 c3 hD hI
  have inj : ∀ {a b}, a < n → b < n → rd_eN ty a = 1 → rd_eN ty b = 1 → nI (rd_rk ty a) = nI (rd_rk ty b) → a = b := fun {a b} ha hb ea eb e => by
    have b1 := rd_rkB ty a
    have b2 := rd_rkB ty b
    exact rd_rkI ea eb (dl_inj (by omega) (by omega) e)
  have e0 : m = m0 := inj hm t2 em t3 (by rw [← hl, ← t4])
  subst e0
  have P1 := rd_ph1N P he (fun _ z => absurd z c3)
  obtain ⟨p1, p2, p3, p4, p5, p6, p7, p8, p9⟩ := P
  obtain ⟨q1, q2, q3, q4, q5⟩ := P1
  have h4 : ¬ ty n = 40 := by rw [h]; decide
  have h1 : ¬ ty n = 41 := by rw [h]; decide
  have h3 : ¬ ty n = 61 := by rw [h]; decide
  have e := rd_hhN h4 h1
  have e3 : D = rd_hh ty (n + 1) := by rw [e]; exact p3
  refine ⟨rd_tkS p1 hk, rd_hhS p2 (fun z => absurd z h1), e3, rd_LbN h3 p4, q1, ?_, ?_, ?_, Or.inl ⟨rfl, Or.inr ⟨by omega, Or.inr h⟩⟩⟩
  · intro d hd
    by_cases z : d + 1 < D
    · have L := rd_lvS (q2 d hd) p3 (by omega) (Or.inl z)
      rw [← e3] at L
      refine rd_LvX rfl rfl (pk_un (by omega)) (fun m' e1 e2 => ⟨rfl, pk_un (fun w => ?_)⟩) L
      have := rd_rkI e1 em w
      subst this
      omega
    · have ed : d = D - 1 := by omega
      subst ed
      refine ⟨k0, by omega, t9, t10, t11, fun j hj hj2 => ?_, Or.inr (Or.inr ⟨pk_us, n, by omega, by omega, h, by omega⟩)⟩
      by_cases w : j = n + 1
      · rw [w]; omega
      · have := t12 j hj (by omega); omega
  · intro m' hm' e'
    have hm2 : m' < n := by
      by_cases z : m' = n
      · rw [z, he] at e'; omega
      · omega
    by_cases z : m' = m
    · subst z
      exact Or.inl (Or.inr (Or.inl ⟨t6, n, by omega, t8, h, pk_us⟩))
    · have r : ¬ rd_rk ty m' = rd_rk ty m := fun w => z (rd_rkI e' em w)
      rcases q3 m' hm' e' with f | ⟨d, f1, f2, f3⟩
      · exact Or.inl (rd_FiC rfl (pk_un r) f)
      · refine Or.inr ⟨d, f1, ?_, f3⟩
        rw [pk_un (fun w => by
          rw [w, hl] at f3
          exact z (inj hm hm2 em e' f3).symm)]
        exact f2
  · intro k hk e
    by_cases z : k = n
    · rw [z] at e; exact absurd e h4
    · exact q4 k (by omega) e
/-- a closed list -/
theorem rd_ph2C {pl' : Int32} (P : rd_PI ty nu T V OF OT LE IT ET EN EL LT n D pl) (hn : n < 2 ^ 30) (h : ty n = 41) (hk : rd_tk (ty n) (nu n) xt xv) (h0 : 0 < n) (c1 : ¬ ty (n - 1) = 61) (hD : 0 < D)
    (hp : (D - 1 = 0 ∧ pl' = 120) ∨ (0 < D - 1 ∧ IT (D - 1 - 1) = 0 ∧ pl' = 101) ∨ (0 < D - 1 ∧ IT (D - 1 - 1) = 1 ∧ pl' = 116)) :
    rd_PI ty nu (upd T n xt) (upd V n xv) (upd OF n (-1)) OT LE IT ET EN EL LT (n + 1) (D - 1) pl' := by
  have he : rd_eN ty n = 0 := by
    rcases rd_e01 ty n with z | z
    · exact z
    · exact absurd h (rd_e1.mp z).2.1
  have TO := rd_topO P h0
  have TE := rd_topE P h0 c1
  have P1 := rd_ph1N P he (fun _ _ => h)
  obtain ⟨p1, p2, p3, p4, p5, p6, p7, p8, p9⟩ := P
  obtain ⟨q1, q2, q3, q4, q5⟩ := P1
  have h4 : ¬ ty n = 40 := by rw [h]; decide
  have h2 : ¬ ty n = 46 := by rw [h]; decide
  have h3 : ¬ ty n = 61 := by rw [h]; decide
  have e := rd_hhC h
  have e3 : D - 1 = rd_hh ty (n + 1) := by omega
  refine ⟨rd_tkS p1 hk, rd_hhS p2 (fun z => by omega), e3, rd_LbN h3 p4, q1, ?_, ?_, ?_, Or.inr (Or.inr ⟨by omega, h3, h2, h4, hp⟩)⟩
  · intro d hd
    rw [e3]
    exact rd_lvS (q2 d (by omega)) p3 (by omega) (Or.inl (by omega))
  · intro m' hm' e'
    have hm2 : m' < n := by
      by_cases z : m' = n
      · rw [z, he] at e'; omega
      · omega
    rcases q3 m' hm' e' with f | ⟨d, f1, f2, f3⟩
    · exact Or.inl f
    · by_cases z : d = D - 1
      · left
        subst z
        have b1 := rd_rkB ty m'
        by_cases w : ty (n - 1) = 40
        · have := (TO w).2.1
          rw [this] at f3
          exact absurd f3.symm (dl_nm1 (by omega))
        · obtain ⟨k0, m0, t1, t2, t3, t4, t5, t6, t7, t8, _⟩ := TE w hD f2
          have b2 := rd_rkB ty m0
          rw [t4] at f3
          have := rd_rkI t3 e' (dl_inj (by omega) (by omega) f3)
          subst this
          exact Or.inr (Or.inr ⟨t6, t7, n, by omega, t8, h⟩)
      · exact Or.inr ⟨d, by omega, f2, f3⟩
  · intro k hk e
    by_cases z : k = n
    · rw [z] at e; exact absurd e h4
    · exact q4 k (by omega) e
end DLPT
end
section
section DLAC
variable {f_cap f_limit f_regs f_textLen f_fault f_found f_outLen f_nextLabel f_frames f_nextValue f_scanType f_scanValue f_tokens f_place f_depth f_elems : Int32} {a_reg a_carOf a_cdrOf a_text a_seen a_queue a_edgeCount a_image a_origin a_out a_labelOf a_frame a_frameTail a_digits a_tokType a_tokValue a_openFirst a_openTok a_lastElem a_inTail a_elemTok a_elemNext a_elemTail a_slot a_labelTok : Nat → Int32}
variable {ty nu T V OF OT LE IT ET EN EL LT tx : Nat → Int32} {n D el len : Nat} {pl xt xv : Int32}
def rd_fit (pl xt : Int32) : Prop := (pl = 115 ∧ ¬ xt = 41 ∧ ¬ xt = 46) ∨ (pl = 111 ∧ ¬ xt = 46) ∨ pl = 101 ∨ (pl = 116 ∧ xt = 41)
def rd_cp (IT : Nat → Int32) (D : Nat) (pl' : Int32) : Prop := (D = 0 ∧ pl' = 120) ∨ (0 < D ∧ IT (D - 1) = 0 ∧ pl' = 101) ∨ (0 < D ∧ IT (D - 1) = 1 ∧ pl' = 116)
theorem xr_complete {post : SX → Prop} {pl' : Int32} (hD : D ≤ 256) (hp : rd_cp IT D pl') (h : post (f_cap, f_limit, f_regs, nI len, f_fault, f_found, f_outLen, f_nextLabel, f_frames, f_nextValue, xt, xv, nI n, pl', nI D, nI el, a_reg, a_carOf, a_cdrOf, tx, a_seen, a_queue, a_edgeCount, a_image, a_origin, a_out, a_labelOf, a_frame, a_frameTail, a_digits, T, V, OF, OT, LE, IT, ET, EN, EL, a_slot, LT)) : wpX_completeDatum post (f_cap, f_limit, f_regs, nI len, f_fault, f_found, f_outLen, f_nextLabel, f_frames, f_nextValue, xt, xv, nI n, pl, nI D, nI el, a_reg, a_carOf, a_cdrOf, tx, a_seen, a_queue, a_edgeCount, a_image, a_origin, a_out, a_labelOf, a_frame, a_frameTail, a_digits, T, V, OF, OT, LE, IT, ET, EN, EL, a_slot, LT) := by
  unfold wpX_completeDatum
  rcases hp with ⟨a, rfl⟩ | ⟨a, b, rfl⟩ | ⟨a, b, rfl⟩
  · subst a
    exact br_f (by decide) h
  · refine br_t (nI_lt (a := 0) a (by omega)) ?_
    rw [dl_s1 a, nI_clamp (n := D - 1) (by omega)]
    exact ⟨vp_in_nI (by omega) (by decide), br_t b h⟩
  · refine br_t (nI_lt (a := 0) a (by omega)) ?_
    rw [dl_s1 a, nI_clamp (n := D - 1) (by omega)]
    exact ⟨vp_in_nI (by omega) (by decide), br_f (by rw [b]; decide) h⟩
theorem xr_open {post : SX → Prop} {j : Nat} (hD : D < 256) (h : post (f_cap, f_limit, f_regs, nI len, f_fault, f_found, f_outLen, f_nextLabel, f_frames, f_nextValue, 40, xv, nI n, 111, nI (D + 1), nI el, a_reg, a_carOf, a_cdrOf, tx, a_seen, a_queue, a_edgeCount, a_image, a_origin, a_out, a_labelOf, a_frame, a_frameTail, a_digits, T, V, OF, upd OT D (nI j), upd LE D (-1), upd IT D 0, ET, EN, EL, a_slot, LT)) : wX_accept_101 post (nI j) f_cap f_limit f_regs (nI len) f_fault f_found f_outLen f_nextLabel f_frames f_nextValue 40 xv (nI n) pl (nI D) (nI el) a_reg a_carOf a_cdrOf tx a_seen a_queue a_edgeCount a_image a_origin a_out a_labelOf a_frame a_frameTail a_digits T V OF OT LE IT ET EN EL a_slot LT := by
  unfold wX_accept_101
  refine br_t rfl ?_
  unfold wpX_openList
  dsimp only
  rw [nI_clamp (n := D) (by omega), dl_b0]
  exact br_f (nI_ge (b := 256) hD (by decide)) ⟨vp_in_nI hD (by decide), nm_e ⟨vp_in_nI hD (by decide), nm_e ⟨vp_in_nI hD (by decide), nm_e (nm_r (nI_1 D) h)⟩⟩⟩
theorem xr_close {post : SX → Prop} {j : Nat} {pl' : Int32} (h0 : 0 < D) (hD : D ≤ 256) (hp : rd_cp IT (D - 1) pl') (h : post (f_cap, f_limit, f_regs, nI len, f_fault, f_found, f_outLen, f_nextLabel, f_frames, f_nextValue, 41, xv, nI n, pl', nI (D - 1), nI el, a_reg, a_carOf, a_cdrOf, tx, a_seen, a_queue, a_edgeCount, a_image, a_origin, a_out, a_labelOf, a_frame, a_frameTail, a_digits, T, V, OF, OT, LE, IT, ET, EN, EL, a_slot, LT)) : wX_accept_101 post (nI j) f_cap f_limit f_regs (nI len) f_fault f_found f_outLen f_nextLabel f_frames f_nextValue 41 xv (nI n) pl (nI D) (nI el) a_reg a_carOf a_cdrOf tx a_seen a_queue a_edgeCount a_image a_origin a_out a_labelOf a_frame a_frameTail a_digits T V OF OT LE IT ET EN EL a_slot LT := by
  unfold wX_accept_101
  refine br_f (by decide) (br_t rfl (br_f (nI_nle h0 (by omega)) (nm_r (dl_s1 h0) ?_)))
  unfold wX_accept_144
  exact xr_complete (by omega) hp h
theorem xr_dot {post : SX → Prop} {j : Nat} {b : Nat} (h0 : 0 < D) (hD : D ≤ 256) (hb : b < 256) (hl : LE (D - 1) = nI b) (h : post (f_cap, f_limit, f_regs, nI len, f_fault, f_found, f_outLen, f_nextLabel, f_frames, f_nextValue, 46, xv, nI n, 115, nI D, nI el, a_reg, a_carOf, a_cdrOf, tx, a_seen, a_queue, a_edgeCount, a_image, a_origin, a_out, a_labelOf, a_frame, a_frameTail, a_digits, T, V, OF, OT, LE, upd IT (D - 1) 1, ET, EN, upd EL b (nI (j + 1)), a_slot, LT)) : wX_accept_101 post (nI j) f_cap f_limit f_regs (nI len) f_fault f_found f_outLen f_nextLabel f_frames f_nextValue 46 xv (nI n) pl (nI D) (nI el) a_reg a_carOf a_cdrOf tx a_seen a_queue a_edgeCount a_image a_origin a_out a_labelOf a_frame a_frameTail a_digits T V OF OT LE IT ET EN EL a_slot LT := by
  unfold wX_accept_101
  refine br_f (by decide) (br_f (by decide) (br_t rfl ?_))
  unfold wpX_beginTail
  dsimp only
  refine br_f (nI_nle h0 (by omega)) ?_
  rw [dl_s1 h0, nI_clamp (n := D - 1) (by omega), dl_b1, nI_1]
  refine ⟨vp_in_nI (by omega) (by decide), nm_e ⟨vp_in_nI (by omega) (by decide), nm_r hl (br_f (nI_pos (by omega)) ⟨vp_in_nI hb (by decide), nm_r (e' := upd EL b (nI (j + 1))) (by rw [nI_clamp (by omega)]) h⟩)⟩⟩
theorem xr_lab {post : SX → Prop} {j : Nat} {q : Nat} (hq : q < 100) (h : post (f_cap, f_limit, f_regs, nI len, f_fault, f_found, f_outLen, f_nextLabel, f_frames, f_nextValue, 61, nI q, nI n, 115, nI D, nI el, a_reg, a_carOf, a_cdrOf, tx, a_seen, a_queue, a_edgeCount, a_image, a_origin, a_out, a_labelOf, a_frame, a_frameTail, a_digits, T, V, OF, OT, LE, IT, ET, EN, EL, a_slot, upd LT q (nI (j + 1)))) : wX_accept_101 post (nI j) f_cap f_limit f_regs (nI len) f_fault f_found f_outLen f_nextLabel f_frames f_nextValue 61 (nI q) (nI n) pl (nI D) (nI el) a_reg a_carOf a_cdrOf tx a_seen a_queue a_edgeCount a_image a_origin a_out a_labelOf a_frame a_frameTail a_digits T V OF OT LE IT ET EN EL a_slot LT := by
  unfold wX_accept_101
  refine br_f (by decide) (br_f (by decide) (br_f (by decide) (br_t rfl ?_)))
  rw [nI_clamp (n := q) (by omega), nI_1]
  exact ⟨vp_in_nI hq (by decide), nm_e h⟩
theorem xr_atom {post : SX → Prop} {j : Nat} {pl' : Int32} (hD : D ≤ 256) (c0 : ¬ xt = 40) (c1 : ¬ xt = 41) (c2 : ¬ xt = 46) (c3 : ¬ xt = 61) (hp : rd_cp IT D pl') (h : post (f_cap, f_limit, f_regs, nI len, f_fault, f_found, f_outLen, f_nextLabel, f_frames, f_nextValue, xt, xv, nI n, pl', nI D, nI el, a_reg, a_carOf, a_cdrOf, tx, a_seen, a_queue, a_edgeCount, a_image, a_origin, a_out, a_labelOf, a_frame, a_frameTail, a_digits, T, V, OF, OT, LE, IT, ET, EN, EL, a_slot, LT)) : wX_accept_101 post (nI j) f_cap f_limit f_regs (nI len) f_fault f_found f_outLen f_nextLabel f_frames f_nextValue xt xv (nI n) pl (nI D) (nI el) a_reg a_carOf a_cdrOf tx a_seen a_queue a_edgeCount a_image a_origin a_out a_labelOf a_frame a_frameTail a_digits T V OF OT LE IT ET EN EL a_slot LT := by
  unfold wX_accept_101
  exact br_f c0 (br_f c1 (br_f c2 (br_f c3 (xr_complete hD hp h))))
theorem xr_addO {post : SX → Prop} {k j : Nat} (h0 : 0 < D) (hD : D ≤ 256) (he : el < 256) (hl : LE (D - 1) = -1) (ho : OT (D - 1) = nI k) (hk : k < 256)
    (h : post (f_cap, f_limit, f_regs, nI len, f_fault, f_found, f_outLen, f_nextLabel, f_frames, f_nextValue, xt, xv, nI n, pl, nI D, nI (el + 1), a_reg, a_carOf, a_cdrOf, tx, a_seen, a_queue, a_edgeCount, a_image, a_origin, a_out, a_labelOf, a_frame, a_frameTail, a_digits, T, V, upd OF k (nI el), OT, upd LE (D - 1) (nI el), IT, upd ET el (nI j), upd EN el (-1), upd EL el (-1), a_slot, LT)) : wpX_addElement post (f_cap, f_limit, f_regs, nI len, f_fault, f_found, f_outLen, f_nextLabel, f_frames, f_nextValue, xt, xv, nI n, pl, nI D, nI el, a_reg, a_carOf, a_cdrOf, tx, a_seen, a_queue, a_edgeCount, a_image, a_origin, a_out, a_labelOf, a_frame, a_frameTail, a_digits, T, V, OF, OT, LE, IT, ET, EN, EL, a_slot, LT) (nI j) := by
  unfold wpX_addElement
  dsimp only
  refine br_f (nI_nle h0 (by omega)) (br_t (nI_lt (b := 256) he (by decide)) (nm_r (nI_1 el) ?_))
  rw [dl_s1 h0, nI_clamp (n := el) (by omega), nI_clamp (n := D - 1) (by omega), ho, nI_clamp (n := k) (by omega)]
  refine ⟨vp_in_nI he (by decide), nm_e ⟨vp_in_nI he (by decide), nm_e ⟨vp_in_nI he (by decide), nm_e ⟨vp_in_nI (by omega) (by decide), nm_r hl (br_f (by decide) ⟨vp_in_nI (by omega) (by decide), vp_in_nI hk (by decide), nm_e ?_⟩)⟩⟩⟩⟩
  unfold wX_addElement_97
  rw [dl_s1 h0, nI_clamp (n := D - 1) (by omega)]
  exact ⟨vp_in_nI (by omega) (by decide), nm_e h⟩
theorem xr_addE {post : SX → Prop} {b j : Nat} (h0 : 0 < D) (hD : D ≤ 256) (he : el < 256) (hl : LE (D - 1) = nI b) (hb : b < 256)
    (h : post (f_cap, f_limit, f_regs, nI len, f_fault, f_found, f_outLen, f_nextLabel, f_frames, f_nextValue, xt, xv, nI n, pl, nI D, nI (el + 1), a_reg, a_carOf, a_cdrOf, tx, a_seen, a_queue, a_edgeCount, a_image, a_origin, a_out, a_labelOf, a_frame, a_frameTail, a_digits, T, V, OF, OT, upd LE (D - 1) (nI el), IT, upd ET el (nI j), upd (upd EN el (-1)) b (nI el), upd EL el (-1), a_slot, LT)) : wpX_addElement post (f_cap, f_limit, f_regs, nI len, f_fault, f_found, f_outLen, f_nextLabel, f_frames, f_nextValue, xt, xv, nI n, pl, nI D, nI el, a_reg, a_carOf, a_cdrOf, tx, a_seen, a_queue, a_edgeCount, a_image, a_origin, a_out, a_labelOf, a_frame, a_frameTail, a_digits, T, V, OF, OT, LE, IT, ET, EN, EL, a_slot, LT) (nI j) := by
  unfold wpX_addElement
  dsimp only
  refine br_f (nI_nle h0 (by omega)) (br_t (nI_lt (b := 256) he (by decide)) (nm_r (nI_1 el) ?_))
  rw [dl_s1 h0, nI_clamp (n := el) (by omega), nI_clamp (n := D - 1) (by omega)]
  refine ⟨vp_in_nI he (by decide), nm_e ⟨vp_in_nI he (by decide), nm_e ⟨vp_in_nI he (by decide), nm_e ⟨vp_in_nI (by omega) (by decide), nm_r hl (br_t (nI_pos' (by omega)) ⟨vp_in_nI hb (by decide), nm_r (e' := upd (upd EN el (-1)) b (nI el)) (by rw [nI_clamp (by omega)]) ?_⟩)⟩⟩⟩⟩
  unfold wX_addElement_97
  rw [dl_s1 h0, nI_clamp (n := D - 1) (by omega)]
  exact ⟨vp_in_nI (by omega) (by decide), nm_e h⟩
/-- the token is noted; a starter -/
theorem xr_73 {post : SX → Prop} (hn : n < 256) (c1 : ¬ xt = 41) (c2 : ¬ xt = 46) (h : wX_accept_73 post (nI n) 1 f_cap f_limit f_regs (nI len) f_fault f_found f_outLen f_nextLabel f_frames f_nextValue xt xv (nI (n + 1)) pl (nI D) (nI el) a_reg a_carOf a_cdrOf tx a_seen a_queue a_edgeCount a_image a_origin a_out a_labelOf a_frame a_frameTail a_digits (upd T n xt) (upd V n xv) (upd OF n (-1)) OT LE IT ET EN EL a_slot LT) : wpX_accept post (f_cap, f_limit, f_regs, nI len, f_fault, f_found, f_outLen, f_nextLabel, f_frames, f_nextValue, xt, xv, nI n, pl, nI D, nI el, a_reg, a_carOf, a_cdrOf, tx, a_seen, a_queue, a_edgeCount, a_image, a_origin, a_out, a_labelOf, a_frame, a_frameTail, a_digits, T, V, OF, OT, LE, IT, ET, EN, EL, a_slot, LT) := by
  unfold wpX_accept
  dsimp only
  refine br_t (nI_lt (b := 256) hn (by decide)) ?_
  rw [nI_clamp (n := n) (by omega)]
  exact ⟨vp_in_nI hn (by decide), nm_e ⟨vp_in_nI hn (by decide), nm_e ⟨vp_in_nI hn (by decide), nm_e (nm_r (nI_1 n) (br_f c1 (br_f c2 h)))⟩⟩⟩
/-- the token is noted; no starter -/
theorem xr_72 {post : SX → Prop} (hn : n < 256) (c : xt = 41 ∨ xt = 46) (h : wX_accept_101 post (nI n) f_cap f_limit f_regs (nI len) f_fault f_found f_outLen f_nextLabel f_frames f_nextValue xt xv (nI (n + 1)) pl (nI D) (nI el) a_reg a_carOf a_cdrOf tx a_seen a_queue a_edgeCount a_image a_origin a_out a_labelOf a_frame a_frameTail a_digits (upd T n xt) (upd V n xv) (upd OF n (-1)) OT LE IT ET EN EL a_slot LT) : wpX_accept post (f_cap, f_limit, f_regs, nI len, f_fault, f_found, f_outLen, f_nextLabel, f_frames, f_nextValue, xt, xv, nI n, pl, nI D, nI el, a_reg, a_carOf, a_cdrOf, tx, a_seen, a_queue, a_edgeCount, a_image, a_origin, a_out, a_labelOf, a_frame, a_frameTail, a_digits, T, V, OF, OT, LE, IT, ET, EN, EL, a_slot, LT) := by
  have K : wX_accept_72 post (nI n) f_cap f_limit f_regs (nI len) f_fault f_found f_outLen f_nextLabel f_frames f_nextValue xt xv (nI (n + 1)) pl (nI D) (nI el) a_reg a_carOf a_cdrOf tx a_seen a_queue a_edgeCount a_image a_origin a_out a_labelOf a_frame a_frameTail a_digits (upd T n xt) (upd V n xv) (upd OF n (-1)) OT LE IT ET EN EL a_slot LT := by
    unfold wX_accept_72 wX_accept_73
    exact br_t rfl h
  unfold wpX_accept
  dsimp only
  refine br_t (nI_lt (b := 256) hn (by decide)) ?_
  rw [nI_clamp (n := n) (by omega)]
  refine ⟨vp_in_nI hn (by decide), nm_e ⟨vp_in_nI hn (by decide), nm_e ⟨vp_in_nI hn (by decide), nm_e (nm_r (nI_1 n) ?_)⟩⟩⟩
  by_cases z : xt = 41
  · exact br_t z K
  · refine br_f z (br_t ?_ K)
    rcases c with c | c
    · exact absurd c z
    · exact c
theorem rd_pl115 {D : Nat} (p : rd_Pl ty n D IT 115) : n = 0 ∨ (0 < n ∧ (ty (n - 1) = 61 ∨ ty (n - 1) = 46)) := by
  rcases p with ⟨_, h⟩ | ⟨h, _⟩ | ⟨_, _, _, _, h | h | h⟩
  · exact h
  · exact absurd h (by decide)
  · exact absurd h.2 (by decide)
  · exact absurd h.2.2 (by decide)
  · exact absurd h.2.2 (by decide)
theorem rd_pl111 {D : Nat} (p : rd_Pl ty n D IT 111) : 0 < n ∧ ty (n - 1) = 40 := by
  rcases p with ⟨h, _⟩ | ⟨_, h⟩ | ⟨_, _, _, _, h | h | h⟩
  · exact absurd h (by decide)
  · exact h
  · exact absurd h.2 (by decide)
  · exact absurd h.2.2 (by decide)
  · exact absurd h.2.2 (by decide)
theorem rd_pl101 {D : Nat} (p : rd_Pl ty n D IT 101) : 0 < n ∧ ¬ ty (n - 1) = 61 ∧ ¬ ty (n - 1) = 46 ∧ ¬ ty (n - 1) = 40 ∧ 0 < D ∧ IT (D - 1) = 0 := by
  rcases p with ⟨h, _⟩ | ⟨h, _⟩ | ⟨a, b, c, d, h | h | h⟩
  · exact absurd h (by decide)
  · exact absurd h (by decide)
  · exact absurd h.2 (by decide)
  · exact ⟨a, b, c, d, h.1, h.2.1⟩
  · exact absurd h.2.2 (by decide)
theorem rd_pl116 {D : Nat} (p : rd_Pl ty n D IT 116) : 0 < n ∧ ¬ ty (n - 1) = 61 ∧ ¬ ty (n - 1) = 46 ∧ ¬ ty (n - 1) = 40 ∧ 0 < D ∧ IT (D - 1) = 1 := by
  rcases p with ⟨h, _⟩ | ⟨h, _⟩ | ⟨a, b, c, d, h | h | h⟩
  · exact absurd h (by decide)
  · exact absurd h (by decide)
  · exact absurd h.2 (by decide)
  · exact absurd h.2.2 (by decide)
  · exact ⟨a, b, c, d, h.1, h.2.1⟩
theorem rd_pl120 {D : Nat} (p : rd_Pl ty n D IT 120) : 0 < n ∧ ¬ ty (n - 1) = 61 ∧ ¬ ty (n - 1) = 46 ∧ ¬ ty (n - 1) = 40 ∧ D = 0 := by
  rcases p with ⟨h, _⟩ | ⟨h, _⟩ | ⟨a, b, c, d, h | h | h⟩
  · exact absurd h (by decide)
  · exact absurd h (by decide)
  · exact ⟨a, b, c, d, h.1⟩
  · exact absurd h.2.2 (by decide)
  · exact absurd h.2.2 (by decide)
/-- a starter: phase 1 on both sides -/
theorem rd_acc1 (P : rd_PI ty nu T V OF OT LE IT ET EN EL LT n D pl) (hn : n < 256) (t1 : ¬ ty n = 41) (t2 : ¬ ty n = 46) (c1 : ¬ xt = 41) (c2 : ¬ xt = 46) (hf : rd_fit pl xt) :
    ∃ OF1 LE1 ET1 EN1 EL1, rd_P1 ty OF1 OT LE1 IT ET1 EN1 EL1 n D ∧ ∀ post : SX → Prop,
      wX_accept_101 post (nI n) f_cap f_limit f_regs (nI len) f_fault f_found f_outLen f_nextLabel f_frames f_nextValue xt xv (nI (n + 1)) pl (nI D) (nI (rd_rk ty (n + 1))) a_reg a_carOf a_cdrOf tx a_seen a_queue a_edgeCount a_image a_origin a_out a_labelOf a_frame a_frameTail a_digits (upd T n xt) (upd V n xv) OF1 OT LE1 IT ET1 EN1 EL1 a_slot LT → wpX_accept post (f_cap, f_limit, f_regs, nI len, f_fault, f_found, f_outLen, f_nextLabel, f_frames, f_nextValue, xt, xv, nI n, pl, nI D, nI (rd_rk ty n), a_reg, a_carOf, a_cdrOf, tx, a_seen, a_queue, a_edgeCount, a_image, a_origin, a_out, a_labelOf, a_frame, a_frameTail, a_digits, T, V, OF, OT, LE, IT, ET, EN, EL, a_slot, LT) := by
  have DB : D ≤ n := by rw [P.2.2.1]; exact rd_hhB n
  have RB := rd_rkB ty n
  have p9 := P.2.2.2.2.2.2.2.2
  rcases hf with ⟨rfl, _⟩ | ⟨rfl, _⟩ | rfl | ⟨_, z⟩
  · have h := rd_pl115 p9
    have e0 : rd_eN ty n = 0 := by
      rcases rd_e01 ty n with z | z
      · exact z
      · have w := rd_e1.mp z
        rcases h with h | ⟨_, h | h⟩
        · omega
        · exact absurd h w.2.2.2.1
        · exact absurd h w.2.2.2.2
    refine ⟨_, _, _, _, _, rd_ph1N P e0 (fun h0 z => ?_), fun post H => ?_⟩
    · rcases h with h | ⟨_, h | h⟩
      · omega
      · rw [z] at h; exact absurd h (by decide)
      · rw [z] at h; exact absurd h (by decide)
    · rw [rd_rkS, e0, Nat.add_zero] at H
      refine xr_73 hn c1 c2 ?_
      unfold wX_accept_73
      exact br_f dl_10 (br_f (by decide) (br_f (by decide) H))
  · obtain ⟨h0, h⟩ := rd_pl111 p9
    have e1 : rd_eN ty n = 1 := rd_e1.mpr ⟨h0, t1, t2, by rw [h]; decide, by rw [h]; decide⟩
    obtain ⟨a1, a2, a3, a4⟩ := rd_topO P h0 h
    refine ⟨_, _, _, _, _, rd_ph1O P (by omega) e1 h, fun post H => ?_⟩
    rw [rd_rkS, e1] at H
    refine xr_73 hn c1 c2 ?_
    unfold wX_accept_73
    refine br_f dl_10 (br_t rfl ?_)
    unfold wX_accept_96
    exact xr_addO a1 (by omega) (by omega) a2 a4 (by omega) H
  · obtain ⟨h0, h1, h2, h3, h4, h5⟩ := rd_pl101 p9
    have e1 : rd_eN ty n = 1 := rd_e1.mpr ⟨h0, t1, t2, h1, h2⟩
    obtain ⟨k0, m0, b1, b2, b3, b4, b5, b6, b7, b8, b9, b10, b11, b12, b13⟩ := rd_topE P h0 h1 h3 h4 h5
    have RM := rd_rkB ty m0
    refine ⟨_, _, _, _, _, rd_ph1E P (by omega) e1 h3 h4 h5 b2 b3 b4 b5 b8, fun post H => ?_⟩
    rw [rd_rkS, e1] at H
    refine xr_73 hn c1 c2 ?_
    unfold wX_accept_73
    refine br_f dl_10 (br_f (by decide) (br_t rfl ?_))
    unfold wX_accept_96
    exact xr_addE h4 (by omega) (by omega) b4 (by omega) H
  · exact absurd z c1
theorem rd_cpE (P : rd_PI ty nu T V OF OT LE IT ET EN EL LT n D pl) : ∀ d, d ≤ D → ∃ pl', rd_cp IT d pl' := by
  intro d hd
  by_cases z : d = 0
  · exact ⟨120, Or.inl ⟨z, rfl⟩⟩
  · obtain ⟨k, a1, a2, a3, a4, a5, alt⟩ := P.2.2.2.2.2.1 (d - 1) (by clear P; omega)
    have z0 : 0 < d := by clear alt P; omega
    rcases alt with ⟨b1, b2, b3, _⟩ | ⟨m, b1, b2, b3, b4, b5, b6, _⟩ | ⟨b1, _⟩
    · exact ⟨101, Or.inr (Or.inl ⟨z0, b2, rfl⟩)⟩
    · exact ⟨101, Or.inr (Or.inl ⟨z0, b6, rfl⟩)⟩
    · exact ⟨116, Or.inr (Or.inr ⟨z0, b1, rfl⟩)⟩
theorem rd_accept (P : rd_PI ty nu T V OF OT LE IT ET EN EL LT n D pl) (hn : n < 256) (hk : rd_tk (ty n) (nu n) xt xv) (hf : rd_fit pl xt) (hdup : xt = 61 → ∀ q, q < 100 → xv = nI q → LT q = -1) :
    ∃ OF' OT' LE' IT' ET' EN' EL' LT' D' pl', rd_PI ty nu (upd T n xt) (upd V n xv) OF' OT' LE' IT' ET' EN' EL' LT' (n + 1) D' pl' ∧ ∀ post : SX → Prop,
      post (f_cap, f_limit, f_regs, nI len, f_fault, f_found, f_outLen, f_nextLabel, f_frames, f_nextValue, xt, xv, nI (n + 1), pl', nI D', nI (rd_rk ty (n + 1)), a_reg, a_carOf, a_cdrOf, tx, a_seen, a_queue, a_edgeCount, a_image, a_origin, a_out, a_labelOf, a_frame, a_frameTail, a_digits, upd T n xt, upd V n xv, OF', OT', LE', IT', ET', EN', EL', a_slot, LT') → wpX_accept post (f_cap, f_limit, f_regs, nI len, f_fault, f_found, f_outLen, f_nextLabel, f_frames, f_nextValue, xt, xv, nI n, pl, nI D, nI (rd_rk ty n), a_reg, a_carOf, a_cdrOf, tx, a_seen, a_queue, a_edgeCount, a_image, a_origin, a_out, a_labelOf, a_frame, a_frameTail, a_digits, T, V, OF, OT, LE, IT, ET, EN, EL, a_slot, LT) := by
  have DB : D ≤ n := by rw [P.2.2.1]; exact rd_hhB n
  have p9 := P.2.2.2.2.2.2.2.2
  by_cases c1 : xt = 41
  · have t1 : ty n = 41 := by
      rcases hk with ⟨_, h, _⟩ | ⟨_, h, _⟩ | ⟨_, h, _⟩ | ⟨a, h, _⟩
      · rw [← h]; exact c1
      · rw [c1] at h; exact absurd h (by decide)
      · rw [c1] at h; exact absurd h (by decide)
      · rw [← h]; exact c1
    have e0 : rd_eN ty n = 0 := by
      rcases rd_e01 ty n with z | z
      · exact z
      · exact absurd t1 (rd_e1.mp z).2.1
    have h : 0 < n ∧ ¬ ty (n - 1) = 61 ∧ 0 < D := by
      rcases hf with ⟨_, z, _⟩ | ⟨rfl, _⟩ | rfl | ⟨rfl, _⟩
      · exact absurd c1 z
      · obtain ⟨h0, h⟩ := rd_pl111 p9
        exact ⟨h0, by rw [h]; decide, (rd_topO P h0 h).1⟩
      · have w := rd_pl101 p9
        exact ⟨w.1, w.2.1, w.2.2.2.2.1⟩
      · have w := rd_pl116 p9
        exact ⟨w.1, w.2.1, w.2.2.2.2.1⟩
    obtain ⟨pl', hp⟩ := rd_cpE P (D - 1) (by omega)
    subst c1
    refine ⟨_, _, _, _, _, _, _, _, _, pl', rd_ph2C P (by omega) t1 hk h.1 h.2.1 h.2.2 hp, fun post H => ?_⟩
    rw [rd_rkS, e0, Nat.add_zero] at H
    exact xr_72 hn (Or.inl rfl) (xr_close h.2.2 (by omega) hp H)
  · by_cases c2 : xt = 46
    · have t2 : ty n = 46 := by
        rcases hk with ⟨_, h, _⟩ | ⟨_, h, _⟩ | ⟨_, h, _⟩ | ⟨a, h, _⟩
        · rw [← h]; exact c2
        · rw [c2] at h; exact absurd h (by decide)
        · rw [c2] at h; exact absurd h (by decide)
        · rw [← h]; exact c2
      have e0 : rd_eN ty n = 0 := by
        rcases rd_e01 ty n with z | z
        · exact z
        · exact absurd t2 (rd_e1.mp z).2.2.1
      have ep : pl = 101 := by
        rcases hf with ⟨_, _, z⟩ | ⟨_, z⟩ | z | ⟨_, z⟩
        · exact absurd c2 z
        · exact absurd c2 z
        · exact z
        · exact absurd z c1
      subst ep
      obtain ⟨h0, h1, h2, h3, h4, h5⟩ := rd_pl101 p9
      obtain ⟨k0, m0, b1, b2, b3, b4, b5, b6, b7, b8, b9, b10, b11, b12, b13⟩ := rd_topE P h0 h1 h3 h4 h5
      have RM := rd_rkB ty m0
      subst c2
      refine ⟨_, _, _, _, _, _, _, _, _, _, rd_ph2D P (by omega) t2 hk h0 h1 h3 h4 h5 b2 b3 b4, fun post H => ?_⟩
      rw [rd_rkS, e0, Nat.add_zero] at H
      exact xr_72 hn (Or.inr rfl) (xr_dot h4 (by omega) (by omega) b4 H)
    · have t12 : ¬ ty n = 41 ∧ ¬ ty n = 46 := by
        rcases hk with ⟨_, h, _⟩ | ⟨a, h, _⟩ | ⟨a, h, _⟩ | ⟨a, h, _⟩
        · rw [← h]; exact ⟨c1, c2⟩
        · rw [a]; exact ⟨by decide, by decide⟩
        · rw [a]; exact ⟨by decide, by decide⟩
        · rw [← h]; exact ⟨c1, c2⟩
      obtain ⟨OF1, LE1, ET1, EN1, EL1, P1, W⟩ := rd_acc1 (f_cap := f_cap) (f_limit := f_limit) (f_regs := f_regs) (f_fault := f_fault) (f_found := f_found) (f_outLen := f_outLen) (f_nextLabel := f_nextLabel) (f_frames := f_frames) (f_nextValue := f_nextValue) (a_reg := a_reg) (a_carOf := a_carOf) (a_cdrOf := a_cdrOf) (a_seen := a_seen) (a_queue := a_queue) (a_edgeCount := a_edgeCount) (a_image := a_image) (a_origin := a_origin) (a_out := a_out) (a_labelOf := a_labelOf) (a_frame := a_frame) (a_frameTail := a_frameTail) (a_digits := a_digits) (a_slot := a_slot) (len := len) (tx := tx) (xv := xv) P hn t12.1 t12.2 c1 c2 hf
      by_cases c0 : xt = 40
      · have t0 : ty n = 40 := by
          rcases hk with ⟨_, h, _⟩ | ⟨_, h, _⟩ | ⟨_, h, _⟩ | ⟨a, h, _⟩
          · rw [← h]; exact c0
          · rw [c0] at h; exact absurd h (by decide)
          · rw [c0] at h; exact absurd h (by decide)
          · rw [← h]; exact c0
        subst c0
        exact ⟨_, _, _, _, _, _, _, _, _, _, rd_ph2O P P1 t0 hk, fun post H => W post (xr_open (by omega) H)⟩
      · by_cases c3 : xt = 61
        · have t3 : ty n = 61 ∧ xv = nu n ∧ ∃ q, q < 100 ∧ nu n = nI q := by
            rcases hk with ⟨a, h, _⟩ | ⟨_, h, _⟩ | ⟨_, h, _⟩ | ⟨a, h, b, c⟩
            · rw [c3] at h
              rcases a with a | a | a
              · rw [a] at h; exact absurd h (by decide)
              · rw [a] at h; exact absurd h (by decide)
              · rw [a] at h; exact absurd h (by decide)
            · rw [c3] at h; exact absurd h (by decide)
            · rw [c3] at h; exact absurd h (by decide)
            · exact ⟨by rw [← h]; exact c3, b, c⟩
          obtain ⟨t3, ev, q, hq, hv⟩ := t3
          have ev2 : xv = nI q := by rw [ev]; exact hv
          subst ev2
          subst c3
          exact ⟨_, _, _, _, _, _, _, _, _, _, rd_ph2L P P1 (by omega) t3 hk hq hv (hdup rfl q hq rfl), fun post H => W post (xr_lab hq H)⟩
        · have t03 : ¬ ty n = 40 ∧ ¬ ty n = 61 := by
            rcases hk with ⟨_, h, _⟩ | ⟨a, h, _⟩ | ⟨a, h, _⟩ | ⟨a, h, _⟩
            · rw [← h]; exact ⟨c0, c3⟩
            · rw [a]; exact ⟨by decide, by decide⟩
            · rw [a]; exact ⟨by decide, by decide⟩
            · rw [← h]; exact ⟨c0, c3⟩
          obtain ⟨pl', hp⟩ := rd_cpE P D (Nat.le_refl _)
          exact ⟨_, _, _, _, _, _, _, _, _, pl', rd_ph2A P P1 t03.1 t12.1 t12.2 t03.2 hk hp, fun post H => W post (xr_atom (by omega) c0 c1 c2 c3 hp H)⟩
end DLAC
end
section
section DLAL
theorem rd_x1 (a : Nat) (y : Int32) : nI (a + 1) - y + (-1) = nI a - y := by
  rw [← nI_1, Int32.sub_eq_add_neg, Int32.sub_eq_add_neg, Int32.add_assoc, Int32.add_assoc, Int32.add_comm (-y) (-1), ← Int32.add_assoc 1, show (1 : Int32) + (-1) = 0 from rfl, Int32.zero_add]
theorem rd_x2 (a : Nat) (y : Int32) : nI a - y + 1 = nI (a + 1) - y := by
  rw [← nI_1, Int32.sub_eq_add_neg, Int32.sub_eq_add_neg, Int32.add_assoc, Int32.add_assoc, Int32.add_comm (-y) 1]
theorem rd_x0 {a b : Nat} (ha : a < 2 ^ 30) (hb : b < 2 ^ 30) : nI a - nI b = 0 ↔ a = b := by
  constructor
  · intro h
    have := pk_sub_toInt ha hb
    rw [h, show (0 : Int32).toInt = 0 from by decide] at this
    omega
  · intro h
    rw [h, Int32.sub_self]
def rd_al (pl : Int32) : Int32 := if pl = 115 then 1 else if pl = 111 then 3 else if pl = 101 then 7 else if pl = 116 then 2 else 0
def rd_nd (t : Int32) : Int32 := if t = 46 then 4 else if t = 41 then 2 else 1
def rd_p5 (pl : Int32) : Prop := pl = 115 ∨ pl = 111 ∨ pl = 101 ∨ pl = 116 ∨ pl = 120
theorem rd_Pl5 {ty IT : Nat → Int32} {n D : Nat} {pl : Int32} (p : rd_Pl ty n D IT pl) : rd_p5 pl := by
  rcases p with ⟨h, _⟩ | ⟨h, _⟩ | ⟨_, _, _, _, h | h | h⟩
  · exact Or.inl h
  · exact Or.inr (Or.inl h)
  · exact Or.inr (Or.inr (Or.inr (Or.inr h.2)))
  · exact Or.inr (Or.inr (Or.inl h.2.2))
  · exact Or.inr (Or.inr (Or.inr (Or.inl h.2.2)))
theorem rd_al0 {pl : Int32} (h : rd_p5 pl) : rd_al pl = 0 ↔ pl = 120 := by
  rcases h with h | h | h | h | h <;> subst h <;> decide
theorem rd_tkT {t v xt xv : Int32} (h : rd_tk t v xt xv) : (xt = 41 ↔ t = 41) ∧ (xt = 46 ↔ t = 46) ∧ (xt = 61 ↔ t = 61) ∧ ¬ t = 0 := by
  rcases h with ⟨a, b, _⟩ | ⟨a, b, _⟩ | ⟨a, b, _⟩ | ⟨a, b, _⟩
  · rw [b]
    refine ⟨Iff.rfl, Iff.rfl, Iff.rfl, ?_⟩
    rcases a with a | a | a <;> rw [a] <;> decide
  · subst a; subst b; decide
  · subst a; subst b; decide
  · rw [b]
    refine ⟨Iff.rfl, Iff.rfl, Iff.rfl, ?_⟩
    rcases a with a | a <;> rw [a] <;> decide
theorem rd_alF {pl t v xt xv : Int32} (h : rd_p5 pl) (hk : rd_tk t v xt xv) : (rd_al pl &&& rd_nd t) = 0 ↔ ¬ rd_fit pl xt := by
  obtain ⟨k1, k2, _, _⟩ := rd_tkT hk
  unfold rd_fit rd_nd
  by_cases c2 : t = 46
  · rw [if_pos c2]
    have x2 := k2.mpr c2
    have x1 : ¬ xt = 41 := by rw [x2]; decide
    rcases h with h | h | h | h | h <;> subst h
    · exact ⟨fun _ => by rintro (z | z | z | z); exact z.2.2 x2; exact absurd z.1 (by decide); exact absurd z (by decide); exact absurd z.1 (by decide), fun _ => by decide⟩
    · exact ⟨fun _ => by rintro (z | z | z | z); exact absurd z.1 (by decide); exact z.2 x2; exact absurd z (by decide); exact absurd z.1 (by decide), fun _ => by decide⟩
    · exact ⟨fun z => absurd z (by decide), fun z => absurd (Or.inr (Or.inr (Or.inl rfl))) z⟩
    · exact ⟨fun _ => by rintro (z | z | z | z); exact absurd z.1 (by decide); exact absurd z.1 (by decide); exact absurd z (by decide); exact x1 z.2, fun _ => by decide⟩
    · exact ⟨fun _ => by rintro (z | z | z | z); exact absurd z.1 (by decide); exact absurd z.1 (by decide); exact absurd z (by decide); exact absurd z.1 (by decide), fun _ => by decide⟩
  · rw [if_neg c2]
    have x2 : ¬ xt = 46 := fun z => c2 (k2.mp z)
    by_cases c1 : t = 41
    · rw [if_pos c1]
      have x1 := k1.mpr c1
      rcases h with h | h | h | h | h <;> subst h
      · exact ⟨fun _ => by rintro (z | z | z | z); exact z.2.1 x1; exact absurd z.1 (by decide); exact absurd z (by decide); exact absurd z.1 (by decide), fun _ => by decide⟩
      · exact ⟨fun z => absurd z (by decide), fun z => absurd (Or.inr (Or.inl ⟨rfl, x2⟩)) z⟩
      · exact ⟨fun z => absurd z (by decide), fun z => absurd (Or.inr (Or.inr (Or.inl rfl))) z⟩
      · exact ⟨fun z => absurd z (by decide), fun z => absurd (Or.inr (Or.inr (Or.inr ⟨rfl, x1⟩))) z⟩
      · exact ⟨fun _ => by rintro (z | z | z | z); exact absurd z.1 (by decide); exact absurd z.1 (by decide); exact absurd z (by decide); exact absurd z.1 (by decide), fun _ => by decide⟩
    · rw [if_neg c1]
      have x1 : ¬ xt = 41 := fun z => c1 (k1.mp z)
      rcases h with h | h | h | h | h <;> subst h
      · exact ⟨fun z => absurd z (by decide), fun z => absurd (Or.inl ⟨rfl, x1, x2⟩) z⟩
      · exact ⟨fun z => absurd z (by decide), fun z => absurd (Or.inr (Or.inl ⟨rfl, x2⟩)) z⟩
      · exact ⟨fun z => absurd z (by decide), fun z => absurd (Or.inr (Or.inr (Or.inl rfl))) z⟩
      · exact ⟨fun _ => by rintro (z | z | z | z); exact absurd z.1 (by decide); exact absurd z.1 (by decide); exact absurd z (by decide); exact x1 z.2, fun _ => by decide⟩
      · exact ⟨fun _ => by rintro (z | z | z | z); exact absurd z.1 (by decide); exact absurd z.1 (by decide); exact absurd z (by decide); exact absurd z.1 (by decide), fun _ => by decide⟩
section
variable {f_cap f_limit f_regs f_textLen f_fault f_found f_outLen f_nextLabel f_frames f_nextValue f_scanType f_scanValue f_tokens f_place f_depth f_elems : Int32} {a_reg a_carOf a_cdrOf a_text a_seen a_queue a_edgeCount a_image a_origin a_out a_labelOf a_frame a_frameTail a_digits a_tokType a_tokValue a_openFirst a_openTok a_lastElem a_inTail a_elemTok a_elemNext a_elemTail a_slot a_labelTok : Nat → Int32}
variable {T V OF OT LE IT ET EN EL LT tx : Nat → Int32} {n D el len : Nat} {pl xt xv : Int32}
theorem xr_fits {post : Int32 → Prop} (h : rd_p5 pl) (h1 : rd_fit pl xt → post 1) (h0 : ¬ rd_fit pl xt → post 0) : wpX_fits post (f_cap, f_limit, f_regs, nI len, f_fault, f_found, f_outLen, f_nextLabel, f_frames, f_nextValue, xt, xv, nI n, pl, nI D, nI el, a_reg, a_carOf, a_cdrOf, tx, a_seen, a_queue, a_edgeCount, a_image, a_origin, a_out, a_labelOf, a_frame, a_frameTail, a_digits, T, V, OF, OT, LE, IT, ET, EN, EL, a_slot, LT) xt := by
  unfold wpX_fits
  rcases h with h | h | h | h | h <;> subst h
  · refine br_t rfl ?_
    by_cases a : xt = 41
    · exact br_t a (h0 (by rintro (z | z | z | z); exact z.2.1 a; exact absurd z.1 (by decide); exact absurd z (by decide); exact absurd z.1 (by decide)))
    · refine br_f a ?_
      by_cases b : xt = 46
      · exact br_t b (h0 (by rintro (z | z | z | z); exact z.2.2 b; exact absurd z.1 (by decide); exact absurd z (by decide); exact absurd z.1 (by decide)))
      · exact br_f b (h1 (Or.inl ⟨rfl, a, b⟩))
  · refine br_f (by decide) (br_t rfl ?_)
    by_cases b : xt = 46
    · exact br_t b (h0 (by rintro (z | z | z | z); exact absurd z.1 (by decide); exact z.2 b; exact absurd z (by decide); exact absurd z.1 (by decide)))
    · exact br_f b (h1 (Or.inr (Or.inl ⟨rfl, b⟩)))
  · exact br_f (by decide) (br_f (by decide) (br_t rfl (h1 (Or.inr (Or.inr (Or.inl rfl))))))
  · refine br_f (by decide) (br_f (by decide) (br_f (by decide) (br_t rfl ?_)))
    by_cases a : xt = 41
    · exact br_t a (h1 (Or.inr (Or.inr (Or.inr ⟨rfl, a⟩))))
    · exact br_f a (h0 (by rintro (z | z | z | z); exact absurd z.1 (by decide); exact absurd z.1 (by decide); exact absurd z (by decide); exact a z.2))
  · exact br_f (by decide) (br_f (by decide) (br_f (by decide) (br_f (by decide) (h0 (by rintro (z | z | z | z); exact absurd z.1 (by decide); exact absurd z.1 (by decide); exact absurd z (by decide); exact absurd z.1 (by decide))))))
theorem xr_jN {post : Int32 → Prop} (k : post (-8)) : wpX_judge post (f_cap, f_limit, f_regs, nI len, f_fault, f_found, f_outLen, f_nextLabel, f_frames, f_nextValue, xt, xv, nI n, pl, nI D, nI el, a_reg, a_carOf, a_cdrOf, tx, a_seen, a_queue, a_edgeCount, a_image, a_origin, a_out, a_labelOf, a_frame, a_frameTail, a_digits, T, V, OF, OT, LE, IT, ET, EN, EL, a_slot, LT) (-1) := br_f (by decide) k
theorem xr_jB {post : Int32 → Prop} {e : Nat} (he : e < 2 ^ 31) (h : rd_p5 pl) (hf : ¬ rd_fit pl xt) (k : post (-9)) : wpX_judge post (f_cap, f_limit, f_regs, nI len, f_fault, f_found, f_outLen, f_nextLabel, f_frames, f_nextValue, xt, xv, nI n, pl, nI D, nI el, a_reg, a_carOf, a_cdrOf, tx, a_seen, a_queue, a_edgeCount, a_image, a_origin, a_out, a_labelOf, a_frame, a_frameTail, a_digits, T, V, OF, OT, LE, IT, ET, EN, EL, a_slot, LT) (nI e) := by
  unfold wpX_judge
  exact br_t (nI_pos' he) (xr_fits h (fun z => absurd z hf) (fun _ => br_t rfl k))
theorem xr_jD {post : Int32 → Prop} {e q : Nat} (he : e < 2 ^ 31) (h : rd_p5 pl) (hf : rd_fit pl xt) (h61 : xt = 61) (hq : q < 100) (hv : xv = nI q) (hl : ¬ LT q < 0) (k : post (-10)) : wpX_judge post (f_cap, f_limit, f_regs, nI len, f_fault, f_found, f_outLen, f_nextLabel, f_frames, f_nextValue, xt, xv, nI n, pl, nI D, nI el, a_reg, a_carOf, a_cdrOf, tx, a_seen, a_queue, a_edgeCount, a_image, a_origin, a_out, a_labelOf, a_frame, a_frameTail, a_digits, T, V, OF, OT, LE, IT, ET, EN, EL, a_slot, LT) (nI e) := by
  subst hv
  unfold wpX_judge
  dsimp only
  rw [nI_clamp (n := q) (by omega)]
  exact br_t (nI_pos' he) (xr_fits h (fun _ => br_f dl_10 (br_t h61 ⟨vp_in_nI hq (by decide), br_f hl k⟩)) (fun z => absurd hf z))
theorem xr_jO {post : Int32 → Prop} {e : Nat} (he : e < 2 ^ 31) (h : rd_p5 pl) (hf : rd_fit pl xt) (h61 : xt = 61 → ∃ q, q < 100 ∧ xv = nI q ∧ LT q < 0) (k : post 0) : wpX_judge post (f_cap, f_limit, f_regs, nI len, f_fault, f_found, f_outLen, f_nextLabel, f_frames, f_nextValue, xt, xv, nI n, pl, nI D, nI el, a_reg, a_carOf, a_cdrOf, tx, a_seen, a_queue, a_edgeCount, a_image, a_origin, a_out, a_labelOf, a_frame, a_frameTail, a_digits, T, V, OF, OT, LE, IT, ET, EN, EL, a_slot, LT) (nI e) := by
  unfold wpX_judge
  refine br_t (nI_pos' he) (xr_fits h (fun _ => br_f dl_10 ?_) (fun z => absurd hf z))
  by_cases z : xt = 61
  · obtain ⟨q, hq, hv, hl⟩ := h61 z
    subst hv
    rw [nI_clamp (n := q) (by omega)]
    exact br_t z ⟨vp_in_nI hq (by decide), br_t hl k⟩
  · exact br_f z k
end
section
variable {yf_cap yf_limit yf_regs yf_length yf_fault yf_written yf_top yf_tokens : Int32} {ya_reg ya_heads ya_tails ya_text ya_in ya_image ya_out ya_label ya_spell ya_what ya_which ya_type ya_num ya_cell : Nat → Int32}
variable {ty nu tx T V OF OT LE IT ET EN EL LT : Nat → Int32} {n D len : Nat} {pl : Int32} {post : Int32 → Prop}
theorem yr_88 {J : Int32 → Int32 → Int32 → Prop} {x3 : Int32} {j : Nat} (hj : j < 256) (hD : D < 2 ^ 30) (hw : ty j = 41 → 0 < rd_hh ty j) (H : J (nI (rd_hh ty j) - nI D) (if ty j = 46 ∧ rd_hh ty j = D then 1 else x3) (nI j + (-1))) :
    wY_allowed_88 post J (nI (rd_hh ty (j + 1)) - nI D) x3 (nI j) yf_cap yf_limit yf_regs (nI len) yf_fault yf_written yf_top (nI n) ya_reg ya_heads ya_tails tx ya_in ya_image ya_out ya_label ya_spell ya_what ya_which ty nu ya_cell := by
  have HB := rd_hhB (ty := ty) j
  have ej : (nI j).toNatClampNeg = j := nI_clamp (by omega)
  have ij : vp_in (nI j) 260 := vp_in_nI (by omega) (by decide)
  unfold wY_allowed_88
  rw [ej]
  refine ⟨ij, ?_⟩
  by_cases c0 : ty j = 40
  · have n1 : ¬ ty j = 41 := by rw [c0]; decide
    have n2 : ¬ ty j = 46 := by rw [c0]; decide
    rw [if_neg (fun z => n2 z.1)] at H
    refine br_t c0 (nm_r (e' := nI (rd_hh ty j) - nI D) (by rw [rd_hhO c0, rd_x1]) ?_)
    unfold wY_allowed_103
    rw [ej]
    refine ⟨ij, br_f n1 ?_⟩
    unfold wY_allowed_118
    rw [ej]
    exact ⟨ij, br_f n2 (nm_e H)⟩
  · refine br_f c0 ?_
    by_cases c1 : ty j = 41
    · have n2 : ¬ ty j = 46 := by rw [c1]; decide
      have h0 := hw c1
      rw [if_neg (fun z => n2 z.1)] at H
      unfold wY_allowed_103
      rw [ej]
      refine ⟨ij, br_t c1 (nm_r (e' := nI (rd_hh ty j) - nI D) (by rw [rd_hhC c1, rd_x2, Nat.sub_add_cancel h0]) ?_)⟩
      unfold wY_allowed_118
      rw [ej]
      exact ⟨ij, br_f n2 (nm_e H)⟩
    · rw [rd_hhN c0 c1]
      unfold wY_allowed_103
      rw [ej]
      refine ⟨ij, br_f c1 ?_⟩
      unfold wY_allowed_118
      rw [ej]
      refine ⟨ij, ?_⟩
      by_cases c2 : ty j = 46
      · refine br_t c2 ?_
        by_cases c3 : rd_hh ty j = D
        · rw [if_pos ⟨c2, c3⟩] at H
          exact br_t ((rd_x0 (by omega) hD).mpr c3) (nm_e H)
        · rw [if_neg (fun z => c3 z.2)] at H
          exact br_f (fun z => c3 ((rd_x0 (by omega) hD).mp z)) (nm_e H)
      · rw [if_neg (fun z => c2 z.1)] at H
        exact br_f c2 (nm_e H)
theorem rd_nx (j : Nat) (hj : j < 2 ^ 31) : (j = 0 ∧ nI j + (-1) = -1) ∨ (∃ j', j = j' + 1 ∧ nI j + (-1) = nI j') := by
  by_cases z : j = 0
  · subst z; exact Or.inl ⟨rfl, by decide⟩
  · exact Or.inr ⟨j - 1, by omega, dl_m1 (by omega)⟩
theorem yr_56z (hn : n ≤ 256) (hw : ∀ i, i < n → ty i = 41 → 0 < rd_hh ty i) (H : post 0) : ∀ f c x3 x4, c < f → c ≤ n → ((c = 0 ∧ x4 = -1) ∨ (∃ j, c = j + 1 ∧ x4 = nI j)) → wY_allowed_56 post yf_cap yf_limit yf_regs (nI len) yf_fault yf_written yf_top (nI n) ya_reg ya_heads ya_tails tx ya_in ya_image ya_out ya_label ya_spell ya_what ya_which ty nu ya_cell f (nI (rd_hh ty c) - nI 0) x3 x4 := by
  intro f
  induction f with
  | zero => intro c x3 x4 h; omega
  | succ f ih =>
    intro c x3 x4 h1 h2 h3
    rcases h3 with ⟨e, rfl⟩ | ⟨j, rfl, rfl⟩
    · exact br_t (by decide) H
    · have HB := rd_hhB (ty := ty) j
      have K := yr_88 (yf_cap := yf_cap) (yf_limit := yf_limit) (yf_regs := yf_regs) (yf_fault := yf_fault) (yf_written := yf_written) (yf_top := yf_top) (ya_reg := ya_reg) (ya_heads := ya_heads) (ya_tails := ya_tails) (ya_in := ya_in) (ya_image := ya_image) (ya_out := ya_out) (ya_label := ya_label) (ya_spell := ya_spell) (ya_what := ya_what) (ya_which := ya_which) (ya_cell := ya_cell) (len := len) (tx := tx) (ty := ty) (nu := nu) (n := n) (D := 0) (post := post) (J := wY_allowed_56 post yf_cap yf_limit yf_regs (nI len) yf_fault yf_written yf_top (nI n) ya_reg ya_heads ya_tails tx ya_in ya_image ya_out ya_label ya_spell ya_what ya_which ty nu ya_cell f) (x3 := x3) (j := j) (by omega) (by omega) (hw j (by omega)) (ih j _ _ (by omega) (by omega) (rd_nx j (by omega)))
      refine br_f (nI_pos (by omega)) ⟨vp_in_nI (by omega) (by decide), ?_⟩
      rw [nI_clamp (n := j) (by omega)]
      by_cases c0 : ty j = 40
      · refine br_t c0 (br_f (fun z => ?_) K)
        have := (rd_x0 (b := 0) (by rw [rd_hhO c0]; omega) (by omega)).mp z
        rw [rd_hhO c0] at this
        omega
      · exact br_f c0 K
theorem yr_56 {k0 : Nat} (hn : n ≤ 256) (hD : D = rd_hh ty n) (hw : ∀ i, i < n → ty i = 41 → 0 < rd_hh ty i) (hk : k0 < n) (e0 : ty k0 = 40) (ek : rd_hh ty k0 + 1 = D) (hJ : ∀ j, k0 < j → j ≤ n → D ≤ rd_hh ty j)
    (h7 : (∀ i, k0 < i → i < n → ty i = 46 → ¬ rd_hh ty i = D) → post 7) (h2 : (∃ i, k0 < i ∧ i < n ∧ ty i = 46 ∧ rd_hh ty i = D) → post 2) :
    ∀ f j x3, j < f → k0 ≤ j → j < n → ((x3 = 0 ∧ ∀ i, j < i → i < n → ty i = 46 → ¬ rd_hh ty i = D) ∨ (x3 = 1 ∧ ∃ i, j < i ∧ i < n ∧ ty i = 46 ∧ rd_hh ty i = D)) → wY_allowed_56 post yf_cap yf_limit yf_regs (nI len) yf_fault yf_written yf_top (nI n) ya_reg ya_heads ya_tails tx ya_in ya_image ya_out ya_label ya_spell ya_what ya_which ty nu ya_cell f (nI (rd_hh ty (j + 1)) - nI D) x3 (nI j) := by
  intro f
  have DB := rd_hhB (ty := ty) n
  induction f with
  | zero => intro j x3 h; omega
  | succ f ih =>
    intro j x3 a1 a2 a3 a4
    have HB := rd_hhB (ty := ty) j
    refine br_f (nI_pos (by omega)) ⟨vp_in_nI (by omega) (by decide), ?_⟩
    rw [nI_clamp (n := j) (by omega)]
    by_cases z : j = k0
    · subst z
      refine br_t e0 (br_t ((rd_x0 (by rw [rd_hhO e0]; omega) (by omega)).mpr (by rw [rd_hhO e0]; exact ek)) ?_)
      rcases a4 with ⟨b1, b2⟩ | ⟨b1, b2⟩
      · exact br_t b1 (h7 b2)
      · exact br_f (by rw [b1]; decide) (h2 b2)
    · have hj := hJ j (by omega) (by omega)
      have K := yr_88 (yf_cap := yf_cap) (yf_limit := yf_limit) (yf_regs := yf_regs) (yf_fault := yf_fault) (yf_written := yf_written) (yf_top := yf_top) (ya_reg := ya_reg) (ya_heads := ya_heads) (ya_tails := ya_tails) (ya_in := ya_in) (ya_image := ya_image) (ya_out := ya_out) (ya_label := ya_label) (ya_spell := ya_spell) (ya_what := ya_what) (ya_which := ya_which) (ya_cell := ya_cell) (len := len) (tx := tx) (ty := ty) (nu := nu) (n := n) (D := D) (post := post) (J := wY_allowed_56 post yf_cap yf_limit yf_regs (nI len) yf_fault yf_written yf_top (nI n) ya_reg ya_heads ya_tails tx ya_in ya_image ya_out ya_label ya_spell ya_what ya_which ty nu ya_cell f) (x3 := x3) (j := j) (by omega) (by omega) (hw j a3) (by
        rw [dl_m1 (by omega)]
        have := ih (j - 1) (if ty j = 46 ∧ rd_hh ty j = D then 1 else x3) (by omega) (by omega) (by omega) (by
          by_cases c : ty j = 46 ∧ rd_hh ty j = D
          · rw [if_pos c]
            exact Or.inr ⟨rfl, j, by omega, a3, c.1, c.2⟩
          · rw [if_neg c]
            rcases a4 with ⟨b1, b2⟩ | ⟨b1, i, b2, b3⟩
            · refine Or.inl ⟨b1, fun i hi hi2 e1 e2 => ?_⟩
              by_cases w : i = j
              · rw [w] at e1 e2; exact c ⟨e1, e2⟩
              · exact b2 i (by omega) hi2 e1 e2
            · exact Or.inr ⟨b1, i, by omega, b3⟩)
        rw [show j - 1 + 1 = j from by omega] at this
        exact this)
      by_cases c0 : ty j = 40
      · refine br_t c0 (br_f (fun w => ?_) K)
        have := (rd_x0 (by rw [rd_hhO c0]; omega) (by omega)).mp w
        rw [rd_hhO c0] at this
        omega
      · exact br_f c0 K
theorem yr_allowed (P : rd_PI ty nu T V OF OT LE IT ET EN EL LT n D pl) (hn : n ≤ 256) (H : post (rd_al pl)) : wpY_allowed post (yf_cap, yf_limit, yf_regs, nI len, yf_fault, yf_written, yf_top, nI n, ya_reg, ya_heads, ya_tails, tx, ya_in, ya_image, ya_out, ya_label, ya_spell, ya_what, ya_which, ty, nu, ya_cell) (nI n) := by
  obtain ⟨p1, p2, p3, p4, p5, p6, p7, p8, p9⟩ := P
  have DB := rd_hhB (ty := ty) n
  unfold wpY_allowed
  by_cases z : n = 0
  · subst z
    refine br_t (by decide) ?_
    rcases p9 with ⟨h, _⟩ | ⟨_, h, _⟩ | ⟨h, _⟩
    · rw [h] at H; exact H
    · omega
    · omega
  · refine br_f (nI_nle (by omega) (by omega)) ?_
    rw [dl_s1 (n := n) (by omega), nI_clamp (n := n - 1) (by omega)]
    have iv : vp_in (nI (n - 1)) 260 := vp_in_nI (by omega) (by decide)
    refine ⟨iv, ?_⟩
    rcases p9 with ⟨h, h2⟩ | ⟨h, h1, h2⟩ | ⟨h0, h1, h2, h3, h4⟩
    · rw [h] at H
      rcases h2 with h2 | ⟨_, h2⟩
      · omega
      · by_cases w : ty (n - 1) = 61
        · exact br_t w H
        · refine br_f w ⟨iv, br_t ?_ H⟩
          rcases h2 with h2 | h2
          · exact absurd h2 w
          · exact h2
    · rw [h] at H
      exact br_f (by rw [h2]; decide) ⟨iv, br_f (by rw [h2]; decide) ⟨iv, br_t h2 H⟩⟩
    · refine br_f h1 ⟨iv, br_f h2 ⟨iv, br_f h3 (nm_e ⟨300, ?_⟩)⟩⟩
      by_cases d0 : D = 0
      · have e : pl = 120 := by
          rcases h4 with h4 | h4 | h4
          · exact h4.2
          · omega
          · omega
        rw [e] at H
        have K := yr_56z (yf_cap := yf_cap) (yf_limit := yf_limit) (yf_regs := yf_regs) (yf_fault := yf_fault) (yf_written := yf_written) (yf_top := yf_top) (ya_reg := ya_reg) (ya_heads := ya_heads) (ya_tails := ya_tails) (ya_in := ya_in) (ya_image := ya_image) (ya_out := ya_out) (ya_label := ya_label) (ya_spell := ya_spell) (ya_what := ya_what) (ya_which := ya_which) (ya_cell := ya_cell) (len := len) (tx := tx) (nu := nu) hn p2 H 300 n 0 (nI (n - 1)) (by omega) (Nat.le_refl _) (Or.inr ⟨n - 1, by omega, rfl⟩)
        rw [← p3, d0, Int32.sub_self] at K
        exact K
      · obtain ⟨k, a1, a2, a3, a4, a5, alt⟩ := p6 (D - 1) (Nat.sub_lt (Nat.pos_of_ne_zero d0) (by decide))
        rw [Nat.sub_add_cancel (Nat.pos_of_ne_zero d0)] at a5 alt
        have DT : IT (D - 1) = 0 → ∀ i, k < i → i < n → ty i = 46 → ¬ rd_hh ty i = D := by
          intro it
          rcases alt with ⟨b1, b2, b3, _⟩ | ⟨m, b1, b2, b3, b4, b5, b6, b7, b8, b9, b10⟩ | ⟨b1, _⟩
          · intro i hi hi2; omega
          · exact b9
          · rw [it] at b1; exact absurd b1 (by decide)
        have DH : IT (D - 1) = 1 → ∃ i, k < i ∧ i < n ∧ ty i = 46 ∧ rd_hh ty i = D := by
          intro it
          rcases alt with ⟨b1, b2, b3, _⟩ | ⟨m, b1, b2, b3, b4, b5, b6, b7, b8, b9, b10⟩ | ⟨b1, b2⟩
          · rw [it] at b2; exact absurd b2 (by decide)
          · rw [it] at b6; exact absurd b6 (by decide)
          · exact b2
        clear alt
        have K : wY_allowed_56 post yf_cap yf_limit yf_regs (nI len) yf_fault yf_written yf_top (nI n) ya_reg ya_heads ya_tails tx ya_in ya_image ya_out ya_label ya_spell ya_what ya_which ty nu ya_cell 300 (nI (rd_hh ty (n - 1 + 1)) - nI D) 0 (nI (n - 1)) := by
          refine yr_56 (yf_cap := yf_cap) (yf_limit := yf_limit) (yf_regs := yf_regs) (yf_fault := yf_fault) (yf_written := yf_written) (yf_top := yf_top) (ya_reg := ya_reg) (ya_heads := ya_heads) (ya_tails := ya_tails) (ya_in := ya_in) (ya_image := ya_image) (ya_out := ya_out) (ya_label := ya_label) (ya_spell := ya_spell) (ya_what := ya_what) (ya_which := ya_which) (ya_cell := ya_cell) (len := len) (tx := tx) (nu := nu) hn p3 p2 a1 a3 (by omega) a5 (fun no => ?_) (fun ex => ?_) 300 (n - 1) 0 (by omega) (by omega) (by omega) (Or.inl ⟨rfl, fun i hi hi2 => by omega⟩)
          · rcases h4 with h4 | h4 | h4
            · exact absurd h4.1 d0
            · rw [h4.2.2] at H; exact H
            · obtain ⟨i, i1, i2, i3, i4⟩ := DH h4.2.1
              exact absurd i4 (no i i1 i2 i3)
          · rcases h4 with h4 | h4 | h4
            · exact absurd h4.1 d0
            · obtain ⟨i, i1, i2, i3, i4⟩ := ex
              exact absurd i4 (DT h4.2.1 i i1 i2 i3)
            · rw [h4.2.2] at H; exact H
        rw [show n - 1 + 1 = n from by omega, ← p3, Int32.sub_self] at K
        exact K
theorem yr_lab {q : Nat} (hn : n ≤ 256) (hq : q < 100) (L : rd_Lb ty nu LT n) (h0 : LT q = -1 → post (-1)) (h1 : ∀ i, i < n → LT q = nI (i + 1) → ty i = 61 → nu i = nI q → post (nI i)) : wpY_labelled post (yf_cap, yf_limit, yf_regs, nI len, yf_fault, yf_written, yf_top, nI n, ya_reg, ya_heads, ya_tails, tx, ya_in, ya_image, ya_out, ya_label, ya_spell, ya_what, ya_which, ty, nu, ya_cell) (nI q) (nI n) := by
  have K : ∀ f i, 300 ≤ f + i → i ≤ n → (∀ j, j < i → ty j = 61 → ¬ nu j = nI q) → wY_labelled_2 post (nI q) (nI n) yf_cap yf_limit yf_regs (nI len) yf_fault yf_written yf_top (nI n) ya_reg ya_heads ya_tails tx ya_in ya_image ya_out ya_label ya_spell ya_what ya_which ty nu ya_cell f (nI i) := by
    intro f
    induction f with
    | zero => intro i a b; omega
    | succ f ih =>
      intro i a b c
      have nxt : ¬ (ty i = 61 ∧ nu i = nI q) → ∀ j, j < i + 1 → ty j = 61 → ¬ nu j = nI q := by
        intro z j hj e1 e2
        by_cases w : j = i
        · rw [w] at e1 e2; exact z ⟨e1, e2⟩
        · exact c j (by omega) e1 e2
      by_cases e : i = n
      · subst e
        refine br_t (nI_le (by omega) (by omega)) ?_
        rcases L q hq with ⟨a1, _⟩ | ⟨j, a1, a2, a3, a4, _⟩
        · exact h0 a1
        · exact absurd a4 (c j a1 a3)
      · refine br_f (nI_ge (by omega) (by omega)) ⟨vp_in_nI (by omega) (by decide), ?_⟩
        rw [nI_clamp (n := i) (by omega)]
        by_cases c1 : ty i = 61
        · refine br_t c1 ⟨vp_in_nI (by omega) (by decide), ?_⟩
          by_cases c2 : nu i = nI q
          · refine br_t c2 ?_
            rcases L q hq with ⟨_, a2⟩ | ⟨j, a1, a2, a3, a4, a5⟩
            · exact absurd c2 (a2 i (by omega) c1)
            · have := a5 i (by omega) c1 c2
              subst this
              exact h1 i a1 a2 a3 a4
          · exact br_f c2 (nm_r (nI_1 i) (ih (i + 1) (by omega) (by omega) (nxt (fun z => c2 z.2))))
        · exact br_f c1 (nm_r (nI_1 i) (ih (i + 1) (by omega) (by omega) (nxt (fun z => c1 z.1))))
  unfold wpY_labelled
  exact ⟨300, K 300 0 (by omega) (by omega) (fun j hj => absurd hj (by omega))⟩
end
end DLAL
end
section
section DLLOOP
/-- at the begin, behind a label and behind a dot stands a starter -/
def rd_St (ty : Nat → Int32) (n : Nat) : Prop := ∀ i, i < n → (i = 0 ∨ ty (i - 1) = 61 ∨ ty (i - 1) = 46) → ¬ ty i = 41 ∧ ¬ ty i = 46
theorem rd_StS {ty IT : Nat → Int32} {n D : Nat} {pl t v xt xv : Int32} (h : rd_St ty n) (p : rd_Pl ty n D IT pl) (hk : rd_tk t v xt xv) (hf : rd_fit pl xt) : rd_St (upd ty n t) (n + 1) := by
  intro i hi hc
  by_cases z : i = n
  · subst z
    rw [pk_us]
    have e : pl = 115 := by
      rcases p with ⟨a, _⟩ | ⟨_, a, b⟩ | ⟨a, b, c, _⟩
      · exact a
      · rw [pk_un (by omega), b] at hc
        rcases hc with w | w | w
        · omega
        · exact absurd w (by decide)
        · exact absurd w (by decide)
      · rw [pk_un (by omega)] at hc
        rcases hc with w | w | w
        · omega
        · exact absurd w b
        · exact absurd w c
    subst e
    obtain ⟨k1, k2, _⟩ := rd_tkT hk
    rcases hf with ⟨_, a, b⟩ | ⟨a, _⟩ | a | ⟨a, _⟩
    · exact ⟨fun w => a (k1.mpr w), fun w => b (k2.mpr w)⟩
    · exact absurd a (by decide)
    · exact absurd a (by decide)
    · exact absurd a (by decide)
  · rw [pk_un z]
    by_cases w : i = 0
    · exact h i (by omega) (Or.inl w)
    · rw [pk_un (by omega)] at hc
      exact h i (by omega) hc
def rd_Out (f_cap f_limit f_regs f_found f_outLen f_nextLabel f_frames f_nextValue : Int32) (a_reg a_carOf a_cdrOf a_seen a_queue a_edgeCount a_image a_origin a_out a_labelOf a_frame a_frameTail a_digits a_slot : Nat → Int32) (yf_cap yf_limit yf_regs yf_written yf_top : Int32) (ya_reg ya_heads ya_tails ya_in ya_image ya_out ya_label ya_spell ya_what ya_which ya_cell : Nat → Int32) (len : Nat) (tx : Nat → Int32) (r : Nat) (AX : (Int32 → SX → Prop) → Prop) (AY : (Int32 → SY → Prop) → Prop) : Prop :=
  (∃ (ans fl xt' xv' pl' : Int32) (n' D' el' : Nat) (T' V' OF' OT' LE' IT' ET' EN' EL' LT' ty' nu' : Nat → Int32), ¬ ans = 0 ∧
    (∀ post, post ans (f_cap, f_limit, f_regs, nI len, fl, f_found, f_outLen, f_nextLabel, f_frames, f_nextValue, xt', xv', nI n', pl', nI D', nI el', a_reg, a_carOf, a_cdrOf, tx, a_seen, a_queue, a_edgeCount, a_image, a_origin, a_out, a_labelOf, a_frame, a_frameTail, a_digits, T', V', OF', OT', LE', IT', ET', EN', EL', a_slot, LT') → AX post) ∧ (∀ post, post ans (yf_cap, yf_limit, yf_regs, nI len, fl, yf_written, yf_top, nI n', ya_reg, ya_heads, ya_tails, tx, ya_in, ya_image, ya_out, ya_label, ya_spell, ya_what, ya_which, ty', nu', ya_cell) → AY post)) ∨
  (∃ (xt' xv' : Int32) (n' D' : Nat) (T' V' OF' OT' LE' IT' ET' EN' EL' LT' ty' nu' : Nat → Int32), rd_PI ty' nu' T' V' OF' OT' LE' IT' ET' EN' EL' LT' n' D' 120 ∧ rd_St ty' n' ∧ n' ≤ 256 ∧
    (∀ post, post 0 (f_cap, f_limit, f_regs, nI len, (-1), f_found, f_outLen, f_nextLabel, f_frames, f_nextValue, xt', xv', nI n', 120, nI D', nI (rd_rk ty' n'), a_reg, a_carOf, a_cdrOf, tx, a_seen, a_queue, a_edgeCount, a_image, a_origin, a_out, a_labelOf, a_frame, a_frameTail, a_digits, T', V', OF', OT', LE', IT', ET', EN', EL', a_slot, LT') → AX post) ∧ (∀ post, (∃ n232, wY_read_232 post (nI r) yf_cap yf_limit yf_regs (nI len) (-1) yf_written yf_top (nI n') ya_reg ya_heads ya_tails tx ya_in ya_image ya_out ya_label ya_spell ya_what ya_which ty' nu' ya_cell n232 0) → AY post))
section
variable {f_cap f_limit f_regs f_textLen f_fault f_found f_outLen f_nextLabel f_frames f_nextValue f_scanType f_scanValue f_tokens f_place f_depth f_elems : Int32} {a_reg a_carOf a_cdrOf a_text a_seen a_queue a_edgeCount a_image a_origin a_out a_labelOf a_frame a_frameTail a_digits a_tokType a_tokValue a_openFirst a_openTok a_lastElem a_inTail a_elemTok a_elemNext a_elemTail a_slot a_labelTok : Nat → Int32}
variable {yf_cap yf_limit yf_regs yf_length yf_fault yf_written yf_top yf_tokens : Int32} {ya_reg ya_heads ya_tails ya_text ya_in ya_image ya_out ya_label ya_spell ya_what ya_which ya_type ya_num ya_cell : Nat → Int32}
variable {ty nu T V OF OT LE IT ET EN EL LT tx : Nat → Int32} {n D len r : Nat} {pl xt xv : Int32}
theorem rd_OutM {AX AX' : (Int32 → SX → Prop) → Prop} {AY AY' : (Int32 → SY → Prop) → Prop} (hx : ∀ post, AX post → AX' post) (hy : ∀ post, AY post → AY' post) (h : rd_Out f_cap f_limit f_regs f_found f_outLen f_nextLabel f_frames f_nextValue a_reg a_carOf a_cdrOf a_seen a_queue a_edgeCount a_image a_origin a_out a_labelOf a_frame a_frameTail a_digits a_slot yf_cap yf_limit yf_regs yf_written yf_top ya_reg ya_heads ya_tails ya_in ya_image ya_out ya_label ya_spell ya_what ya_which ya_cell len tx r AX AY) : rd_Out f_cap f_limit f_regs f_found f_outLen f_nextLabel f_frames f_nextValue a_reg a_carOf a_cdrOf a_seen a_queue a_edgeCount a_image a_origin a_out a_labelOf a_frame a_frameTail a_digits a_slot yf_cap yf_limit yf_regs yf_written yf_top ya_reg ya_heads ya_tails ya_in ya_image ya_out ya_label ya_spell ya_what ya_which ya_cell len tx r AX' AY' := by
  rcases h with ⟨ans, fl, xt', xv', pl', n', D', el', T', V', OF', OT', LE', IT', ET', EN', EL', LT', ty', nu', a, b, c⟩ | ⟨xt', xv', n', D', T', V', OF', OT', LE', IT', ET', EN', EL', LT', ty', nu', a, s, b, c, d⟩
  · exact Or.inl ⟨ans, fl, xt', xv', pl', n', D', el', T', V', OF', OT', LE', IT', ET', EN', EL', LT', ty', nu', a, fun post h => hx post (b post h), fun post h => hy post (c post h)⟩
  · exact Or.inr ⟨xt', xv', n', D', T', V', OF', OT', LE', IT', ET', EN', EL', LT', ty', nu', a, s, b, fun post h => hx post (c post h), fun post h => hy post (d post h)⟩
theorem rd_exit (P : rd_PI ty nu T V OF OT LE IT ET EN EL LT n D pl) (hS : rd_St ty n) (hn : n ≤ 256) (hlen : len ≤ 256) : rd_Out f_cap f_limit f_regs f_found f_outLen f_nextLabel f_frames f_nextValue a_reg a_carOf a_cdrOf a_seen a_queue a_edgeCount a_image a_origin a_out a_labelOf a_frame a_frameTail a_digits a_slot yf_cap yf_limit yf_regs yf_written yf_top ya_reg ya_heads ya_tails ya_in ya_image ya_out ya_label ya_spell ya_what ya_which ya_cell len tx r (fun post => wX_parse_116 post f_cap f_limit f_regs (nI len) f_fault f_found f_outLen f_nextLabel f_frames f_nextValue xt xv (nI n) pl (nI D) (nI (rd_rk ty n)) a_reg a_carOf a_cdrOf tx a_seen a_queue a_edgeCount a_image a_origin a_out a_labelOf a_frame a_frameTail a_digits T V OF OT LE IT ET EN EL a_slot LT) (fun post => wY_read_197 post (nI r) yf_cap yf_limit yf_regs (nI len) yf_fault yf_written yf_top (nI n) ya_reg ya_heads ya_tails tx ya_in ya_image ya_out ya_label ya_spell ya_what ya_which ty nu ya_cell) := by
  have p5 := rd_Pl5 P.2.2.2.2.2.2.2.2
  by_cases z : pl = 120
  · subst z
    refine Or.inr ⟨xt, xv, n, D, T, V, OF, OT, LE, IT, ET, EN, EL, LT, ty, nu, P, hS, hn, fun post h => ?_, fun post h => ?_⟩
    · exact br_t rfl h
    · unfold wY_read_197
      refine yr_allowed P hn (br_t rfl ?_)
      unfold wY_read_217
      exact br_t (by decide) h
  · have z2 : ¬ rd_al pl = 0 := fun w => z ((rd_al0 p5).mp w)
    refine Or.inl ⟨-11, nI len, xt, xv, pl, n, D, rd_rk ty n, T, V, OF, OT, LE, IT, ET, EN, EL, LT, ty, nu, by decide, fun post h => ?_, fun post h => ?_⟩
    · exact br_f z h
    · unfold wY_read_197
      refine yr_allowed P hn (br_f z2 ?_)
      unfold wY_read_217
      exact br_f (nI_pos (by omega)) h
theorem yr_165e {post : Int32 → SY → Prop} {J : Int32 → Int32 → Int32 → Int32 → Int32 → Int32 → Int32 → Int32 → Int32 → Int32 → (Nat → Int32) → (Nat → Int32) → (Nat → Int32) → (Nat → Int32) → (Nat → Int32) → (Nat → Int32) → (Nat → Int32) → (Nat → Int32) → (Nat → Int32) → (Nat → Int32) → (Nat → Int32) → (Nat → Int32) → (Nat → Int32) → (Nat → Int32) → Prop} {x1 x2 x3 x4 x7 : Int32} (h7 : ¬ x7 = 0) (h : post x7 (yf_cap, yf_limit, yf_regs, nI len, x2, yf_written, yf_top, nI n, ya_reg, ya_heads, ya_tails, tx, ya_in, ya_image, ya_out, ya_label, ya_spell, ya_what, ya_which, ty, nu, ya_cell)) : wY_read_165 post J x1 x2 x3 x4 x7 yf_cap yf_limit yf_regs (nI len) yf_fault yf_written yf_top (nI n) ya_reg ya_heads ya_tails tx ya_in ya_image ya_out ya_label ya_spell ya_what ya_which ty nu ya_cell := br_f h7 h
theorem yr_165o {post : Int32 → SY → Prop} {J : Int32 → Int32 → Int32 → Int32 → Int32 → Int32 → Int32 → Int32 → Int32 → Int32 → (Nat → Int32) → (Nat → Int32) → (Nat → Int32) → (Nat → Int32) → (Nat → Int32) → (Nat → Int32) → (Nat → Int32) → (Nat → Int32) → (Nat → Int32) → (Nat → Int32) → (Nat → Int32) → (Nat → Int32) → (Nat → Int32) → (Nat → Int32) → Prop} {x1 x2 x4 : Int32} {s : Nat} (h : J x4 (nI (s + 1)) yf_cap yf_limit yf_regs (nI len) yf_fault yf_written yf_top (nI (n + 1)) ya_reg ya_heads ya_tails tx ya_in ya_image ya_out ya_label ya_spell ya_what ya_which ty nu ya_cell) : wY_read_165 post J x1 x2 (nI s) x4 0 yf_cap yf_limit yf_regs (nI len) yf_fault yf_written yf_top (nI n) ya_reg ya_heads ya_tails tx ya_in ya_image ya_out ya_label ya_spell ya_what ya_which ty nu ya_cell := br_t rfl (nm_r (nI_1 n) (nm_r (nI_1 s) h))
/-- Y's tests of a token -/
theorem yr_96 {post : Int32 → SY → Prop} {J : Int32 → Int32 → Int32 → Int32 → Int32 → Int32 → Int32 → Int32 → Int32 → Int32 → (Nat → Int32) → (Nat → Int32) → (Nat → Int32) → (Nat → Int32) → (Nat → Int32) → (Nat → Int32) → (Nat → Int32) → (Nat → Int32) → (Nat → Int32) → (Nat → Int32) → (Nat → Int32) → (Nat → Int32) → (Nat → Int32) → (Nat → Int32) → Prop} {x1 x2 x3 x4 t : Int32} {e : Nat} (ht : ¬ t = 0) (hn : n ≤ 256) (H : wY_read_96 post J x1 x2 x3 x4 t (rd_nd t) yf_cap yf_limit yf_regs (nI len) yf_fault yf_written yf_top (nI n) ya_reg ya_heads ya_tails tx ya_in ya_image ya_out ya_label ya_spell ya_what ya_which ty nu ya_cell) :
    (((t = 46 → (wY_read_96 post J x1 x2 x3 x4 t 4 yf_cap yf_limit yf_regs (nI len) yf_fault yf_written yf_top (nI n) ya_reg ya_heads ya_tails tx ya_in ya_image ya_out ya_label ya_spell ya_what ya_which ty nu ya_cell)) ∧ (¬ t = 46 → (((t = 41 → (wY_read_96 post J x1 x2 x3 x4 t 2 yf_cap yf_limit yf_regs (nI len) yf_fault yf_written yf_top (nI n) ya_reg ya_heads ya_tails tx ya_in ya_image ya_out ya_label ya_spell ya_what ya_which ty nu ya_cell)) ∧ (¬ t = 41 → (wY_read_96 post J x1 x2 x3 x4 t 1 yf_cap yf_limit yf_regs (nI len) yf_fault yf_written yf_top (nI n) ya_reg ya_heads ya_tails tx ya_in ya_image ya_out ya_label ya_spell ya_what ya_which ty nu ya_cell))))))) := by
  unfold rd_nd at H
  by_cases a : t = 46
  · rw [if_pos a] at H; exact br_t a H
  · rw [if_neg a] at H
    refine br_f a ?_
    by_cases b : t = 41
    · rw [if_pos b] at H; exact br_t b H
    · rw [if_neg b] at H; exact br_f b H
theorem rd_loop (hlen : len ≤ 256) : ∀ fu s pos n D pl xt xv T V OF OT LE IT ET EN EL LT ty nu, fu + s = 256 → pos ≤ len → n ≤ s → rd_PI ty nu T V OF OT LE IT ET EN EL LT n D pl → rd_St ty n →
    rd_Out f_cap f_limit f_regs f_found f_outLen f_nextLabel f_frames f_nextValue a_reg a_carOf a_cdrOf a_seen a_queue a_edgeCount a_image a_origin a_out a_labelOf a_frame a_frameTail a_digits a_slot yf_cap yf_limit yf_regs yf_written yf_top ya_reg ya_heads ya_tails ya_in ya_image ya_out ya_label ya_spell ya_what ya_which ya_cell len tx r (fun post => wX_parse_46 post (fu + 1) (nI pos) (nI s) f_cap f_limit f_regs (nI len) f_fault f_found f_outLen f_nextLabel f_frames f_nextValue xt xv (nI n) pl (nI D) (nI (rd_rk ty n)) a_reg a_carOf a_cdrOf tx a_seen a_queue a_edgeCount a_image a_origin a_out a_labelOf a_frame a_frameTail a_digits T V OF OT LE IT ET EN EL a_slot LT) (fun post => wY_read_19 post (nI r) (fu + 1) (nI pos) (nI s) yf_cap yf_limit yf_regs (nI len) yf_fault yf_written yf_top (nI n) ya_reg ya_heads ya_tails tx ya_in ya_image ya_out ya_label ya_spell ya_what ya_which ty nu ya_cell) := by
  intro fu
  induction fu with
  | zero =>
    intro s pos n D pl xt xv T V OF OT LE IT ET EN EL LT ty nu hs hp hn P hS
    have es : s = 256 := by omega
    subst es
    exact rd_OutM (fun post h => br_t (nI_le (a := 256) (by omega) (by omega)) h) (fun post h => br_t (nI_le (a := 256) (by omega) (by omega)) h) (rd_exit (pl := pl) (xt := xt) (xv := xv) P hS (by omega) hlen)
  | succ fu ih =>
    intro s pos n D pl xt xv T V OF OT LE IT ET EN EL LT ty nu hs hp hn P hS
    have s256 : ¬ (256 : Int32) ≤ nI s := nI_ge (b := 256) (by omega) (by decide)
    by_cases ep : pos = len
    · subst ep
      exact rd_OutM (fun post h => br_f s256 (br_t (nI_le (by omega) (by omega)) h)) (fun post h => br_f s256 (br_t (nI_le (by omega) (by omega)) h)) (rd_exit (pl := pl) (xt := xt) (xv := xv) P hS (by omega) hlen)
    · have lp : ¬ nI len ≤ nI pos := nI_ge (by omega) (by omega)
      have ip : vp_in (nI pos) 256 := vp_in_nI (by omega) (by decide)
      have cp : (nI pos).toNatClampNeg = pos := nI_clamp (by omega)
      by_cases c32 : tx pos = 32
      · refine rd_OutM (fun post h => ?_) (fun post h => ?_) (ih (s + 1) (pos + 1) n D pl xt xv T V OF OT LE IT ET EN EL LT ty nu (by omega) (by omega) (by omega) P hS)
        · exact br_f s256 (br_f lp ⟨ip, br_t (by rw [cp]; exact c32) (nm_r (nI_1 pos) (nm_r (nI_1 s) h))⟩)
        · exact br_f s256 (br_f lp ⟨ip, br_t (by rw [cp]; exact c32) (nm_r (nI_1 pos) (nm_r (nI_1 s) h))⟩)
      · have n32 : ¬ tx (nI pos).toNatClampNeg = 32 := by rw [cp]; exact c32
        have itk : vp_in (nI n) 260 := vp_in_nI (by omega) (by decide)
        have ctk : (nI n).toNatClampNeg = n := nI_clamp (by omega)
        have p5 := rd_Pl5 P.2.2.2.2.2.2.2.2
        rcases rd_scan (f_cap := f_cap) (f_limit := f_limit) (f_regs := f_regs) (f_fault := f_fault) (f_found := f_found) (f_outLen := f_outLen) (f_nextLabel := f_nextLabel) (f_frames := f_frames) (f_nextValue := f_nextValue) (f_scanType := xt) (f_scanValue := xv) (f_tokens := nI n) (f_place := pl) (f_depth := nI D) (f_elems := nI (rd_rk ty n)) (a_reg := a_reg) (a_carOf := a_carOf) (a_cdrOf := a_cdrOf) (a_seen := a_seen) (a_queue := a_queue) (a_edgeCount := a_edgeCount) (a_image := a_image) (a_origin := a_origin) (a_out := a_out) (a_labelOf := a_labelOf) (a_frame := a_frame) (a_frameTail := a_frameTail) (a_digits := a_digits) (a_tokType := T) (a_tokValue := V) (a_openFirst := OF) (a_openTok := OT) (a_lastElem := LE) (a_inTail := IT) (a_elemTok := ET) (a_elemNext := EN) (a_elemTail := EL) (a_slot := a_slot) (a_labelTok := LT) (yf_cap := yf_cap) (yf_limit := yf_limit) (yf_regs := yf_regs) (yf_fault := yf_fault) (yf_written := yf_written) (yf_top := yf_top) (yf_tokens := nI n) (ya_reg := ya_reg) (ya_heads := ya_heads) (ya_tails := ya_tails) (ya_in := ya_in) (ya_image := ya_image) (ya_out := ya_out) (ya_label := ya_label) (ya_spell := ya_spell) (ya_what := ya_what) (ya_which := ya_which) (ya_type := ty) (ya_num := nu) (ya_cell := ya_cell) (len := len) (pos := pos) (k := n) (tx := tx) (by omega) hlen (by omega)
          with ⟨t, v, xt2, xv2, e, he1, he2, tk, SX1, SY1⟩ | ⟨xt2, xv2, v, e2, SX1, SY1⟩
        · have P2 : rd_PI (upd ty n t) (upd nu n v) T V OF OT LE IT ET EN EL LT n D pl := rd_PIE (fun i hi => pk_un (by omega)) (fun i hi => pk_un (by omega)) P
          have rkE : rd_rk (upd ty n t) n = rd_rk ty n := rd_rkE (n := n) (fun i hi => pk_un (by omega)) (Nat.le_refl _)
          have tk2 : rd_tk (upd ty n t n) (upd nu n v n) xt2 xv2 := by rw [pk_us, pk_us]; exact tk
          obtain ⟨k41, k46, k61, k0⟩ := rd_tkT tk
          have YW : ∀ post : Int32 → SY → Prop, wY_read_96 post (wY_read_19 post (nI r) (fu + 1)) (nI r) (nI pos) (nI s) (nI e) t (rd_nd t) yf_cap yf_limit yf_regs (nI len) yf_fault yf_written yf_top (nI n) ya_reg ya_heads ya_tails tx ya_in ya_image ya_out ya_label ya_spell ya_what ya_which (upd ty n t) (upd nu n v) ya_cell → wY_read_19 post (nI r) (fu + 1 + 1) (nI pos) (nI s) yf_cap yf_limit yf_regs (nI len) yf_fault yf_written yf_top (nI n) ya_reg ya_heads ya_tails tx ya_in ya_image ya_out ya_label ya_spell ya_what ya_which ty nu ya_cell := by
            intro post h
            refine br_f s256 (br_f lp ⟨ip, br_f n32 (SY1 _ ?_)⟩)
            refine And.intro itk (nm_r (e' := t) (by rw [ctk, pk_us]) ?_)
            exact yr_96 (e := e) k0 (by omega) h
          have YA : ∀ (post : Int32 → Prop), post (rd_al pl) → wpY_allowed post (yf_cap, yf_limit, yf_regs, nI len, yf_fault, yf_written, yf_top, nI n, ya_reg, ya_heads, ya_tails, tx, ya_in, ya_image, ya_out, ya_label, ya_spell, ya_what, ya_which, upd ty n t, upd nu n v, ya_cell) (nI n) := fun post h => yr_allowed P2 (by omega) h
          by_cases fit : rd_fit pl xt2
          · have YF : ¬ (rd_al pl &&& rd_nd t) = 0 := fun z => (rd_alF p5 tk).mp z fit
            have GO : (xt2 = 61 → ∃ q, q < 100 ∧ xv2 = nI q ∧ LT q = -1 ∧ v = nI q) → rd_Out f_cap f_limit f_regs f_found f_outLen f_nextLabel f_frames f_nextValue a_reg a_carOf a_cdrOf a_seen a_queue a_edgeCount a_image a_origin a_out a_labelOf a_frame a_frameTail a_digits a_slot yf_cap yf_limit yf_regs yf_written yf_top ya_reg ya_heads ya_tails ya_in ya_image ya_out ya_label ya_spell ya_what ya_which ya_cell len tx r (fun post => wX_parse_46 post (fu + 1 + 1) (nI pos) (nI s) f_cap f_limit f_regs (nI len) f_fault f_found f_outLen f_nextLabel f_frames f_nextValue xt xv (nI n) pl (nI D) (nI (rd_rk ty n)) a_reg a_carOf a_cdrOf tx a_seen a_queue a_edgeCount a_image a_origin a_out a_labelOf a_frame a_frameTail a_digits T V OF OT LE IT ET EN EL a_slot LT) (fun post => wY_read_19 post (nI r) (fu + 1 + 1) (nI pos) (nI s) yf_cap yf_limit yf_regs (nI len) yf_fault yf_written yf_top (nI n) ya_reg ya_heads ya_tails tx ya_in ya_image ya_out ya_label ya_spell ya_what ya_which ty nu ya_cell) := by
              intro lab
              obtain ⟨OF', OT', LE', IT', ET', EN', EL', LT', D', pl', P3, WA⟩ := rd_accept (f_cap := f_cap) (f_limit := f_limit) (f_regs := f_regs) (f_fault := f_fault) (f_found := f_found) (f_outLen := f_outLen) (f_nextLabel := f_nextLabel) (f_frames := f_frames) (f_nextValue := f_nextValue) (a_reg := a_reg) (a_carOf := a_carOf) (a_cdrOf := a_cdrOf) (a_seen := a_seen) (a_queue := a_queue) (a_edgeCount := a_edgeCount) (a_image := a_image) (a_origin := a_origin) (a_out := a_out) (a_labelOf := a_labelOf) (a_frame := a_frame) (a_frameTail := a_frameTail) (a_digits := a_digits) (a_slot := a_slot) (len := len) (tx := tx) (xt := xt2) (xv := xv2) P2 (by omega) tk2 fit (fun z q hq ev => by
                obtain ⟨q', hq', ev', hl, _⟩ := lab z
                rw [ev'] at ev
                have := dl_inj (by omega) (by omega) ev
                subst this
                exact hl)
              rw [rkE] at WA
              refine rd_OutM (fun post h => ?_) (fun post h => ?_) (ih (s + 1) e (n + 1) D' pl' xt2 xv2 (upd T n xt2) (upd V n xv2) OF' OT' LE' IT' ET' EN' EL' LT' (upd ty n t) (upd nu n v) (by omega) he2 (by omega) P3 (rd_StS hS P.2.2.2.2.2.2.2.2 tk fit))
              · refine br_f s256 (br_f lp ⟨ip, br_f n32 (SX1 _ ?_)⟩)
                refine xr_jO (by omega) p5 fit (fun z => ?_) (br_t rfl (WA _ (nm_r (nI_1 s) h)))
                obtain ⟨q', hq', ev', hl, _⟩ := lab z
                exact ⟨q', hq', ev', by rw [hl]; decide⟩
              · refine YW post ?_
                unfold wY_read_96
                refine br_f k0 (YA _ (br_f YF ?_))
                by_cases z : t = 61
                · obtain ⟨q', hq', ev', hl, hv⟩ := lab (k61.mpr z)
                  refine br_t z ⟨itk, ?_⟩
                  rw [ctk, pk_us, hv]
                  rw [hv] at P2
                  refine yr_lab (by omega) hq' P2.2.2.2.1 (fun _ => br_t (by decide) ?_) (fun i hi a1 => ?_)
                  · rw [hv] at h
                    exact yr_165o h
                  · rw [hl] at a1
                    exact absurd a1.symm (dl_nm1 (by omega))
                · exact br_f z (yr_165o h)
            by_cases z : xt2 = 61
            · have tz := k61.mp z
              obtain ⟨ev, q, hq, hv⟩ : xv2 = v ∧ ∃ q, q < 100 ∧ v = nI q := by
                rcases tk with ⟨a, _⟩ | ⟨a, _⟩ | ⟨a, _⟩ | ⟨_, _, b, c⟩
                · rw [tz] at a
                  rcases a with a | a | a <;> exact absurd a (by decide)
                · rw [tz] at a; exact absurd a (by decide)
                · rw [tz] at a; exact absurd a (by decide)
                · exact ⟨b, c⟩
              have Lq := P2.2.2.2.1 q hq
              by_cases dup : LT q = -1
              · exact GO (fun _ => ⟨q, hq, by rw [ev, hv], dup, hv⟩)
              · have L2 : ∃ i, i < n ∧ LT q = nI (i + 1) := by
                  rcases Lq with ⟨a, _⟩ | ⟨i, a1, a2, _⟩
                  · exact absurd a dup
                  · exact ⟨i, a1, a2⟩
                obtain ⟨i, hi, li⟩ := L2
                have nl : ¬ LT q < 0 := by rw [li]; exact nI_pos (by omega)
                refine Or.inl ⟨-10, nI pos, xt2, xv2, pl, n, D, rd_rk ty n, T, V, OF, OT, LE, IT, ET, EN, EL, LT, upd ty n t, upd nu n v, by decide, fun post h => ?_, fun post h => ?_⟩
                · refine br_f s256 (br_f lp ⟨ip, br_f n32 (SX1 _ ?_)⟩)
                  exact xr_jD (q := q) (by omega) p5 fit z hq (by rw [ev, hv]) nl (br_f (by decide) h)
                · refine YW post ?_
                  unfold wY_read_96
                  refine br_f k0 (YA _ (br_f YF (br_t tz ⟨itk, ?_⟩)))
                  rw [ctk, pk_us, hv]
                  rw [hv] at P2 h
                  refine yr_lab (by omega) hq P2.2.2.2.1 (fun a => absurd a dup) (fun i' hi' a1 _ _ => br_f (nI_pos (by omega)) ?_)
                  exact yr_165e (by decide) h
            · exact GO (fun w => absurd w z)
          · have YF : (rd_al pl &&& rd_nd t) = 0 := (rd_alF p5 tk).mpr fit
            refine Or.inl ⟨-9, nI pos, xt2, xv2, pl, n, D, rd_rk ty n, T, V, OF, OT, LE, IT, ET, EN, EL, LT, upd ty n t, upd nu n v, by decide, fun post h => ?_, fun post h => ?_⟩
            · refine br_f s256 (br_f lp ⟨ip, br_f n32 (SX1 _ ?_)⟩)
              exact xr_jB (by omega) p5 fit (br_f (by decide) h)
            · refine YW post ?_
              unfold wY_read_96
              exact br_f k0 (YA _ (br_t YF (yr_165e (by decide) h)))
        · refine Or.inl ⟨-8, nI pos, xt2, xv2, pl, n, D, rd_rk ty n, T, V, OF, OT, LE, IT, ET, EN, EL, LT, upd ty n 0, upd nu n v, by decide, fun post h => ?_, fun post h => ?_⟩
          · refine br_f s256 (br_f lp ⟨ip, br_f n32 (SX1 _ ?_)⟩)
            exact xr_jN (br_f (by decide) h)
          · refine br_f s256 (br_f lp ⟨ip, br_f n32 (SY1 _ ?_)⟩)
            refine And.intro itk (nm_r (e' := 0) (by rw [ctk, pk_us]) ?_)
            refine br_f (by decide) (br_f (by decide) ?_)
            unfold wY_read_96
            exact br_t rfl (yr_165e (by decide) h)
end
end DLLOOP
end
section
section DLPH
theorem rd_ind {p N : Nat} (h : p < N) : dl_sm (fun q => if p = q then 1 else 0) N = 1 := by
  have u := dl_smU (g := fun _ => 0) (g' := fun q => if p = q then 1 else 0) (p := p) N h (fun i _ hn => by
    show (if p = i then 1 else 0) = 0
    rw [if_neg (fun e => hn e.symm)])
  rw [dl_sm0 (g := fun _ => 0) N (fun _ _ => rfl)] at u
  have e : (if p = p then 1 else 0) = 1 := if_pos rfl
  try dsimp only at u
  rw [e] at u
  omega
def rd_cq (f : Nat → Nat) (h q : Nat) : Nat := dl_sm (fun j => if f j = q then 1 else 0) h
theorem rd_cqA {f : Nat → Nat} {N : Nat} : ∀ h, (∀ j, j < h → f j < N) → dl_sm (rd_cq f h) N = h := by
  intro h
  induction h with
  | zero => intro _; exact dl_sm0 N (fun _ _ => rfl)
  | succ h ih =>
    intro H
    have a := ih (fun j hj => H j (by omega))
    have b := rd_ind (H h (by omega))
    have c : dl_sm (rd_cq f (h + 1)) N = dl_sm (fun q => rd_cq f h q + (if f h = q then 1 else 0)) N := dl_smC N (fun _ _ => rfl)
    rw [c, dl_smA, b]
    have d : dl_sm (fun i => rd_cq f h i) N = dl_sm (rd_cq f h) N := rfl
    omega
theorem rd_cqB {f : Nat → Nat} : ∀ h q, (∀ i j, i < j → j < h → ¬ f i = f j) → rd_cq f h q ≤ 1 := by
  intro h
  induction h with
  | zero => intro q _; exact Nat.zero_le _
  | succ h ih =>
    intro q H
    have e : rd_cq f (h + 1) q = rd_cq f h q + (if f h = q then 1 else 0) := rfl
    rw [e]
    by_cases z : f h = q
    · have : rd_cq f h q = 0 := dl_sm0 h (fun j hj => if_neg (fun w => H j h hj (by omega) (by rw [w, z])))
      rw [if_pos z, this]
      omega
    · rw [if_neg z]
      exact ih q (fun i j hij hj => H i j hij (by omega))
theorem rd_php {f : Nat → Nat} {N h : Nat} (h1 : ∀ j, j < h → f j < N) (h2 : ∀ i j, i < j → j < h → ¬ f i = f j) : h ≤ N := by
  have a := rd_cqA h h1
  have b := dl_smB (g := rd_cq f h) (c := 1) N (fun q _ => rd_cqB h q h2)
  omega
section
variable {ty nu LT T V : Nat → Int32} {n t a b h : Nat} {r r' : Int32}
/-- a label or a reference -/
def rd_go (ty : Nat → Int32) (n t : Nat) : Prop := t < n ∧ (ty t = 61 ∨ ty t = 35)
def rd_hop (nu LT : Nat → Int32) (t : Nat) : Nat := (LT (nu t).toNatClampNeg).toNatClampNeg
def rd_it (nu LT : Nat → Int32) : Nat → Nat → Nat
  | 0, t => t
  | k + 1, t => rd_hop nu LT (rd_it nu LT k t)
theorem rd_itS (t : Nat) : ∀ k, rd_it nu LT (k + 1) t = rd_it nu LT k (rd_hop nu LT t) := by
  intro k
  induction k with
  | zero => rfl
  | succ k ih =>
    show rd_hop nu LT (rd_it nu LT (k + 1) t) = rd_hop nu LT (rd_it nu LT k (rd_hop nu LT t))
    rw [ih]
theorem rd_itP (e : rd_it nu LT a t = rd_it nu LT b t) : ∀ d, rd_it nu LT (a + d) t = rd_it nu LT (b + d) t := by
  intro d
  induction d with
  | zero => exact e
  | succ d ih =>
    show rd_hop nu LT (rd_it nu LT (a + d) t) = rd_hop nu LT (rd_it nu LT (b + d) t)
    rw [ih]
/-- the datum at t comes to r -/
def rd_Ld (ty nu LT : Nat → Int32) (n t : Nat) (r : Int32) : Prop :=
  (∃ h, (∀ j, j < h → rd_go ty n (rd_it nu LT j t)) ∧ ¬ rd_go ty n (rd_it nu LT h t) ∧ ((rd_it nu LT h t < n ∧ r = nI (rd_it nu LT h t)) ∨ (n ≤ rd_it nu LT h t ∧ r = -1))) ∨
  ((∀ h, rd_go ty n (rd_it nu LT h t)) ∧ r = -1)
theorem rd_LdE (ty nu LT : Nat → Int32) (n t : Nat) : ∃ r, rd_Ld ty nu LT n t r := by
  by_cases ex : ∃ h, ¬ rd_go ty n (rd_it nu LT h t)
  · obtain ⟨h, h1, h2⟩ := pk_least _ ex
    have h3 : ∀ j, j < h → rd_go ty n (rd_it nu LT j t) := fun j hj => Classical.byContradiction (h2 j hj)
    by_cases z : rd_it nu LT h t < n
    · exact ⟨_, Or.inl ⟨h, h3, h1, Or.inl ⟨z, rfl⟩⟩⟩
    · exact ⟨_, Or.inl ⟨h, h3, h1, Or.inr ⟨by omega, rfl⟩⟩⟩
  · exact ⟨-1, Or.inr ⟨fun h => Classical.byContradiction (fun z => ex ⟨h, z⟩), rfl⟩⟩
theorem rd_LdU (x : rd_Ld ty nu LT n t r) (y : rd_Ld ty nu LT n t r') : r = r' := by
  rcases x with ⟨h, a1, a2, a3⟩ | ⟨a1, a2⟩
  · rcases y with ⟨h', b1, b2, b3⟩ | ⟨b1, b2⟩
    · have e : h = h' := by
        rcases Nat.lt_trichotomy h h' with z | z | z
        · exact absurd (b1 h z) a2
        · exact z
        · exact absurd (a1 h' z) b2
      subst e
      rcases a3 with ⟨c1, c2⟩ | ⟨c1, c2⟩
      · rcases b3 with ⟨d1, d2⟩ | ⟨d1, d2⟩
        · rw [c2, d2]
        · omega
      · rcases b3 with ⟨d1, d2⟩ | ⟨d1, d2⟩
        · omega
        · rw [c2, d2]
    · exact absurd (b1 h) a2
  · rcases y with ⟨h', b1, b2, b3⟩ | ⟨b1, b2⟩
    · exact absurd (a1 h') b2
    · rw [a2, b2]
theorem rd_LdS (g : rd_go ty n t) (x : rd_Ld ty nu LT n t r) : rd_Ld ty nu LT n (rd_hop nu LT t) r := by
  rcases x with ⟨h, a1, a2, a3⟩ | ⟨a1, a2⟩
  · cases h with
    | zero => exact absurd g a2
    | succ h =>
      rw [rd_itS] at a2 a3
      refine Or.inl ⟨h, fun j hj => ?_, a2, a3⟩
      have := a1 (j + 1) (by omega)
      rw [rd_itS] at this
      exact this
  · refine Or.inr ⟨fun h => ?_, a2⟩
    have := a1 (h + 1)
    rw [rd_itS] at this
    exact this
theorem rd_LdS' (g : rd_go ty n t) (x : rd_Ld ty nu LT n (rd_hop nu LT t) r) : rd_Ld ty nu LT n t r := by
  obtain ⟨r0, h0⟩ := rd_LdE ty nu LT n t
  rw [rd_LdU x (rd_LdS g h0)]
  exact h0
theorem rd_LdR (x : rd_Ld ty nu LT n t r) : r = -1 ∨ ∃ s, s < n ∧ r = nI s ∧ ¬ rd_go ty n s ∧ (s = t ∨ ∃ u, rd_go ty n u ∧ s = rd_hop nu LT u) := by
  rcases x with ⟨h, a1, a2, ⟨c1, c2⟩ | ⟨c1, c2⟩⟩ | ⟨_, c⟩
  · refine Or.inr ⟨_, c1, c2, a2, ?_⟩
    cases h with
    | zero => exact Or.inl rfl
    | succ h => exact Or.inr ⟨_, a1 h (by omega), rfl⟩
  · exact Or.inl c2
  · exact Or.inl c
theorem rd_LdB (W : ∀ t, rd_go ty n t → (nu t).toNatClampNeg < 100) (a1 : ∀ j, j < h → rd_go ty n (rd_it nu LT j t)) (a2 : ¬ rd_go ty n (rd_it nu LT h t)) : h ≤ 100 := by
  refine rd_php (f := fun j => (nu (rd_it nu LT j t)).toNatClampNeg) (fun j hj => W _ (a1 j hj)) (fun i j hij hj e => ?_)
  have e1 : rd_it nu LT (i + 1) t = rd_it nu LT (j + 1) t := by
    show rd_hop nu LT _ = rd_hop nu LT _
    unfold rd_hop
    have e' : (nu (rd_it nu LT i t)).toNatClampNeg = (nu (rd_it nu LT j t)).toNatClampNeg := e
    rw [e']
  have e2 := rd_itP e1 (h - (j + 1))
  rw [show j + 1 + (h - (j + 1)) = h from by omega] at e2
  rw [← e2] at a2
  exact a2 (a1 _ (by omega))
theorem rd_LdA (W : ∀ t, rd_go ty n t → (nu t).toNatClampNeg < 100) (a1 : ∀ j, j < 101 → rd_go ty n (rd_it nu LT j t)) : rd_Ld ty nu LT n t (-1) := by
  obtain ⟨r0, h0⟩ := rd_LdE ty nu LT n t
  rcases h0 with ⟨h, b1, b2, b3⟩ | ⟨b1, b2⟩
  · have := rd_LdB W b1 b2
    exact absurd (a1 h (by omega)) b2
  · exact Or.inr ⟨b1, rfl⟩
def rd_GF (ty nu V LT : Nat → Int32) (n : Nat) : Prop :=
  ∀ t, rd_go ty n t → ∃ q m, q < 100 ∧ nu t = nI q ∧ V t = nI q ∧ m ≤ n ∧ LT q = nI m ∧ (ty t = 61 → m = t + 1) ∧ (∃ i, i < n ∧ m = i + 1 ∧ ty i = 61)
def rd_Un (ty nu LT : Nat → Int32) (n : Nat) : Prop := ∃ t, t < n ∧ ty t = 35 ∧ ∃ q, q < 100 ∧ nu t = nI q ∧ LT q = -1
theorem rd_tkL {t v xt xv : Int32} (h : rd_tk t v xt xv) : (xt = 35 ↔ t = 35) ∧ ((t = 61 ∨ t = 35) → xv = v ∧ ∃ q, q < 100 ∧ v = nI q) := by
  rcases h with ⟨a, b, _⟩ | ⟨a, b, _⟩ | ⟨a, b, _⟩ | ⟨a, b, c⟩
  · rw [b]
    refine ⟨Iff.rfl, fun z => ?_⟩
    rcases z with z | z <;> rw [z] at a <;> rcases a with a | a | a <;> exact absurd a (by decide)
  · subst a; subst b
    exact ⟨by decide, fun z => absurd z (by decide)⟩
  · subst a; subst b
    exact ⟨by decide, fun z => absurd z (by decide)⟩
  · rw [b]
    exact ⟨Iff.rfl, fun _ => c⟩
theorem rd_gf (p1 : ∀ i, i < n → rd_tk (ty i) (nu i) (T i) (V i)) (L : rd_Lb ty nu LT n) (hU : ¬ rd_Un ty nu LT n) : rd_GF ty nu V LT n := by
  rintro t ⟨h1, h2⟩
  obtain ⟨e, q, hq, hv⟩ := (rd_tkL (p1 t h1)).2 h2
  rcases L q hq with ⟨a1, a2⟩ | ⟨i, a1, a2, a3, a4, a5⟩
  · rcases h2 with h2 | h2
    · exact absurd hv (a2 t h1 h2)
    · exact absurd ⟨t, h1, h2, q, hq, hv, a1⟩ hU
  · refine ⟨q, i + 1, hq, hv, by rw [e, hv], by omega, a2, fun z => ?_, i, a1, rfl, a3⟩
    rw [a5 t h1 z hv]
theorem rd_gfW (G : rd_GF ty nu V LT n) : ∀ t, rd_go ty n t → (nu t).toNatClampNeg < 100 := by
  intro t h
  obtain ⟨q, m, hq, e, _⟩ := G t h
  rw [e, nI_clamp (by omega)]; exact hq
theorem rd_gfH (G : rd_GF ty nu V LT n) (hn : n ≤ 256) (h : rd_go ty n t) : ∃ q, q < 100 ∧ nu t = nI q ∧ V t = nI q ∧ LT q = nI (rd_hop nu LT t) ∧ rd_hop nu LT t ≤ n ∧ (ty t = 61 → rd_hop nu LT t = t + 1) ∧ (∃ i, i < n ∧ rd_hop nu LT t = i + 1 ∧ ty i = 61) := by
  obtain ⟨q, m, hq, e1, e2, e3, e4, e5, e6⟩ := G t h
  have e : rd_hop nu LT t = m := by
    unfold rd_hop
    rw [e1, nI_clamp (n := q) (by omega), e4, nI_clamp (n := m) (by omega)]
  rw [e]
  exact ⟨q, hq, e1, e2, e4, e3, e5, e6⟩
end
section
variable {f_cap f_limit f_regs f_textLen f_fault f_found f_outLen f_nextLabel f_frames f_nextValue f_scanType f_scanValue f_tokens f_place f_depth f_elems : Int32} {a_reg a_carOf a_cdrOf a_text a_seen a_queue a_edgeCount a_image a_origin a_out a_labelOf a_frame a_frameTail a_digits a_tokType a_tokValue a_openFirst a_openTok a_lastElem a_inTail a_elemTok a_elemNext a_elemTail a_slot a_labelTok : Nat → Int32}
variable {yf_cap yf_limit yf_regs yf_length yf_fault yf_written yf_top yf_tokens : Int32} {ya_reg ya_heads ya_tails ya_text ya_in ya_image ya_out ya_label ya_spell ya_what ya_which ya_type ya_num ya_cell : Nat → Int32}
variable {ty nu T V OF OT LE IT ET EN EL LT tx : Nat → Int32} {n D el len r t : Nat} {pl xt xv : Int32}
theorem xr_resolve {post : Int32 → Prop} (p1 : ∀ i, i < n → rd_tk (ty i) (nu i) (T i) (V i)) (G : rd_GF ty nu V LT n) (hn : n ≤ 256) (ht : t ≤ 256) (H : ∀ r, rd_Ld ty nu LT n t r → post r) : wpX_resolve post (f_cap, f_limit, f_regs, nI len, f_fault, f_found, f_outLen, f_nextLabel, f_frames, f_nextValue, xt, xv, nI n, pl, nI D, nI el, a_reg, a_carOf, a_cdrOf, tx, a_seen, a_queue, a_edgeCount, a_image, a_origin, a_out, a_labelOf, a_frame, a_frameTail, a_digits, T, V, OF, OT, LE, IT, ET, EN, EL, a_slot, LT) (nI t) := by
  have L : ∀ f hop, 102 ≤ f + hop → hop ≤ 101 → (∀ j, j < hop → rd_go ty n (rd_it nu LT j t)) → rd_it nu LT hop t ≤ 256 → wX_resolve_4 post f_cap f_limit f_regs (nI len) f_fault f_found f_outLen f_nextLabel f_frames f_nextValue xt xv (nI n) pl (nI D) (nI el) a_reg a_carOf a_cdrOf tx a_seen a_queue a_edgeCount a_image a_origin a_out a_labelOf a_frame a_frameTail a_digits T V OF OT LE IT ET EN EL a_slot LT f (nI (rd_it nu LT hop t)) (nI hop) := by
    intro f
    induction f with
    | zero => intro hop a b; omega
    | succ f ih =>
      intro hop a b c e
      by_cases z : hop = 101
      · subst z
        exact br_t (nI_lt (a := 100) (by omega) (by omega)) (H _ (rd_LdA (rd_gfW G) c))
      · refine br_f (nI_nlt (a := 100) (by omega) (by omega)) (br_f (nI_pos (by omega)) ?_)
        by_cases z2 : rd_it nu LT hop t < n
        · have iv : vp_in (nI (rd_it nu LT hop t)) 256 := vp_in_nI (by omega) (by decide)
          have cl : (nI (rd_it nu LT hop t)).toNatClampNeg = rd_it nu LT hop t := nI_clamp (by omega)
          have tk := p1 _ z2
          have k61 := (rd_tkT tk).2.2.1
          have k35 := (rd_tkL tk).1
          have K48 : rd_go ty n (rd_it nu LT hop t) → wX_resolve_48 post (wX_resolve_4 post f_cap f_limit f_regs (nI len) f_fault f_found f_outLen f_nextLabel f_frames f_nextValue xt xv (nI n) pl (nI D) (nI el) a_reg a_carOf a_cdrOf tx a_seen a_queue a_edgeCount a_image a_origin a_out a_labelOf a_frame a_frameTail a_digits T V OF OT LE IT ET EN EL a_slot LT f) (nI (rd_it nu LT hop t)) (nI hop) f_cap f_limit f_regs (nI len) f_fault f_found f_outLen f_nextLabel f_frames f_nextValue xt xv (nI n) pl (nI D) (nI el) a_reg a_carOf a_cdrOf tx a_seen a_queue a_edgeCount a_image a_origin a_out a_labelOf a_frame a_frameTail a_digits T V OF OT LE IT ET EN EL a_slot LT := by
            intro g
            obtain ⟨q, hq, e1, e2, e3, e4, _⟩ := rd_gfH G hn g
            unfold wX_resolve_48
            rw [cl, e2, nI_clamp (n := q) (by omega)]
            refine ⟨iv, vp_in_nI hq (by decide), nm_r e3 (nm_r (nI_1 hop) ?_)⟩
            refine ih (hop + 1) (by omega) (by omega) (fun j hj => ?_) (by show rd_hop nu LT _ ≤ 256; omega)
            by_cases w : j = hop
            · rw [w]; exact g
            · exact c j (by omega)
          refine br_t (nI_lt z2 (by omega)) ⟨iv, ?_⟩
          rw [cl]
          by_cases c1 : T (rd_it nu LT hop t) = 61
          · exact br_t c1 (K48 ⟨z2, Or.inl (k61.mp c1)⟩)
          · refine br_f c1 ⟨iv, ?_⟩
            by_cases c2 : T (rd_it nu LT hop t) = 35
            · exact br_t c2 (K48 ⟨z2, Or.inr (k35.mp c2)⟩)
            · refine br_f c2 (H _ (Or.inl ⟨hop, c, fun g => ?_, Or.inl ⟨z2, rfl⟩⟩))
              rcases g.2 with w | w
              · exact c1 (k61.mpr w)
              · exact c2 (k35.mpr w)
        · exact br_f (nI_nlt (by omega) (by omega)) (H _ (Or.inl ⟨hop, c, fun g => z2 g.1, Or.inr ⟨by omega, rfl⟩⟩))
  unfold wpX_resolve
  exact ⟨102, L 102 0 (by omega) (by omega) (fun j hj => absurd hj (by omega)) ht⟩
theorem yr_landing {post : Int32 → Prop} (Lb : rd_Lb ty nu LT n) (G : rd_GF ty nu V LT n) (hn : n ≤ 256) (ht : t ≤ 256) (H : ∀ r, rd_Ld ty nu LT n t r → post r) : wpY_landing post (yf_cap, yf_limit, yf_regs, nI len, yf_fault, yf_written, yf_top, nI n, ya_reg, ya_heads, ya_tails, tx, ya_in, ya_image, ya_out, ya_label, ya_spell, ya_what, ya_which, ty, nu, ya_cell) (nI t) := by
  have L : ∀ f hop, 601 ≤ f + hop → hop ≤ 600 → (∀ j, j < hop → rd_go ty n (rd_it nu LT j t)) → rd_it nu LT hop t ≤ 256 → wY_landing_4 post yf_cap yf_limit yf_regs (nI len) yf_fault yf_written yf_top (nI n) ya_reg ya_heads ya_tails tx ya_in ya_image ya_out ya_label ya_spell ya_what ya_which ty nu ya_cell f (nI (rd_it nu LT hop t)) (nI hop) := by
    intro f
    induction f with
    | zero => intro hop a b; omega
    | succ f ih =>
      intro hop a b c e
      by_cases z : hop = 600
      · subst z
        exact br_t (nI_le (a := 600) (by omega) (by omega)) (H _ (rd_LdA (rd_gfW G) (fun j hj => c j (by omega))))
      · refine br_f (nI_ge (b := 600) (by omega) (by decide)) (br_f (nI_pos (by omega)) ?_)
        by_cases z2 : rd_it nu LT hop t < n
        · have iv : vp_in (nI (rd_it nu LT hop t)) 260 := vp_in_nI (by omega) (by decide)
          have cl : (nI (rd_it nu LT hop t)).toNatClampNeg = rd_it nu LT hop t := nI_clamp (by omega)
          have K49 : rd_go ty n (rd_it nu LT hop t) → wY_landing_49 post (wY_landing_4 post yf_cap yf_limit yf_regs (nI len) yf_fault yf_written yf_top (nI n) ya_reg ya_heads ya_tails tx ya_in ya_image ya_out ya_label ya_spell ya_what ya_which ty nu ya_cell f) (nI (rd_it nu LT hop t)) (nI hop) yf_cap yf_limit yf_regs (nI len) yf_fault yf_written yf_top (nI n) ya_reg ya_heads ya_tails tx ya_in ya_image ya_out ya_label ya_spell ya_what ya_which ty nu ya_cell := by
            intro g
            obtain ⟨q, hq, e1, e2, e3, e4, e5, i, i1, i2, i3⟩ := rd_gfH G hn g
            have J : wY_landing_4 post yf_cap yf_limit yf_regs (nI len) yf_fault yf_written yf_top (nI n) ya_reg ya_heads ya_tails tx ya_in ya_image ya_out ya_label ya_spell ya_what ya_which ty nu ya_cell f (nI (rd_hop nu LT (rd_it nu LT hop t))) (nI (hop + 1)) := by
              refine ih (hop + 1) (by omega) (by omega) (fun j hj => ?_) (by show rd_hop nu LT _ ≤ 256; omega)
              by_cases w : j = hop
              · rw [w]; exact g
              · exact c j (by omega)
            unfold wY_landing_49
            rw [cl, e1]
            refine ⟨iv, ?_⟩
            by_cases c2 : ty (rd_it nu LT hop t) = 35
            · refine br_t c2 ⟨iv, ?_⟩
              refine yr_lab hn hq Lb (fun w => ?_) (fun i' hi' a1 _ _ => ?_)
              · rw [e3] at w
                exact absurd w (dl_nm1 (by omega))
              · rw [e3] at a1
                have := dl_inj (by omega) (by omega) a1
                rw [this] at J
                exact nm_r (nI_1 i') (nm_r (nI_1 hop) J)
            · have c1 : ty (rd_it nu LT hop t) = 61 := by
                rcases g.2 with w | w
                · exact w
                · exact absurd w c2
              rw [e5 c1] at J
              exact br_f c2 (nm_r (nI_1 _) (nm_r (nI_1 hop) J))
          refine br_t (nI_lt z2 (by omega)) ⟨iv, ?_⟩
          rw [cl]
          by_cases c1 : ty (rd_it nu LT hop t) = 61
          · exact br_t c1 (K49 ⟨z2, Or.inl c1⟩)
          · refine br_f c1 ⟨iv, ?_⟩
            by_cases c2 : ty (rd_it nu LT hop t) = 35
            · exact br_t c2 (K49 ⟨z2, Or.inr c2⟩)
            · refine br_f c2 (H _ (Or.inl ⟨hop, c, fun g => ?_, Or.inl ⟨z2, rfl⟩⟩))
              rcases g.2 with w | w
              · exact c1 w
              · exact c2 w
        · exact br_f (nI_nlt (by omega) (by omega)) (H _ (Or.inl ⟨hop, c, fun g => z2 g.1, Or.inr ⟨by omega, rfl⟩⟩))
  unfold wpY_landing
  exact ⟨601, L 601 0 (by omega) (by omega) (fun j hj => absurd hj (by omega)) ht⟩
theorem xr_undef {post : Int32 → Prop} (p1 : ∀ i, i < n → rd_tk (ty i) (nu i) (T i) (V i)) (Lb : rd_Lb ty nu LT n) (hn : n ≤ 256) (h1 : rd_Un ty nu LT n → post 1) (h0 : ¬ rd_Un ty nu LT n → post 0) : wpX_hasUndefined post (f_cap, f_limit, f_regs, nI len, f_fault, f_found, f_outLen, f_nextLabel, f_frames, f_nextValue, xt, xv, nI n, pl, nI D, nI el, a_reg, a_carOf, a_cdrOf, tx, a_seen, a_queue, a_edgeCount, a_image, a_origin, a_out, a_labelOf, a_frame, a_frameTail, a_digits, T, V, OF, OT, LE, IT, ET, EN, EL, a_slot, LT) := by
  have L : ∀ f i, 300 ≤ f + i → i ≤ n → (∀ t, t < i → ty t = 35 → ∀ q, q < 100 → nu t = nI q → ¬ LT q = -1) → wX_hasUndefined_2 post f_cap f_limit f_regs (nI len) f_fault f_found f_outLen f_nextLabel f_frames f_nextValue xt xv (nI n) pl (nI D) (nI el) a_reg a_carOf a_cdrOf tx a_seen a_queue a_edgeCount a_image a_origin a_out a_labelOf a_frame a_frameTail a_digits T V OF OT LE IT ET EN EL a_slot LT f (nI i) := by
    intro f
    induction f with
    | zero => intro i a b; omega
    | succ f ih =>
      intro i a b c
      by_cases e : i = n
      · subst e
        refine br_t (nI_le (by omega) (by omega)) (h0 ?_)
        rintro ⟨t, a1, a2, q, a3, a4, a5⟩
        exact c t a1 a2 q a3 a4 a5
      · have tk := p1 i (by omega)
        have k35 := (rd_tkL tk).1
        refine br_f (nI_ge (by omega) (by omega)) ⟨vp_in_nI (by omega) (by decide), ?_⟩
        rw [nI_clamp (n := i) (by omega)]
        by_cases z : T i = 35
        · have tz := k35.mp z
          obtain ⟨ev, q, hq, hv⟩ := (rd_tkL tk).2 (Or.inr tz)
          rw [ev, hv, nI_clamp (n := q) (by omega)]
          refine br_t z ⟨vp_in_nI (by omega) (by decide), vp_in_nI hq (by decide), ?_⟩
          rcases Lb q hq with ⟨a1, _⟩ | ⟨j, a1, a2, _⟩
          · exact br_f (by rw [a1]; decide) (h1 ⟨i, by omega, tz, q, hq, hv, a1⟩)
          · refine br_t (by rw [a2]; exact nI_pos' (by omega)) (nm_r (nI_1 i) (ih (i + 1) (by omega) (by omega) ?_))
            intro t ht e1 q' hq' e2 e3
            by_cases w : t = i
            · rw [w, hv] at e2
              have := dl_inj (by omega) (by omega) e2
              subst this
              rw [e3] at a2
              exact absurd a2.symm (dl_nm1 (by omega))
            · exact c t (by omega) e1 q' hq' e2 e3
        · refine br_f z (nm_r (nI_1 i) (ih (i + 1) (by omega) (by omega) ?_))
          intro t ht e1 q' hq' e2 e3
          by_cases w : t = i
          · rw [w] at e1; exact z (k35.mpr e1)
          · exact c t (by omega) e1 q' hq' e2 e3
  unfold wpX_hasUndefined
  exact ⟨300, L 300 0 (by omega) (by omega) (fun t ht => absurd ht (by omega))⟩
theorem yr_undef {post : Int32 → SY → Prop} (p1 : ∀ i, i < n → rd_tk (ty i) (nu i) (T i) (V i)) (Lb : rd_Lb ty nu LT n) (hn : n ≤ 256) (h1 : rd_Un ty nu LT n → post (-12) (yf_cap, yf_limit, yf_regs, nI len, yf_fault, yf_written, yf_top, nI n, ya_reg, ya_heads, ya_tails, tx, ya_in, ya_image, ya_out, ya_label, ya_spell, ya_what, ya_which, ty, nu, ya_cell)) (h0 : ¬ rd_Un ty nu LT n → ∃ m, wY_read_279 post (nI r) yf_cap yf_limit yf_regs (nI len) yf_fault yf_written yf_top (nI n) ya_reg ya_heads ya_tails tx ya_in ya_image ya_out ya_label ya_spell ya_what ya_which ty nu ya_cell m 0) : ∃ m, wY_read_232 post (nI r) yf_cap yf_limit yf_regs (nI len) yf_fault yf_written yf_top (nI n) ya_reg ya_heads ya_tails tx ya_in ya_image ya_out ya_label ya_spell ya_what ya_which ty nu ya_cell m 0 := by
  have L : ∀ f i, 300 ≤ f + i → i ≤ n → (∀ t, t < i → ty t = 35 → ∀ q, q < 100 → nu t = nI q → ¬ LT q = -1) → wY_read_232 post (nI r) yf_cap yf_limit yf_regs (nI len) yf_fault yf_written yf_top (nI n) ya_reg ya_heads ya_tails tx ya_in ya_image ya_out ya_label ya_spell ya_what ya_which ty nu ya_cell f (nI i) := by
    intro f
    induction f with
    | zero => intro i a b; omega
    | succ f ih =>
      intro i a b c
      by_cases e : i = n
      · subst e
        refine br_t (nI_le (by omega) (by omega)) (h0 ?_)
        rintro ⟨t, a1, a2, q, a3, a4, a5⟩
        exact c t a1 a2 q a3 a4 a5
      · have tk := p1 i (by omega)
        refine br_f (nI_ge (by omega) (by omega)) ⟨vp_in_nI (by omega) (by decide), ?_⟩
        rw [nI_clamp (n := i) (by omega)]
        by_cases tz : ty i = 35
        · obtain ⟨ev, q, hq, hv⟩ := (rd_tkL tk).2 (Or.inr tz)
          rw [hv]
          refine br_t tz ⟨vp_in_nI (by omega) (by decide), ?_⟩
          refine yr_lab hn hq Lb (fun a1 => br_f (by decide) (h1 ⟨i, by omega, tz, q, hq, hv, a1⟩)) (fun j hj a2 _ _ => br_t (nI_pos' (by omega)) (nm_r (nI_1 i) (ih (i + 1) (by omega) (by omega) ?_)))
          intro t ht e1 q' hq' e2 e3
          by_cases w : t = i
          · rw [w, hv] at e2
            have := dl_inj (by omega) (by omega) e2
            subst this
            rw [e3] at a2
            exact absurd a2.symm (dl_nm1 (by omega))
          · exact c t (by omega) e1 q' hq' e2 e3
        · refine br_f tz (nm_r (nI_1 i) (ih (i + 1) (by omega) (by omega) ?_))
          intro t ht e1 q' hq' e2 e3
          by_cases w : t = i
          · rw [w] at e1; exact tz e1
          · exact c t (by omega) e1 q' hq' e2 e3
  exact ⟨300, L 300 0 (by omega) (by omega) (fun t ht => absurd ht (by omega))⟩
def rd_Ci (ty nu LT : Nat → Int32) (n : Nat) : Prop := ∃ t, t < n ∧ ty t = 61 ∧ rd_Ld ty nu LT n (t + 1) (-1)
theorem xr_circ {post : Int32 → Prop} (p1 : ∀ i, i < n → rd_tk (ty i) (nu i) (T i) (V i)) (Lb : rd_Lb ty nu LT n) (G : rd_GF ty nu V LT n) (hn : n ≤ 256) (h1 : rd_Ci ty nu LT n → post 1) (h0 : ¬ rd_Ci ty nu LT n → post 0) : wpX_hasCircular post (f_cap, f_limit, f_regs, nI len, f_fault, f_found, f_outLen, f_nextLabel, f_frames, f_nextValue, xt, xv, nI n, pl, nI D, nI el, a_reg, a_carOf, a_cdrOf, tx, a_seen, a_queue, a_edgeCount, a_image, a_origin, a_out, a_labelOf, a_frame, a_frameTail, a_digits, T, V, OF, OT, LE, IT, ET, EN, EL, a_slot, LT) := by
  have L : ∀ f i, 101 ≤ f + i → i ≤ 100 → (∀ q, q < i → ∀ t, t < n → LT q = nI (t + 1) → ¬ rd_Ld ty nu LT n (t + 1) (-1)) → wX_hasCircular_2 post f_cap f_limit f_regs (nI len) f_fault f_found f_outLen f_nextLabel f_frames f_nextValue xt xv (nI n) pl (nI D) (nI el) a_reg a_carOf a_cdrOf tx a_seen a_queue a_edgeCount a_image a_origin a_out a_labelOf a_frame a_frameTail a_digits T V OF OT LE IT ET EN EL a_slot LT f (nI i) := by
    intro f
    induction f with
    | zero => intro i a b; omega
    | succ f ih =>
      intro i a b c
      by_cases e : i = 100
      · subst e
        refine br_t (nI_le (a := 100) (by omega) (by omega)) (h0 ?_)
        rintro ⟨t, a1, a2, a3⟩
        obtain ⟨_, q, hq, hv⟩ := (rd_tkL (p1 t a1)).2 (Or.inl a2)
        rcases Lb q hq with ⟨_, b2⟩ | ⟨j, b1, b2, b3, b4, b5⟩
        · exact b2 t a1 a2 hv
        · have := b5 t a1 a2 hv
          subst this
          exact c q hq t a1 b2 a3
      · refine br_f (nI_ge (b := 100) (by omega) (by decide)) ⟨vp_in_nI (by omega) (by decide), ?_⟩
        rw [nI_clamp (n := i) (by omega)]
        rcases Lb i (by omega) with ⟨a1, _⟩ | ⟨j, a1, a2, a3, _⟩
        · refine br_t (by rw [a1]; decide) (nm_r (nI_1 i) (ih (i + 1) (by omega) (by omega) ?_))
          intro q hq t ht e1
          by_cases w : q = i
          · rw [w, a1] at e1
            exact absurd e1.symm (dl_nm1 (by omega))
          · exact c q (by omega) t ht e1
        · rw [a2]
          refine br_f (nI_pos (by omega)) ⟨vp_in_nI (by omega) (by decide), ?_⟩
          refine xr_resolve p1 G hn (by omega) (fun r' ld => ?_)
          rcases rd_LdR ld with er | ⟨s, hs, er, _⟩
          · subst er
            exact br_f (by decide) (h1 ⟨j, a1, a3, ld⟩)
          · subst er
            refine br_t (nI_pos' (by omega)) (nm_r (nI_1 i) (ih (i + 1) (by omega) (by omega) ?_))
            intro q hq t ht e1 ld2
            by_cases w : q = i
            · rw [w, a2] at e1
              have := dl_inj (by omega) (by omega) e1
              have e3 : t = j := by omega
              subst e3
              exact absurd (rd_LdU ld ld2) (dl_nm1 (by omega))
            · exact c q (by omega) t ht e1 ld2
  unfold wpX_hasCircular
  exact ⟨101, L 101 0 (by omega) (by omega) (fun t ht => absurd ht (by omega))⟩
theorem yr_circ {post : Int32 → SY → Prop} (Lb : rd_Lb ty nu LT n) (G : rd_GF ty nu V LT n) (hn : n ≤ 256) (h1 : rd_Ci ty nu LT n → post (-13) (yf_cap, yf_limit, yf_regs, nI len, yf_fault, yf_written, yf_top, nI n, ya_reg, ya_heads, ya_tails, tx, ya_in, ya_image, ya_out, ya_label, ya_spell, ya_what, ya_which, ty, nu, ya_cell))
    (h0 : ¬ rd_Ci ty nu LT n → wpY_live (fun r_53 u => match u with | (yf_cap_54, yf_limit_54, yf_regs_54, yf_length_54, yf_fault_54, yf_written_54, yf_top_54, yf_tokens_54, ya_reg_54, ya_heads_54, ya_tails_54, ya_text_54, ya_in_54, ya_image_54, ya_out_54, ya_label_54, ya_spell_54, ya_what_54, ya_which_54, ya_type_54, ya_num_54, ya_cell_54) => (∃ n323 : Nat, wY_read_323 post (nI r) yf_cap_54 yf_limit_54 yf_regs_54 yf_length_54 yf_fault_54 yf_written_54 yf_top_54 yf_tokens_54 ya_reg_54 ya_heads_54 ya_tails_54 ya_text_54 ya_in_54 ya_image_54 ya_out_54 ya_label_54 ya_spell_54 ya_what_54 ya_which_54 ya_type_54 ya_num_54 ya_cell_54 n323 r_53 0)) (yf_cap, yf_limit, yf_regs, nI len, yf_fault, yf_written, yf_top, nI n, ya_reg, ya_heads, ya_tails, tx, ya_in, ya_image, ya_out, ya_label, ya_spell, ya_what, ya_which, ty, nu, ya_cell)) : ∃ m, wY_read_279 post (nI r) yf_cap yf_limit yf_regs (nI len) yf_fault yf_written yf_top (nI n) ya_reg ya_heads ya_tails tx ya_in ya_image ya_out ya_label ya_spell ya_what ya_which ty nu ya_cell m 0 := by
  have L : ∀ f i, 300 ≤ f + i → i ≤ n → (∀ t, t < i → ty t = 61 → ¬ rd_Ld ty nu LT n (t + 1) (-1)) → wY_read_279 post (nI r) yf_cap yf_limit yf_regs (nI len) yf_fault yf_written yf_top (nI n) ya_reg ya_heads ya_tails tx ya_in ya_image ya_out ya_label ya_spell ya_what ya_which ty nu ya_cell f (nI i) := by
    intro f
    induction f with
    | zero => intro i a b; omega
    | succ f ih =>
      intro i a b c
      by_cases e : i = n
      · subst e
        refine br_t (nI_le (by omega) (by omega)) (h0 ?_)
        rintro ⟨t, a1, a2, a3⟩
        exact c t a1 a2 a3
      · refine br_f (nI_ge (by omega) (by omega)) ⟨vp_in_nI (by omega) (by decide), ?_⟩
        rw [nI_clamp (n := i) (by omega)]
        by_cases z : ty i = 61
        · have g : rd_go ty n i := ⟨by omega, Or.inl z⟩
          obtain ⟨q, hq, e1, e2, e3, e4, e5, _⟩ := rd_gfH G hn g
          have eh := e5 z
          refine br_t z (yr_landing Lb G hn (by omega) (fun r' ld => ?_))
          have ld1 := rd_LdS g ld
          rw [eh] at ld1
          rcases rd_LdR ld with er | ⟨s, hs, er, _⟩
          · subst er
            exact br_f (by decide) (h1 ⟨i, by omega, z, ld1⟩)
          · subst er
            refine br_t (nI_pos' (by omega)) (nm_r (nI_1 i) (ih (i + 1) (by omega) (by omega) ?_))
            intro t ht e1 ld2
            by_cases w : t = i
            · rw [w] at ld2
              exact absurd (rd_LdU ld1 ld2) (dl_nm1 (by omega))
            · exact c t (by omega) e1 ld2
        · refine br_f z (nm_r (nI_1 i) (ih (i + 1) (by omega) (by omega) ?_))
          intro t ht e1 ld2
          by_cases w : t = i
          · rw [w] at e1; exact z e1
          · exact c t (by omega) e1 ld2
  exact ⟨300, L 300 0 (by omega) (by omega) (fun t ht => absurd ht (by omega))⟩
end
end DLPH
end
section
section DLMN
def rd_OFh (ty OF : Nat → Int32) (n : Nat) : Prop := ∀ k, k < n → ty k = 40 → k + 1 < n ∧ ((ty (k + 1) = 41 ∧ OF k = -1) ∨ (¬ ty (k + 1) = 41 ∧ rd_eN ty (k + 1) = 1 ∧ OF k = nI (rd_rk ty (k + 1))))
theorem rd_ofh {ty nu T V OF OT LE IT ET EN EL LT : Nat → Int32} {n D : Nat} (P : rd_PI ty nu T V OF OT LE IT ET EN EL LT n D 120) : rd_OFh ty OF n := by
  obtain ⟨p1, p2, p3, p4, p5, p6, p7, p8, p9⟩ := P
  obtain ⟨a1, a2, a3, a4, a5⟩ := rd_pl120 p9
  intro k hk e
  rcases p8 k hk e with ⟨o1, o2⟩ | ⟨o1, o2, o3⟩ | ⟨o1, o2, o3, o4⟩
  · rw [show n - 1 = k from by omega] at a4
    exact absurd e a4
  · exact ⟨o1, Or.inl ⟨o2, o3⟩⟩
  · exact ⟨o1, Or.inr ⟨o2, o3, o4⟩⟩
def rd_SX (ty slot : Nat → Int32) (n cap : Nat) : Prop := ∀ k, k < n → rd_eN ty k = 1 → ∃ p, p < cap ∧ slot (rd_rk ty k) = nI p
def rd_SC (ty slot cell : Nat → Int32) (n : Nat) : Prop := ∀ k, k < n → rd_eN ty k = 1 → cell k = slot (rd_rk ty k)
section
variable {ty nu T V OF OT LE IT ET EN EL LT tx slot : Nat → Int32} {n D el len t cap : Nat} {pl xt xv : Int32}
theorem rd_mean (p1 : ∀ i, i < n → rd_tk (ty i) (nu i) (T i) (V i)) (Lb : rd_Lb ty nu LT n) (G : rd_GF ty nu V LT n) (hn : n ≤ 256) (St : rd_St ty n) (OFh : rd_OFh ty OF n) (SX1 : rd_SX ty slot n cap) (hcap : cap ≤ 48) (ht : t ≤ n) (hs : t < n → ¬ ty t = 41 ∧ ¬ ty t = 46) :
    ∃ w, dl_V cap w ∧ (∀ {f_cap f_limit f_regs f_fault f_found f_outLen f_nextLabel f_frames f_nextValue : Int32} {a_reg a_carOf a_cdrOf a_seen a_queue a_edgeCount a_image a_origin a_out a_labelOf a_frame a_frameTail a_digits : Nat → Int32} (post : Int32 → Prop), post w → wpX_meaning post (f_cap, f_limit, f_regs, nI len, f_fault, f_found, f_outLen, f_nextLabel, f_frames, f_nextValue, xt, xv, nI n, pl, nI D, nI el, a_reg, a_carOf, a_cdrOf, tx, a_seen, a_queue, a_edgeCount, a_image, a_origin, a_out, a_labelOf, a_frame, a_frameTail, a_digits, T, V, OF, OT, LE, IT, ET, EN, EL, slot, LT) (nI t)) ∧
      (∀ cell, rd_SC ty slot cell n → ∀ {yf_cap yf_limit yf_regs yf_fault yf_written yf_top : Int32} {ya_reg ya_heads ya_tails ya_in ya_image ya_out ya_label ya_spell ya_what ya_which : Nat → Int32} (post : Int32 → Prop), post w → wpY_meaning post (yf_cap, yf_limit, yf_regs, nI len, yf_fault, yf_written, yf_top, nI n, ya_reg, ya_heads, ya_tails, tx, ya_in, ya_image, ya_out, ya_label, ya_spell, ya_what, ya_which, ty, nu, cell) (nI t)) := by
  obtain ⟨r, ld⟩ := rd_LdE ty nu LT n t
  rcases rd_LdR ld with er | ⟨s, hs1, er, ng, hs2⟩
  · subst er
    refine ⟨0, dl_V0 cap, ?_, ?_⟩
    · intros
      rename_i h
      unfold wpX_meaning
      refine xr_resolve p1 G hn (by omega) (fun r' ld' => ?_)
      rw [rd_LdU ld' ld]
      exact br_f (by decide) h
    · intro cell SC
      intros
      rename_i h
      unfold wpY_meaning
      refine yr_landing Lb G hn (by omega) (fun r' ld' => ?_)
      rw [rd_LdU ld' ld]
      exact br_f (by decide) h
  · subst er
    have cs : (nI s).toNatClampNeg = s := nI_clamp (by omega)
    have i256 : vp_in (nI s) 256 := vp_in_nI (by omega) (by decide)
    have i260 : vp_in (nI s) 260 := vp_in_nI (by omega) (by decide)
    have sp : ¬ ty s = 41 ∧ ¬ ty s = 46 := by
      rcases hs2 with e | ⟨u, gu, eu⟩
      · rw [e] at hs1 ⊢; exact hs hs1
      · obtain ⟨q, hq, e1, e2, e3, e4, e5, i, i1, i2, i3⟩ := rd_gfH G hn gu
        rw [← eu] at i2
        refine St s hs1 (Or.inr (Or.inl ?_))
        rw [show s - 1 = i from by omega]; exact i3
    rcases p1 s hs1 with ⟨a, b, _⟩ | ⟨a, b, c⟩ | ⟨a, b, c⟩ | ⟨a, _⟩
    · have t40 : ty s = 40 := by
        rcases a with a | a | a
        · exact a
        · exact absurd a sp.1
        · exact absurd a sp.2
      rw [t40] at b
      obtain ⟨o0, o⟩ := OFh s hs1 t40
      rcases o with ⟨o1, o2⟩ | ⟨o1, o2, o3⟩
      · refine ⟨0, dl_V0 cap, ?_, ?_⟩
        · intros
          rename_i h
          unfold wpX_meaning
          refine xr_resolve p1 G hn (by omega) (fun r' ld' => ?_)
          rw [rd_LdU ld' ld, cs]
          refine br_t (nI_pos' (by omega)) ⟨i256, br_f (by rw [b]; decide) ⟨i256, nm_r o2 (br_f (by decide) h)⟩⟩
        · intro cell SC
          intros
          rename_i h
          unfold wpY_meaning
          refine yr_landing Lb G hn (by omega) (fun r' ld' => ?_)
          rw [rd_LdU ld' ld, cs, nI_1, nI_clamp (n := s + 1) (by omega)]
          refine br_t (nI_pos' (by omega)) ⟨i260, br_f (by rw [t40]; decide) ⟨i260, br_f (by rw [t40]; decide) ⟨vp_in_nI (by omega) (by decide), br_t o1 h⟩⟩⟩
      · obtain ⟨p, hp, es⟩ := SX1 (s + 1) o0 o2
        have RB := rd_rkB ty (s + 1)
        refine ⟨dl_pv p, dl_Vp hp hcap, ?_, ?_⟩
        · intros
          rename_i h
          unfold wpX_meaning
          refine xr_resolve p1 G hn (by omega) (fun r' ld' => ?_)
          rw [rd_LdU ld' ld, cs]
          refine br_t (nI_pos' (by omega)) ⟨i256, br_f (by rw [b]; decide) ⟨i256, nm_r o3 (br_t (nI_pos' (by omega)) ⟨vp_in_nI (by omega) (by decide), ?_⟩)⟩⟩
          rw [nI_clamp (n := rd_rk ty (s + 1)) (by omega), es, dl_pvM]
          exact h
        · intro cell SC
          intros
          rename_i h
          unfold wpY_meaning
          refine yr_landing Lb G hn (by omega) (fun r' ld' => ?_)
          rw [rd_LdU ld' ld, cs, nI_1, nI_clamp (n := s + 1) (by omega), SC (s + 1) o0 o2, es, dl_pvM]
          refine br_t (nI_pos' (by omega)) ⟨i260, br_f (by rw [t40]; decide) ⟨i260, br_f (by rw [t40]; decide) ⟨vp_in_nI (by omega) (by decide), br_f o1 ⟨vp_in_nI (by omega) (by decide), h⟩⟩⟩⟩
    · refine ⟨nu s * 4 + 2, dl_V2 cap (nu s), ?_, ?_⟩
      · intros
        rename_i h
        unfold wpX_meaning
        refine xr_resolve p1 G hn (by omega) (fun r' ld' => ?_)
        rw [rd_LdU ld' ld, cs, c]
        exact br_t (nI_pos' (by omega)) ⟨i256, br_t b ⟨i256, h⟩⟩
      · intro cell SC
        intros
        rename_i h
        unfold wpY_meaning
        refine yr_landing Lb G hn (by omega) (fun r' ld' => ?_)
        rw [rd_LdU ld' ld, cs]
        exact br_t (nI_pos' (by omega)) ⟨i260, br_t a ⟨i260, h⟩⟩
    · refine ⟨nu s * 4 + 1, dl_V1 cap (nu s), ?_, ?_⟩
      · intros
        rename_i h
        unfold wpX_meaning
        refine xr_resolve p1 G hn (by omega) (fun r' ld' => ?_)
        rw [rd_LdU ld' ld, cs, c]
        exact br_t (nI_pos' (by omega)) ⟨i256, br_t b ⟨i256, h⟩⟩
      · intro cell SC
        intros
        rename_i h
        unfold wpY_meaning
        refine yr_landing Lb G hn (by omega) (fun r' ld' => ?_)
        rw [rd_LdU ld' ld, cs]
        exact br_t (nI_pos' (by omega)) ⟨i260, br_f (by rw [a]; decide) ⟨i260, br_t a ⟨i260, h⟩⟩⟩
    · exact absurd ⟨hs1, a⟩ ng
end
/-! free cells by their rank -/
def rd_ur (set : Nat → Int32) : Nat → Nat := dl_sm (fun q => if set q = 0 then 1 else 0)
theorem rd_urT {set : Nat → Int32} {p : Nat} (h : set p = 0) : rd_ur set (p + 1) = rd_ur set p + 1 := by
  show rd_ur set p + (if set p = 0 then 1 else 0) = _
  rw [if_pos h]
theorem rd_urF {set : Nat → Int32} {p : Nat} (h : ¬ set p = 0) : rd_ur set (p + 1) = rd_ur set p := by
  show rd_ur set p + (if set p = 0 then 1 else 0) = _
  rw [if_neg h]
  rfl
theorem rd_urL {set : Nat → Int32} {p q : Nat} (h : set q = 0) (hq : q < p) : rd_ur set q < rd_ur set p := by
  have := dl_smP (g := fun q => if set q = 0 then 1 else 0) (n := q + 1) p (by omega)
  have e := rd_urT h
  unfold rd_ur at *
  omega
theorem rd_urI {set : Nat → Int32} {p q : Nat} (h : set q = 0) (h' : set p = 0) (e : rd_ur set q = rd_ur set p) : q = p := by
  rcases Nat.lt_trichotomy q p with z | z | z
  · have := rd_urL h z; omega
  · exact z
  · have := rd_urL h' z; omega
theorem rd_urE {set : Nat → Int32} : ∀ p e, e < rd_ur set p → ∃ q, q < p ∧ set q = 0 ∧ rd_ur set q = e := by
  intro p
  induction p with
  | zero => intro e h; exact absurd h (Nat.not_lt_zero e)
  | succ p ih =>
    intro e h
    by_cases z : set p = 0
    · rw [rd_urT z] at h
      by_cases w : e = rd_ur set p
      · exact ⟨p, by omega, z, w.symm⟩
      · obtain ⟨q, h1, h2, h3⟩ := ih e (by omega)
        exact ⟨q, by omega, h2, h3⟩
    · rw [rd_urF z] at h
      obtain ⟨q, h1, h2, h3⟩ := ih e h
      exact ⟨q, by omega, h2, h3⟩
theorem rd_urC {s t : Nat → Int32} (h : ∀ q, q < 48 → (s q = 0 ↔ t q = 0)) {p : Nat} (hp : p ≤ 48) : rd_ur s p = rd_ur t p := by
  refine dl_smC p (fun i hi => ?_)
  by_cases z : s i = 0
  · rw [if_pos z, if_pos ((h i (by omega)).mp z)]
  · rw [if_neg z, if_neg (fun w => z ((h i (by omega)).mpr w))]
theorem rd_urN {set : Nat → Int32} {cap E : Nat} (hc : cap ≤ 48) (h : dl_ct set + E ≤ cap) : E ≤ rd_ur set cap := by
  have a : dl_sm (fun q => dl_on set q + (if set q = 0 then 1 else 0)) cap = cap := by
    rw [dl_smC (g' := fun _ => 1) cap (fun i _ => by
      unfold dl_on
      by_cases z : set i = 0
      · rw [if_pos z, if_pos z]
      · rw [if_neg z, if_neg z]), dl_sm1]
  rw [dl_smA] at a
  have b := dl_smP (g := dl_on set) 48 hc
  unfold dl_ct at h
  unfold rd_ur
  have c : dl_sm (fun i => dl_on set i) cap = dl_sm (dl_on set) cap := rfl
  omega
section
variable {f_cap f_limit f_regs f_textLen f_fault f_found f_outLen f_nextLabel f_frames f_nextValue f_scanType f_scanValue f_tokens f_place f_depth f_elems : Int32} {a_reg a_carOf a_cdrOf a_text a_seen a_queue a_edgeCount a_image a_origin a_out a_labelOf a_frame a_frameTail a_digits a_tokType a_tokValue a_openFirst a_openTok a_lastElem a_inTail a_elemTok a_elemNext a_elemTail a_slot a_labelTok : Nat → Int32}
theorem xr_build {post : SX → Prop} {E cap : Nat} (hE : E ≤ rd_ur a_seen cap) (hE2 : E ≤ 256) (hc : cap ≤ 48)
    (H : ∀ slot, (∀ e, e < E → ∃ q, q < cap ∧ a_seen q = 0 ∧ rd_ur a_seen q = e ∧ slot e = nI q) → ∃ f, wX_build_47 post (nI E) (nI cap) f_limit f_regs f_textLen f_fault f_found f_outLen f_nextLabel f_frames f_nextValue f_scanType f_scanValue f_tokens f_place f_depth (nI E) f 0 a_reg a_carOf a_cdrOf a_text a_seen a_queue a_edgeCount a_image a_origin a_out a_labelOf a_frame a_frameTail a_digits a_tokType a_tokValue a_openFirst a_openTok a_lastElem a_inTail a_elemTok a_elemNext a_elemTail slot a_labelTok) : wpX_build post (nI cap, f_limit, f_regs, f_textLen, f_fault, f_found, f_outLen, f_nextLabel, f_frames, f_nextValue, f_scanType, f_scanValue, f_tokens, f_place, f_depth, nI E, a_reg, a_carOf, a_cdrOf, a_text, a_seen, a_queue, a_edgeCount, a_image, a_origin, a_out, a_labelOf, a_frame, a_frameTail, a_digits, a_tokType, a_tokValue, a_openFirst, a_openTok, a_lastElem, a_inTail, a_elemTok, a_elemNext, a_elemTail, a_slot, a_labelTok) := by
  have L : ∀ f p slot, 49 ≤ f + p → p ≤ cap → rd_ur a_seen p ≤ E → (∀ q, q < p → a_seen q = 0 → slot (rd_ur a_seen q) = nI q) → wX_build_4 post (nI cap) f_limit f_regs f_textLen f_fault f_found f_outLen f_nextLabel f_frames f_nextValue f_scanType f_scanValue f_tokens f_place f_depth (nI E) f (nI (rd_ur a_seen p)) (nI p) a_reg a_carOf a_cdrOf a_text a_seen a_queue a_edgeCount a_image a_origin a_out a_labelOf a_frame a_frameTail a_digits a_tokType a_tokValue a_openFirst a_openTok a_lastElem a_inTail a_elemTok a_elemNext a_elemTail slot a_labelTok := by
    intro f
    induction f with
    | zero => intro p slot a b; omega
    | succ f ih =>
      intro p slot a b c d
      have fin : rd_ur a_seen p = E → ∃ f, wX_build_47 post (nI (rd_ur a_seen p)) (nI cap) f_limit f_regs f_textLen f_fault f_found f_outLen f_nextLabel f_frames f_nextValue f_scanType f_scanValue f_tokens f_place f_depth (nI E) f 0 a_reg a_carOf a_cdrOf a_text a_seen a_queue a_edgeCount a_image a_origin a_out a_labelOf a_frame a_frameTail a_digits a_tokType a_tokValue a_openFirst a_openTok a_lastElem a_inTail a_elemTok a_elemNext a_elemTail slot a_labelTok := by
        intro e
        rw [e]
        refine H slot (fun e' he' => ?_)
        rw [← e] at he'
        obtain ⟨q, h1, h2, h3⟩ := rd_urE p e' he'
        exact ⟨q, by omega, h2, h3, by rw [← h3]; exact d q h1 h2⟩
      by_cases z : p = cap
      · subst z
        exact br_t (nI_le (by omega) (by omega)) (fin (by omega))
      · refine br_f (nI_ge (by omega) (by omega)) ?_
        by_cases w : rd_ur a_seen p = E
        · exact br_t (nI_le (by omega) (by omega)) (fin w)
        · refine br_f (nI_ge (by omega) (by omega)) ⟨vp_in_nI (by omega) (by decide), ?_⟩
          rw [nI_clamp (n := p) (by omega)]
          by_cases s : a_seen p = 0
          · have J := ih (p + 1) (upd slot (rd_ur a_seen p) (nI p)) (by omega) (by omega) (by rw [rd_urT s]; omega) (by
              intro q hq e
              by_cases v : q = p
              · rw [v, pk_us]
              · have := rd_urL e (show q < p from by omega)
                rw [pk_un (by omega)]
                exact d q (by omega) e)
            rw [rd_urT s] at J
            exact br_t s ⟨vp_in_nI (by omega) (by decide), nm_r (e' := upd slot (rd_ur a_seen p) (nI p)) (by rw [nI_clamp (by omega)]) (nm_r (nI_1 _) (nm_r (nI_1 p) J))⟩
          · have J := ih (p + 1) slot (by omega) (by omega) (by rw [rd_urF s]; omega) (by
              intro q hq e
              by_cases v : q = p
              · rw [v] at e; exact absurd e s
              · exact d q (by omega) e)
            rw [rd_urF s] at J
            exact br_f s (nm_r (nI_1 p) J)
  unfold wpX_build
  exact ⟨49, L 49 0 a_slot (by omega) (by omega) (Nat.zero_le _) (fun q hq => absurd hq (by omega))⟩
end
section
variable {yf_cap yf_limit yf_regs yf_length yf_fault yf_written yf_top yf_tokens : Int32} {ya_reg ya_heads ya_tails ya_text ya_in ya_image ya_out ya_label ya_spell ya_what ya_which ya_type ya_num ya_cell : Nat → Int32}
variable {ty nu tx : Nat → Int32} {n len r cap : Nat} {post : Int32 → SY → Prop}
theorem yr_elem {post : Int32 → Prop} {k : Nat} (hk : k < 256) (h1 : rd_eN ty k = 1 → post 1) (h0 : rd_eN ty k = 0 → post 0) : wpY_element post (yf_cap, yf_limit, yf_regs, nI len, yf_fault, yf_written, yf_top, nI n, ya_reg, ya_heads, ya_tails, tx, ya_in, ya_image, ya_out, ya_label, ya_spell, ya_what, ya_which, ty, nu, ya_cell) (nI k) := by
  have no : ¬ (0 < k ∧ ¬ ty k = 41 ∧ ¬ ty k = 46 ∧ ¬ ty (k - 1) = 61 ∧ ¬ ty (k - 1) = 46) → post 0 := by
    intro z
    rcases rd_e01 ty k with w | w
    · exact h0 w
    · exact absurd (rd_e1.mp w) z
  unfold wpY_element
  by_cases z : k = 0
  · subst z
    exact br_t (by decide) (no (fun w => by omega))
  · refine br_f (nI_nle (by omega) (by omega)) ?_
    rw [dl_s1 (n := k) (by omega), nI_clamp (n := k) (by omega), nI_clamp (n := k - 1) (by omega)]
    have i1 : vp_in (nI k) 260 := vp_in_nI (by omega) (by decide)
    have i2 : vp_in (nI (k - 1)) 260 := vp_in_nI (by omega) (by decide)
    refine ⟨i1, ?_⟩
    by_cases a : ty k = 41
    · exact br_t a (no (fun w => w.2.1 a))
    · refine br_f a ⟨i1, ?_⟩
      by_cases b : ty k = 46
      · exact br_t b (no (fun w => w.2.2.1 b))
      · refine br_f b ⟨i2, ?_⟩
        by_cases c : ty (k - 1) = 61
        · exact br_t c (no (fun w => w.2.2.2.1 c))
        · refine br_f c ⟨i2, ?_⟩
          by_cases d : ty (k - 1) = 46
          · exact br_t d (no (fun w => w.2.2.2.2 d))
          · exact br_f d (h1 (rd_e1.mpr ⟨by omega, a, b, c, d⟩))
theorem yr_323 {m : Nat} (hn : n ≤ 256) (hm : m ≤ 48) (hc : cap ≤ 48) (h5 : ¬ m + rd_rk ty n ≤ cap → post (-5) (nI cap, yf_limit, yf_regs, nI len, yf_fault, yf_written, yf_top, nI n, ya_reg, ya_heads, ya_tails, tx, ya_in, ya_image, ya_out, ya_label, ya_spell, ya_what, ya_which, ty, nu, ya_cell)) (h0 : m + rd_rk ty n ≤ cap → ∃ f, wY_read_364 post (nI r) f 0 (nI cap) yf_limit yf_regs (nI len) yf_fault yf_written yf_top (nI n) ya_reg ya_heads ya_tails tx ya_in ya_image ya_out ya_label ya_spell ya_what ya_which ty nu ya_cell) : ∃ f, wY_read_323 post (nI r) (nI cap) yf_limit yf_regs (nI len) yf_fault yf_written yf_top (nI n) ya_reg ya_heads ya_tails tx ya_in ya_image ya_out ya_label ya_spell ya_what ya_which ty nu ya_cell f (nI m) 0 := by
  have RB := rd_rkB ty n
  have L : ∀ f k, 300 ≤ f + k → k ≤ n → wY_read_323 post (nI r) (nI cap) yf_limit yf_regs (nI len) yf_fault yf_written yf_top (nI n) ya_reg ya_heads ya_tails tx ya_in ya_image ya_out ya_label ya_spell ya_what ya_which ty nu ya_cell f (nI (m + rd_rk ty k)) (nI k) := by
    intro f
    induction f with
    | zero => intro k a b; omega
    | succ f ih =>
      intro k a b
      by_cases e : k = n
      · subst e
        refine br_t (nI_le (by omega) (by omega)) ?_
        by_cases z : m + rd_rk ty k ≤ cap
        · exact br_t (nI_le z (by omega)) (h0 z)
        · exact br_f (nI_ge (by omega) (by omega)) (h5 z)
      · have J := ih (k + 1) (by omega) (by omega)
        rw [rd_rkS] at J
        refine br_f (nI_ge (by omega) (by omega)) (yr_elem (by omega) (fun z => br_f dl_10 ?_) (fun z => br_t rfl ?_))
        · rw [z] at J
          exact nm_r (nI_1 _) (nm_r (nI_1 k) J)
        · rw [z] at J
          exact nm_r (nI_1 k) J
  exact ⟨300, L 300 0 (by omega) (by omega)⟩
theorem yr_364 (hn : n ≤ 256) (hc : cap ≤ 48) (hE : rd_rk ty n ≤ rd_ur ya_in cap)
    (H : ∀ inn cell, (∀ k, k < n → rd_eN ty k = 1 → ∃ p, p < cap ∧ ya_in p = 0 ∧ rd_ur ya_in p = rd_rk ty k ∧ cell k = nI p) → ∃ f, wY_read_402 post (nI r) (nI cap) yf_limit yf_regs (nI len) yf_fault yf_written yf_top (nI n) f 0 ya_reg ya_heads ya_tails tx inn ya_image ya_out ya_label ya_spell ya_what ya_which ty nu cell) : ∃ f, wY_read_364 post (nI r) f 0 (nI cap) yf_limit yf_regs (nI len) yf_fault yf_written yf_top (nI n) ya_reg ya_heads ya_tails tx ya_in ya_image ya_out ya_label ya_spell ya_what ya_which ty nu ya_cell := by
  have L : ∀ f k inn cell, 300 ≤ f + k → k ≤ n → (∀ q, q < 48 → (inn q = 0 ↔ (ya_in q = 0 ∧ rd_rk ty k ≤ rd_ur ya_in q))) → (∀ j, j < k → rd_eN ty j = 1 → ∃ p, p < cap ∧ ya_in p = 0 ∧ rd_ur ya_in p = rd_rk ty j ∧ cell j = nI p) →
      wY_read_364 post (nI r) f (nI k) (nI cap) yf_limit yf_regs (nI len) yf_fault yf_written yf_top (nI n) ya_reg ya_heads ya_tails tx inn ya_image ya_out ya_label ya_spell ya_what ya_which ty nu cell := by
    intro f
    induction f with
    | zero => intro k inn cell a b; omega
    | succ f ih =>
      intro k inn cell a b I C
      by_cases e : k = n
      · subst e
        exact br_t (nI_le (by omega) (by omega)) (H inn cell C)
      · refine br_f (nI_ge (by omega) (by omega)) (yr_elem (by omega) (fun z => br_f dl_10 ?_) (fun z => br_t rfl ?_))
        · have lt := rd_rkL z (show k < n from by omega)
          obtain ⟨p, hp, p0, pu⟩ := rd_urE (set := ya_in) cap (rd_rk ty k) (by omega)
          have fr : dl_fr cap inn p := by
            refine ⟨hp, (I p (by omega)).mpr ⟨p0, by omega⟩, fun q hq w => ?_⟩
            obtain ⟨w1, w2⟩ := (I q (by omega)).mp w
            have := rd_urL w1 hq
            omega
          refine yw_free hc fr ?_
          refine And.intro (vp_in_nI (by omega) (by decide)) (nm_r (e' := upd cell k (nI p)) (by rw [nI_clamp (by omega)]) (nm_r (nI_1 k) (ih (k + 1) (upd inn p 1) (upd cell k (nI p)) (by omega) (by omega) ?_ ?_)))
          · intro q hq
            rw [rd_rkS, z]
            by_cases w : q = p
            · subst w
              rw [pk_us]
              exact ⟨fun x => absurd x (by decide), fun x => by omega⟩
            · rw [pk_un w]
              constructor
              · intro x
                obtain ⟨x1, x2⟩ := (I q hq).mp x
                refine ⟨x1, ?_⟩
                have : ¬ rd_ur ya_in q = rd_rk ty k := fun y => w (rd_urI x1 p0 (by omega))
                omega
              · rintro ⟨x1, x2⟩
                exact (I q hq).mpr ⟨x1, by omega⟩
          · intro j hj ej
            by_cases w : j = k
            · subst w; exact ⟨p, hp, p0, pu, pk_us⟩
            · rw [pk_un w]; exact C j (by omega) ej
        · refine nm_r (nI_1 k) (ih (k + 1) inn cell (by omega) (by omega) ?_ ?_)
          · rw [rd_rkS, z, Nat.add_zero]; exact I
          · intro j hj ej
            by_cases w : j = k
            · rw [w, z] at ej; omega
            · exact C j (by omega) ej
  exact ⟨300, L 300 0 ya_in ya_cell (by omega) (by omega) (fun q hq => ⟨fun x => ⟨x, Nat.zero_le _⟩, fun x => x.1⟩) (fun j hj => absurd hj (by omega))⟩
theorem yr_after {post : Int32 → Prop} {k j : Nat} (hn : n ≤ 256) (hw : ∀ i, i < n → ty i = 41 → 0 < rd_hh ty i) (A : rd_Af ty k j) (hj : j ≤ n) (H : post (nI j)) : wpY_after post (yf_cap, yf_limit, yf_regs, nI len, yf_fault, yf_written, yf_top, nI n, ya_reg, ya_heads, ya_tails, tx, ya_in, ya_image, ya_out, ya_label, ya_spell, ya_what, ya_which, ty, nu, ya_cell) (nI k) := by
  obtain ⟨a1, a2, a3, a4⟩ := A
  have KB := rd_hhB (ty := ty) k
  have L : ∀ f i, 300 ≤ f + i → k ≤ i → i < j → wY_after_4 post yf_cap yf_limit yf_regs (nI len) yf_fault yf_written yf_top (nI n) ya_reg ya_heads ya_tails tx ya_in ya_image ya_out ya_label ya_spell ya_what ya_which ty nu ya_cell f (nI (rd_hh ty i) - nI (rd_hh ty k)) (nI i) := by
    intro f
    induction f with
    | zero => intro i a b; omega
    | succ f ih =>
      intro i a b c
      have IB := rd_hhB (ty := ty) (i + 1)
      have ci : (nI i).toNatClampNeg = i := nI_clamp (by omega)
      have iv : vp_in (nI i) 260 := vp_in_nI (by omega) (by decide)
      have K40 : wY_after_40 post (wY_after_4 post yf_cap yf_limit yf_regs (nI len) yf_fault yf_written yf_top (nI n) ya_reg ya_heads ya_tails tx ya_in ya_image ya_out ya_label ya_spell ya_what ya_which ty nu ya_cell f) (nI (rd_hh ty (i + 1)) - nI (rd_hh ty k)) (nI i) yf_cap yf_limit yf_regs (nI len) yf_fault yf_written yf_top (nI n) ya_reg ya_heads ya_tails tx ya_in ya_image ya_out ya_label ya_spell ya_what ya_which ty nu ya_cell := by
        unfold wY_after_40
        rw [ci]
        by_cases e : i + 1 = j
        · refine br_t ((rd_x0 (by omega) (by omega)).mpr (by rw [e]; exact a3)) ⟨iv, br_f ?_ ?_⟩
          · rw [show i = j - 1 from by omega]; exact a4
          · rw [nI_1, e]; exact H
        · have J := ih (i + 1) (by omega) (by omega) (by omega)
          have nn := a2 i b (by omega)
          by_cases z : rd_hh ty (i + 1) = rd_hh ty k
          · refine br_t ((rd_x0 (by omega) (by omega)).mpr z) ⟨iv, br_t ?_ (nm_r (nI_1 i) J)⟩
            apply Classical.byContradiction
            intro w
            exact nn ⟨z, w⟩
          · exact br_f (fun w => z ((rd_x0 (by omega) (by omega)).mp w)) (nm_r (nI_1 i) J)
      refine br_f (nI_ge (by omega) (by omega)) ⟨iv, ?_⟩
      rw [ci]
      by_cases c0 : ty i = 40
      · have n1 : ¬ ty i = 41 := by rw [c0]; decide
        refine br_t c0 (nm_r (e' := nI (rd_hh ty (i + 1)) - nI (rd_hh ty k)) (by rw [rd_hhO c0, rd_x2]) ?_)
        unfold wY_after_26
        rw [ci]
        exact ⟨iv, br_f n1 K40⟩
      · refine br_f c0 ?_
        unfold wY_after_26
        rw [ci]
        refine ⟨iv, ?_⟩
        by_cases c1 : ty i = 41
        · have h0 := hw i (by omega) c1
          refine br_t c1 (nm_r (e' := nI (rd_hh ty (i + 1)) - nI (rd_hh ty k)) ?_ K40)
          have e := rd_x1 (rd_hh ty i - 1) (nI (rd_hh ty k))
          rw [Nat.sub_add_cancel h0] at e
          rw [rd_hhC c1]
          exact e
        · rw [rd_hhN c0 c1] at K40
          exact br_f c1 K40
  unfold wpY_after
  have := L 300 k (by omega) (Nat.le_refl _) a1
  rw [Int32.sub_self] at this
  exact ⟨300, this⟩
end
end DLMN
end
section
section DLHP
section
variable {f_cap f_limit f_regs f_textLen f_fault f_found f_outLen f_nextLabel f_frames f_nextValue f_scanType f_scanValue f_tokens f_place f_depth f_elems : Int32} {a_reg a_carOf a_cdrOf a_text a_seen a_queue a_edgeCount a_image a_origin a_out a_labelOf a_frame a_frameTail a_digits a_tokType a_tokValue a_openFirst a_openTok a_lastElem a_inTail a_elemTok a_elemNext a_elemTail a_slot a_labelTok : Nat → Int32}
variable {yf_cap yf_limit yf_regs yf_length yf_fault yf_written yf_top yf_tokens : Int32} {ya_reg ya_heads ya_tails ya_text ya_in ya_image ya_out ya_label ya_spell ya_what ya_which ya_type ya_num ya_cell : Nat → Int32}
variable {ty nu T V OF OT LE IT ET EN EL LT tx slot cell : Nat → Int32} {n D el len r cap : Nat} {pl xt xv w z : Int32}
theorem xr_b47 {post : SX → Prop} {E e k p f : Nat} (he : e < E) (hE : E ≤ 256) (het : ET e = nI k) (hs : slot e = nI p) (hp : p < 48)
    (W : ∀ post' : Int32 → Prop, post' w → wpX_meaning post' (f_cap, f_limit, f_regs, nI len, f_fault, f_found, f_outLen, f_nextLabel, f_frames, f_nextValue, xt, xv, nI n, pl, nI D, nI el, a_reg, a_carOf, a_cdrOf, tx, a_seen, a_queue, a_edgeCount, a_image, a_origin, a_out, a_labelOf, a_frame, a_frameTail, a_digits, T, V, OF, OT, LE, IT, ET, EN, EL, slot, LT) (nI k))
    (hz : (∃ b p2, b < 256 ∧ EN e = nI b ∧ slot b = nI p2 ∧ z = dl_pv p2) ∨ (EN e = -1 ∧ ∃ j, j < 2 ^ 31 ∧ EL e = nI j ∧ (∀ post' : Int32 → Prop, post' z → wpX_meaning post' (f_cap, f_limit, f_regs, nI len, f_fault, f_found, f_outLen, f_nextLabel, f_frames, f_nextValue, xt, xv, nI n, pl, nI D, nI el, a_reg, upd a_carOf p w, a_cdrOf, tx, a_seen, a_queue, a_edgeCount, a_image, a_origin, a_out, a_labelOf, a_frame, a_frameTail, a_digits, T, V, OF, OT, LE, IT, ET, EN, EL, slot, LT) (nI j))) ∨ (EN e = -1 ∧ EL e = -1 ∧ z = 0))
    (H : wX_build_47 post (nI E) f_cap f_limit f_regs (nI len) f_fault f_found f_outLen f_nextLabel f_frames f_nextValue xt xv (nI n) pl (nI D) (nI el) f (nI (e + 1)) a_reg (upd a_carOf p w) (upd a_cdrOf p z) tx a_seen a_queue a_edgeCount a_image a_origin a_out a_labelOf a_frame a_frameTail a_digits T V OF OT LE IT ET EN EL slot LT) : wX_build_47 post (nI E) f_cap f_limit f_regs (nI len) f_fault f_found f_outLen f_nextLabel f_frames f_nextValue xt xv (nI n) pl (nI D) (nI el) (f + 1) (nI e) a_reg a_carOf a_cdrOf tx a_seen a_queue a_edgeCount a_image a_origin a_out a_labelOf a_frame a_frameTail a_digits T V OF OT LE IT ET EN EL slot LT := by
  have iv : vp_in (nI e) 256 := vp_in_nI (by omega) (by decide)
  have ip : vp_in (nI p) 48 := vp_in_nI hp (by decide)
  have ce : (nI e).toNatClampNeg = e := nI_clamp (by omega)
  have cp : (nI p).toNatClampNeg = p := nI_clamp (by omega)
  refine br_f (nI_ge he (by omega)) ⟨iv, nm_r (e' := nI p) (by rw [ce]; exact hs) ⟨iv, ?_⟩⟩
  rw [ce, het]
  refine W _ ?_
  refine And.intro ip (nm_r (e' := upd a_carOf p w) (by rw [cp]) ⟨iv, ?_⟩)
  rcases hz with ⟨b, p2, b1, b2, b3, rfl⟩ | ⟨b1, j, b2, b3, b4⟩ | ⟨b1, b2, rfl⟩
  · rw [b2, nI_clamp (n := b) (by omega), b3, dl_pvM]
    exact br_f (nI_pos (by omega)) ⟨iv, vp_in_nI b1 (by decide), ip, nm_r (e' := upd a_cdrOf p (dl_pv p2)) (by rw [cp]) (nm_r (nI_1 e) H)⟩
  · rw [b1, b3]
    refine br_t (by decide) ⟨iv, br_f (nI_pos b2) ⟨iv, b4 _ ?_⟩⟩
    exact And.intro ip (nm_r (e' := upd a_cdrOf p z) (by rw [cp]) (nm_r (nI_1 e) H))
  · rw [b1, b2]
    exact br_t (by decide) ⟨iv, br_t (by decide) ⟨ip, nm_r (e' := upd a_cdrOf p 0) (by rw [cp]) (nm_r (nI_1 e) H)⟩⟩
theorem yr_402n {post : Int32 → SY → Prop} {k f : Nat} (hn : n ≤ 256) (hk : k < n) (e : rd_eN ty k = 0) (H : wY_read_402 post (nI r) yf_cap yf_limit yf_regs (nI len) yf_fault yf_written yf_top (nI n) f (nI (k + 1)) ya_reg ya_heads ya_tails tx ya_in ya_image ya_out ya_label ya_spell ya_what ya_which ty nu cell) : wY_read_402 post (nI r) yf_cap yf_limit yf_regs (nI len) yf_fault yf_written yf_top (nI n) (f + 1) (nI k) ya_reg ya_heads ya_tails tx ya_in ya_image ya_out ya_label ya_spell ya_what ya_which ty nu cell :=
  br_f (nI_ge (by omega) (by omega)) (yr_elem (by omega) (fun z => by omega) (fun _ => br_t rfl (nm_r (nI_1 k) H)))
theorem yr_402 {post : Int32 → SY → Prop} {k j p f : Nat} (hn : n ≤ 256) (hk : k < n) (e : rd_eN ty k = 1) (A : rd_Af ty k j) (hj : j < n) (hw : ∀ i, i < n → ty i = 41 → 0 < rd_hh ty i) (hc : cell k = nI p) (hp : p < 48)
    (W : ∀ post' : Int32 → Prop, post' w → wpY_meaning post' (yf_cap, yf_limit, yf_regs, nI len, yf_fault, yf_written, yf_top, nI n, ya_reg, ya_heads, ya_tails, tx, ya_in, ya_image, ya_out, ya_label, ya_spell, ya_what, ya_which, ty, nu, cell) (nI k))
    (hz : (ty j = 41 ∧ z = 0) ∨ (ty j = 46 ∧ ∀ post' : Int32 → Prop, post' z → wpY_meaning post' (yf_cap, yf_limit, yf_regs, nI len, yf_fault, yf_written, yf_top, nI n, ya_reg, upd ya_heads p w, ya_tails, tx, ya_in, ya_image, ya_out, ya_label, ya_spell, ya_what, ya_which, ty, nu, cell) (nI (j + 1))) ∨ (¬ ty j = 41 ∧ ¬ ty j = 46 ∧ ∃ p2, cell j = nI p2 ∧ z = dl_pv p2))
    (H : wY_read_402 post (nI r) yf_cap yf_limit yf_regs (nI len) yf_fault yf_written yf_top (nI n) f (nI (k + 1)) ya_reg (upd ya_heads p w) (upd ya_tails p z) tx ya_in ya_image ya_out ya_label ya_spell ya_what ya_which ty nu cell) : wY_read_402 post (nI r) yf_cap yf_limit yf_regs (nI len) yf_fault yf_written yf_top (nI n) (f + 1) (nI k) ya_reg ya_heads ya_tails tx ya_in ya_image ya_out ya_label ya_spell ya_what ya_which ty nu cell := by
  have ik : vp_in (nI k) 260 := vp_in_nI (by omega) (by decide)
  have ij : vp_in (nI j) 260 := vp_in_nI (by omega) (by decide)
  have ip : vp_in (nI p) 48 := vp_in_nI hp (by decide)
  have ck : (nI k).toNatClampNeg = k := nI_clamp (by omega)
  have cj : (nI j).toNatClampNeg = j := nI_clamp (by omega)
  have cp : (nI p).toNatClampNeg = p := nI_clamp (by omega)
  refine br_f (nI_ge (by omega) (by omega)) (yr_elem (by omega) (fun _ => br_f dl_10 ?_) (fun z => by omega))
  refine yr_after hn hw A (by omega) ?_
  rw [ck, cj, hc, cp, nI_1 j]
  refine And.intro ik (W _ ?_)
  refine And.intro ip (nm_e ⟨ij, ?_⟩)
  rcases hz with ⟨b1, rfl⟩ | ⟨b1, b2⟩ | ⟨b1, b2, p2, b3, rfl⟩
  · exact br_t b1 ⟨ik, ip, nm_e (nm_r (nI_1 k) H)⟩
  · refine br_f (by rw [b1]; decide) ⟨ij, br_t b1 ⟨ik, b2 _ ?_⟩⟩
    exact And.intro ip (nm_e (nm_r (nI_1 k) H))
  · rw [b3, dl_pvM]
    exact br_f b1 ⟨ij, br_f b2 ⟨ik, ij, ip, nm_e (nm_r (nI_1 k) H)⟩⟩
theorem rd_heap (P : rd_PI ty nu T V OF OT LE IT ET EN EL LT n D 120) (St : rd_St ty n) (G : rd_GF ty nu V LT n) (hn : n ≤ 256) (SX1 : rd_SX ty slot n cap) (hcap : cap ≤ 48) :
    ∀ i k car cdr, i + k = n → (∀ x, dl_V cap (car x)) → (∀ x, dl_V cap (cdr x)) → ∃ car' cdr', (∀ x, dl_V cap (car' x)) ∧ (∀ x, dl_V cap (cdr' x)) ∧
      (∀ post : SX → Prop, (∃ f, wX_build_47 post (nI (rd_rk ty n)) f_cap f_limit f_regs (nI len) f_fault f_found f_outLen f_nextLabel f_frames f_nextValue xt xv (nI n) 120 (nI D) (nI (rd_rk ty n)) f (nI (rd_rk ty n)) a_reg car' cdr' tx a_seen a_queue a_edgeCount a_image a_origin a_out a_labelOf a_frame a_frameTail a_digits T V OF OT LE IT ET EN EL slot LT) → ∃ f, wX_build_47 post (nI (rd_rk ty n)) f_cap f_limit f_regs (nI len) f_fault f_found f_outLen f_nextLabel f_frames f_nextValue xt xv (nI n) 120 (nI D) (nI (rd_rk ty n)) f (nI (rd_rk ty k)) a_reg car cdr tx a_seen a_queue a_edgeCount a_image a_origin a_out a_labelOf a_frame a_frameTail a_digits T V OF OT LE IT ET EN EL slot LT) ∧
      (∀ cell inn, rd_SC ty slot cell n → ∀ post : Int32 → SY → Prop, (∃ f, wY_read_402 post (nI r) yf_cap yf_limit yf_regs (nI len) yf_fault yf_written yf_top (nI n) f (nI n) ya_reg car' cdr' tx inn ya_image ya_out ya_label ya_spell ya_what ya_which ty nu cell) → ∃ f, wY_read_402 post (nI r) yf_cap yf_limit yf_regs (nI len) yf_fault yf_written yf_top (nI n) f (nI k) ya_reg car cdr tx inn ya_image ya_out ya_label ya_spell ya_what ya_which ty nu cell) := by
  have OFh := rd_ofh P
  have D0 := (rd_pl120 P.2.2.2.2.2.2.2.2).2.2.2.2
  obtain ⟨p1, p2, p3, p4, p5, p6, p7, p8, p9⟩ := P
  have RB := rd_rkB ty n
  intro i
  induction i with
  | zero =>
    intro k car cdr hk hc hd
    have e : k = n := by omega
    subst e
    exact ⟨car, cdr, hc, hd, fun post h => h, fun cell inn SC post h => h⟩
  | succ i ih =>
    intro k car cdr hk hc hd
    rcases rd_e01 ty k with e | e
    · obtain ⟨car', cdr', h1, h2, h3, h4⟩ := ih (k + 1) car cdr (by omega) hc hd
      refine ⟨car', cdr', h1, h2, fun post h => ?_, fun cell inn SC post h => ?_⟩
      · have := h3 post h
        rw [rd_rkS, e, Nat.add_zero] at this
        exact this
      · obtain ⟨f, hf⟩ := h4 cell inn SC post h
        exact ⟨f + 1, yr_402n hn (by omega) e hf⟩
    · have kn : k < n := by omega
      have lt := rd_rkL e kn
      obtain ⟨_, e41, e46, _, _⟩ := rd_e1.mp e
      obtain ⟨p, hp, sp⟩ := SX1 k kn e
      obtain ⟨w, Vw, WX, WY⟩ := rd_mean (T := T) (V := V) (OF := OF) (OT := OT) (LE := LE) (IT := IT) (ET := ET) (EN := EN) (EL := EL) (LT := LT) (tx := tx) (slot := slot) (D := D) (el := rd_rk ty n) (len := len) (t := k) (pl := 120) (xt := xt) (xv := xv) p1 p4 G hn St OFh SX1 hcap (by omega) (fun _ => ⟨e41, e46⟩)
      have fi : rd_Fi ty n EN EL k := by
        rcases p7 k kn e with f | ⟨d, hd, _⟩
        · exact f
        · omega
      rcases fi with ⟨j, j1, j2, j3, j4⟩ | ⟨j0, j, j1, j2, j3, j4⟩ | ⟨j0, j4, j, j1, j2, j3⟩
      · obtain ⟨_, f41, f46, _, _⟩ := rd_e1.mp j3
        obtain ⟨q, hq, sq⟩ := SX1 j j1 j3
        have RJ := rd_rkB ty j
        obtain ⟨car', cdr', h1, h2, h3, h4⟩ := ih (k + 1) (upd car p w) (upd cdr p (dl_pv q)) (by omega) (dl_Vu hc Vw) (dl_Vu hd (dl_Vp hq hcap))
        refine ⟨car', cdr', h1, h2, fun post h => ?_, fun cell inn SC post h => ?_⟩
        · obtain ⟨f, hf⟩ := h3 post h
          rw [rd_rkS, e] at hf
          exact ⟨f + 1, xr_b47 lt (by omega) (p5 k kn e) sp (by omega) (fun post' h' => WX post' h') (Or.inl ⟨rd_rk ty j, q, by omega, j4, sq, rfl⟩) hf⟩
        · obtain ⟨f, hf⟩ := h4 cell inn SC post h
          exact ⟨f + 1, yr_402 hn kn e j2 j1 p2 (by rw [SC k kn e]; exact sp) (by omega) (fun post' h' => WY cell SC post' h') (Or.inr (Or.inr ⟨f41, f46, q, by rw [SC j j1 j3]; exact sq, rfl⟩)) hf⟩
      · obtain ⟨z, Vz, ZX, ZY⟩ := rd_mean (T := T) (V := V) (OF := OF) (OT := OT) (LE := LE) (IT := IT) (ET := ET) (EN := EN) (EL := EL) (LT := LT) (tx := tx) (slot := slot) (D := D) (el := rd_rk ty n) (len := len) (t := j + 1) (pl := 120) (xt := xt) (xv := xv) p1 p4 G hn St OFh SX1 hcap (by omega) (fun hj => St (j + 1) hj (Or.inr (Or.inr j3)))
        obtain ⟨car', cdr', h1, h2, h3, h4⟩ := ih (k + 1) (upd car p w) (upd cdr p z) (by omega) (dl_Vu hc Vw) (dl_Vu hd Vz)
        refine ⟨car', cdr', h1, h2, fun post h => ?_, fun cell inn SC post h => ?_⟩
        · obtain ⟨f, hf⟩ := h3 post h
          rw [rd_rkS, e] at hf
          exact ⟨f + 1, xr_b47 lt (by omega) (p5 k kn e) sp (by omega) (fun post' h' => WX post' h') (Or.inr (Or.inl ⟨j0, j + 1, by omega, j4, fun post' h' => ZX post' h'⟩)) hf⟩
        · obtain ⟨f, hf⟩ := h4 cell inn SC post h
          exact ⟨f + 1, yr_402 hn kn e j2 j1 p2 (by rw [SC k kn e]; exact sp) (by omega) (fun post' h' => WY cell SC post' h') (Or.inr (Or.inl ⟨j3, fun post' h' => ZY cell SC post' h'⟩)) hf⟩
      · obtain ⟨car', cdr', h1, h2, h3, h4⟩ := ih (k + 1) (upd car p w) (upd cdr p 0) (by omega) (dl_Vu hc Vw) (dl_Vu hd (dl_V0 cap))
        refine ⟨car', cdr', h1, h2, fun post h => ?_, fun cell inn SC post h => ?_⟩
        · obtain ⟨f, hf⟩ := h3 post h
          rw [rd_rkS, e] at hf
          exact ⟨f + 1, xr_b47 lt (by omega) (p5 k kn e) sp (by omega) (fun post' h' => WX post' h') (Or.inr (Or.inr ⟨j0, j4, rfl⟩)) hf⟩
        · obtain ⟨f, hf⟩ := h4 cell inn SC post h
          exact ⟨f + 1, yr_402 hn kn e j2 j1 p2 (by rw [SC k kn e]; exact sp) (by omega) (fun post' h' => WY cell SC post' h') (Or.inl ⟨j3, rfl⟩) hf⟩
theorem xr_parse0 {post : Int32 → SX → Prop} (H : ∃ m, wX_parse_46 post m (nI 0) (nI 0) f_cap f_limit f_regs f_textLen f_fault f_found f_outLen f_nextLabel f_frames f_nextValue f_scanType f_scanValue (nI 0) 115 (nI 0) (nI 0) a_reg a_carOf a_cdrOf a_text a_seen a_queue a_edgeCount a_image a_origin a_out a_labelOf a_frame a_frameTail a_digits a_tokType a_tokValue a_openFirst a_openTok a_lastElem a_inTail a_elemTok a_elemNext a_elemTail a_slot (dl_fill a_labelTok (-1) 100)) : wpX_parse post (f_cap, f_limit, f_regs, f_textLen, f_fault, f_found, f_outLen, f_nextLabel, f_frames, f_nextValue, f_scanType, f_scanValue, f_tokens, f_place, f_depth, f_elems, a_reg, a_carOf, a_cdrOf, a_text, a_seen, a_queue, a_edgeCount, a_image, a_origin, a_out, a_labelOf, a_frame, a_frameTail, a_digits, a_tokType, a_tokValue, a_openFirst, a_openTok, a_lastElem, a_inTail, a_elemTok, a_elemNext, a_elemTail, a_slot, a_labelTok) := by
  have L : ∀ n i, 101 ≤ n + i → i ≤ 100 → wX_parse_23 post f_cap f_limit f_regs f_textLen f_fault f_found f_outLen f_nextLabel f_frames f_nextValue f_scanType f_scanValue (nI 0) 115 (nI 0) (nI 0) n (nI i) a_reg a_carOf a_cdrOf a_text a_seen a_queue a_edgeCount a_image a_origin a_out a_labelOf a_frame a_frameTail a_digits a_tokType a_tokValue a_openFirst a_openTok a_lastElem a_inTail a_elemTok a_elemNext a_elemTail a_slot (dl_fill a_labelTok (-1) i) := by
    intro n
    induction n with
    | zero => intro i h1 h2; omega
    | succ n ih =>
      intro i h1 h2
      by_cases e : i = 100
      · subst e
        exact br_t (nI_le (a := 100) (by omega) (by omega)) H
      · refine br_f (nI_ge (b := 100) (by omega) (by decide)) ⟨vp_in_nI (by omega) (by decide), nm_r (e' := dl_fill a_labelTok (-1) (i + 1)) ?_ (nm_r (nI_1 i) (ih (i + 1) (by omega) (by omega)))⟩
        rw [nI_clamp (by omega), dl_fillS]
  have := L 101 0 (by omega) (by omega)
  rw [dl_fill0] at this
  unfold wpX_parse
  exact ⟨101, this⟩
end
end DLHP
end
section
section DLRD
theorem i_vc_read {k : Nat} {u : SX} {v : SY} (I : i_Rel k u v) (hk : k + 4 ≤ 2051) (v1 : Int32) : wpX_read (fun r u' => wpY_read (fun r' v' => r' = r ∧ i_Rel (k + 4) u' v') v v1) u v1 := by
  refine zz_el (P := fun u v => wpX_read (fun r u' => wpY_read (fun r' v' => r' = r ∧ i_Rel (k + 4) u' v') v v1) u v1) ?_ I
  clear I
  intro cap limit regs len f_fault f_found f_outLen f_nextLabel f_frames f_nextValue f_scanType f_scanValue f_tokens f_place f_depth f_elems a_reg a_carOf a_cdrOf a_text a_seen a_queue a_edgeCount a_image a_origin a_out a_labelOf a_frame a_frameTail a_digits a_tokType a_tokValue a_openFirst a_openTok a_lastElem a_inTail a_elemTok a_elemNext a_elemTail a_slot a_labelTok yf_written yf_top yf_tokens ya_in ya_image ya_what ya_which ya_type ya_num ya_cell g
  try dsimp only
  obtain ⟨V1, V2, V3⟩ := dl_gV g
  obtain ⟨g1, g2, g3, g4, g5, g6, g7, _⟩ := id g
  have gR : regs < 2 ^ 31 := by omega
  by_cases hb : dl_bad regs v1
  · exact xw_readB gR hb (yw_readB gR hb ⟨rfl, zz_in g⟩)
  · obtain ⟨i, hi, rfl⟩ := dl_good gR hb
    have i8 : i < 8 := by omega
    have ii : vp_in (nI i) 8 := vp_in_nI i8 (by decide)
    have ci : (nI i).toNatClampNeg = i := nI_clamp (by omega)
    have O := rd_loop (f_cap := nI cap) (f_limit := nI limit) (f_regs := nI regs) (f_fault := f_fault) (f_found := f_found) (f_outLen := f_outLen) (f_nextLabel := f_nextLabel) (f_frames := f_frames) (f_nextValue := f_nextValue) (a_reg := a_reg) (a_carOf := a_carOf) (a_cdrOf := a_cdrOf) (a_seen := a_seen) (a_queue := a_queue) (a_edgeCount := a_edgeCount) (a_image := a_image) (a_origin := a_origin) (a_out := a_out) (a_labelOf := a_labelOf) (a_frame := a_frame) (a_frameTail := a_frameTail) (a_digits := a_digits) (a_slot := a_slot) (yf_cap := nI cap) (yf_limit := nI limit) (yf_regs := nI regs) (yf_fault := f_fault) (yf_written := yf_written) (yf_top := yf_top) (ya_reg := a_reg) (ya_heads := a_carOf) (ya_tails := a_cdrOf) (ya_in := ya_in) (ya_image := ya_image) (ya_out := a_out) (ya_label := a_labelOf) (ya_spell := a_digits) (ya_what := ya_what) (ya_which := ya_which) (ya_cell := ya_cell) (r := i) (len := len) (tx := a_text) (by omega) 256 0 0 0 0 115 f_scanType f_scanValue a_tokType a_tokValue a_openFirst a_openTok a_lastElem a_inTail a_elemTok a_elemNext a_elemTail (dl_fill a_labelTok (-1) 100) ya_type ya_num (by omega) (by omega) (by omega) (rd_PI0 (fun q hq => dl_fillI hq)) (fun i hi => absurd hi (by omega))
    have YP : ∀ post : Int32 → SY → Prop, wY_read_19 post (nI i) (256 + 1) (nI 0) (nI 0) (nI cap) (nI limit) (nI regs) (nI len) f_fault yf_written yf_top (nI 0) a_reg a_carOf a_cdrOf a_text ya_in ya_image a_out a_labelOf a_digits ya_what ya_which ya_type ya_num ya_cell → wpY_read post (nI cap, nI limit, nI regs, nI len, f_fault, yf_written, yf_top, yf_tokens, a_reg, a_carOf, a_cdrOf, a_text, ya_in, ya_image, a_out, a_labelOf, a_digits, ya_what, ya_which, ya_type, ya_num, ya_cell) (nI i) := by
      intro post h
      unfold wpY_read
      exact yw_badF hi gR (br_t rfl ⟨257, h⟩)
    unfold wpX_read
    refine xw_badF hi gR (br_t rfl ?_)
    rcases O with ⟨ans, fl, xt', xv', pl', n', D', el', T', V', OF', OT', LE', IT', ET', EN', EL', LT', ty', nu', h0, hX, hY⟩ | ⟨xt', xv', n', D', T', V', OF', OT', LE', IT', ET', EN', EL', LT', ty', nu', P, St, hn, hX, hY⟩
    · refine xr_parse0 ⟨257, hX _ ?_⟩
      refine br_f h0 ?_
      exact YP _ (hY _ ⟨rfl, zz_in g⟩)
    · obtain ⟨p1, p2, p3, p4, p5, p6, p7, p8, p9⟩ := id P
      clear p6 p7 p8
      have RB := rd_rkB ty' n'
      refine xr_parse0 ⟨257, hX _ (br_t rfl ?_)⟩
      refine xr_undef p1 p4 hn (fun U => br_f dl_10 ?_) (fun U => br_t rfl ?_)
      · exact YP _ (hY _ (yr_undef p1 p4 hn (fun _ => ⟨rfl, zz_in g⟩) (fun nU => absurd U nU)))
      · have G := rd_gf p1 p4 U
        refine xr_circ p1 p4 G hn (fun C => br_f dl_10 ?_) (fun C => br_t rfl ?_)
        · exact YP _ (hY _ (yr_undef p1 p4 hn (fun nU => absurd nU U) (fun _ => yr_circ p4 G hn (fun _ => ⟨rfl, zz_in g⟩) (fun nC => absurd C nC))))
        · refine xw_walkA g6 V1 V2 V3 (fun seen queue m F => ?_)
          have F' := dl_xfR F (dl_rl g6 g5)
          have m48 := dl_xi48 F.1
          have YL : ∀ post : Int32 → SY → Prop, (∀ inn, dl_YF a_carOf a_cdrOf (fun p => ∃ r, r < 8 ∧ 0 ≤ r ∧ r ≤ regs - 1 ∧ a_reg r = dl_pv p) inn → ∃ f, wY_read_323 post (nI i) (nI cap) (nI limit) (nI regs) (nI len) (-1) yf_written yf_top (nI n') a_reg a_carOf a_cdrOf a_text inn ya_image a_out a_labelOf a_digits ya_what ya_which ty' nu' ya_cell f (nI (dl_ct inn)) 0) → wpY_read post (nI cap, nI limit, nI regs, nI len, f_fault, yf_written, yf_top, yf_tokens, a_reg, a_carOf, a_cdrOf, a_text, ya_in, ya_image, a_out, a_labelOf, a_digits, ya_what, ya_which, ya_type, ya_num, ya_cell) (nI i) := by
            intro post h
            refine YP _ (hY _ (yr_undef p1 p4 hn (fun nU => absurd nU U) (fun _ => yr_circ p4 G hn (fun nC => absurd nC C) (fun _ => ?_))))
            unfold wpY_live
            dsimp only
            rw [dl_s1 (n := regs) (by omega)]
            exact yw_graph (a := 0) (b := regs - 1) (by omega) (by omega) V1 V2 V3 (fun inn Fy => h inn Fy)
          try dsimp only
          rw [nI_add]
          by_cases z : m + rd_rk ty' n' ≤ cap
          · refine br_t (nI_le z (by omega)) ?_
            have hEx : rd_rk ty' n' ≤ rd_ur seen cap := rd_urN g2 (by rw [← dl_xiM F.1]; exact z)
            refine xr_build hEx (by omega) g2 (fun slot SL => ?_)
            have SX1 : rd_SX ty' slot n' cap := by
              intro k hk e
              obtain ⟨q, q1, q2, q3, q4⟩ := SL (rd_rk ty' k) (rd_rkL e hk)
              exact ⟨q, q1, q4⟩
            obtain ⟨car', cdr', hc', hd', hXh, hYh⟩ := rd_heap (f_cap := nI cap) (f_limit := nI limit) (f_regs := nI regs) (f_fault := (-1)) (f_found := nI m) (f_outLen := f_outLen) (f_nextLabel := f_nextLabel) (f_frames := f_frames) (f_nextValue := f_nextValue) (a_reg := a_reg) (a_seen := seen) (a_queue := queue) (a_edgeCount := a_edgeCount) (a_image := a_image) (a_origin := a_origin) (a_out := a_out) (a_labelOf := a_labelOf) (a_frame := a_frame) (a_frameTail := a_frameTail) (a_digits := a_digits) (yf_cap := nI cap) (yf_limit := nI limit) (yf_regs := nI regs) (yf_fault := (-1)) (yf_written := yf_written) (yf_top := yf_top) (ya_reg := a_reg) (ya_image := ya_image) (ya_out := a_out) (ya_label := a_labelOf) (ya_spell := a_digits) (ya_what := ya_what) (ya_which := ya_which) (ty := ty') (nu := nu') (T := T') (V := V') (OF := OF') (OT := OT') (LE := LE') (IT := IT') (ET := ET') (EN := EN') (EL := EL') (LT := LT') (n := n') (D := D') (tx := a_text) (slot := slot) (len := len) (r := i) (cap := cap) (xt := xt') (xv := xv') P St G hn SX1 g2 n' 0 a_carOf a_cdrOf (by omega) g.2.2.2.2.2.2.2.2.1 g.2.2.2.2.2.2.2.2.2
            obtain ⟨w, Vw, WX, WY⟩ := rd_mean (ty := ty') (nu := nu') (T := T') (V := V') (OF := OF') (OT := OT') (LE := LE') (IT := IT') (ET := ET') (EN := EN') (EL := EL') (LT := LT') (n := n') (D := D') (tx := a_text) (slot := slot) (el := rd_rk ty' n') (len := len) (t := 0) (pl := 120) (xt := xt') (xv := xv') (cap := cap) p1 p4 G hn St (rd_ofh P) SX1 g2 (by omega) (fun h => St 0 h (Or.inl rfl))
            refine hXh _ ⟨1, br_t (nI_le (by omega) (by omega)) ?_⟩
            refine WX _ ?_
            refine And.intro ii (nm_r (e' := upd a_reg i w) (by rw [ci]) ?_)
            refine YL _ (fun inn Fy => ?_)
            have sm := dl_same F' Fy
            have ct := dl_sameC F' Fy
            refine yr_323 hn (dl_ct48 inn) g2 (fun nz => absurd (by omega) nz) (fun _ => ?_)
            refine yr_364 hn g2 (by rw [← rd_urC sm g2]; exact hEx) (fun inn' cell CL => ?_)
            have SC : rd_SC ty' slot cell n' := by
              intro k hk e
              obtain ⟨q, q1, q2, q3, q4⟩ := SL (rd_rk ty' k) (rd_rkL e hk)
              obtain ⟨q', r1, r2, r3, r4⟩ := CL k hk e
              have e1 : q' = q := rd_urI r2 ((sm q (by omega)).mp q2) (by rw [r3, ← rd_urC sm (p := q) (by omega), q3])
              rw [r4, q4, e1]
            refine hYh cell inn' SC _ ⟨1, br_t (nI_le (by omega) (by omega)) ?_⟩
            refine WY cell SC _ ?_
            refine And.intro ii (nm_r (e' := upd a_reg i w) (by rw [ci]) ⟨rfl, zz_in ?_⟩)
            exact ⟨g1, g2, g3, g4, g5, g6, g7, dl_Vu g.2.2.2.2.2.2.2.1 Vw, hc', hd'⟩
          · refine br_f (nI_ge (by omega) (by omega)) ?_
            refine YL _ (fun inn Fy => ?_)
            have ct := dl_sameC F' Fy
            exact yr_323 hn (dl_ct48 inn) g2 (fun _ => ⟨rfl, zz_in g⟩) (fun nz => absurd (by omega) z)
end DLRD
end
