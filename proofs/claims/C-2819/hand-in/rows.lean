section
/-! pure rows to paste: stores, nI and lN arithmetic, masks, shifts, narrowing, branches by naturals (pk_le, pk_lt, pk_eq), loops (lp1 .. lp16: the measure of the state; rp1 ..: recursion), negatives. Take what you need -/
theorem pk_us {f : Nat → Int32} {k : Nat} {x : Int32} : upd f k x k = x := if_pos rfl
theorem pk_un {f : Nat → Int32} {k j : Nat} {x : Int32} (h : j ≠ k) : upd f k x j = f j := if_neg h
theorem pk_uLs {f : Nat → Int64} {k : Nat} {x : Int64} : vp_updL f k x k = x := if_pos rfl
theorem pk_uLn {f : Nat → Int64} {k j : Nat} {x : Int64} (h : j ≠ k) : vp_updL f k x j = f j := if_neg h
theorem pk_sub {a b : Nat} (h : b ≤ a) : nI a - nI b = nI (a - b) := by
  obtain ⟨c, rfl⟩ : ∃ c, a = c + b := ⟨a - b, by omega⟩
  rw [← nI_add, Int32.add_sub_cancel, Nat.add_sub_cancel]
theorem pk_m1 (n : Nat) : nI (n + 1) + (-1) = nI n := by
  rw [← nI_1, Int32.add_assoc, show (1 : Int32) + (-1) = 0 from rfl, Int32.add_zero]
theorem pk_mul (a b : Nat) : nI a * nI b = nI (a * b) := (Int32.ofNat_mul a b).symm
theorem pk_div {a d : Nat} (ha : a < 2 ^ 31) (h0 : 0 < d) (hd : d < 2 ^ 31) : nI a / nI d = nI (a / d) := by
  apply Int32.toInt_inj.mp
  rw [lg_idiv_nonneg (by rw [nI_toInt ha]; omega) (by rw [nI_toInt hd]; omega), nI_toInt ha, nI_toInt hd, nI_toInt (Nat.lt_of_le_of_lt (Nat.div_le_self a d) ha)]
  first | rfl | exact (Int.natCast_ediv _ _).symm
theorem pk_rem {a d : Nat} (ha : a < 2 ^ 31) (h0 : 0 < d) (hd : d < 2 ^ 31) : nI a - nI a / nI d * nI d = nI (a % d) := by
  rw [pk_div ha h0 hd, pk_mul, pk_sub (Nat.div_mul_le_self a d)]
  exact congrArg nI (by have := Nat.div_add_mod' a d; omega)
theorem pk_sub_toInt {a b : Nat} (ha : a < 2 ^ 30) (hb : b < 2 ^ 30) : (nI a - nI b).toInt = (a : Int) - b := by
  rw [Int32.toInt_sub, nI_toInt (by omega), nI_toInt (by omega)]
  exact Int.bmod_eq_of_le (by omega) (by omega)
theorem pk_sneg {a b : Nat} (hb : b < 2 ^ 30) (h : a < b) : nI a - nI b < 0 := by
  rw [Int32.lt_iff_toInt_lt, pk_sub_toInt (by omega) hb, show (0 : Int32).toInt = 0 from by decide]
  omega
theorem pk_ix (x : Int32) {n : Nat} (hn : n < 2 ^ 31) : x < 0 ∨ nI n ≤ x ∨ ∃ j : Nat, j < n ∧ x = nI j := by
  by_cases h : x < 0
  · exact Or.inl h
  · obtain ⟨j, hj, rfl⟩ := nI_of h
    by_cases h2 : j < n
    · exact Or.inr (Or.inr ⟨j, h2, rfl⟩)
    · exact Or.inr (Or.inl (nI_le (by omega) hj))
theorem pk_le {x y : Int32} {A B : Prop} (a b : Nat) (f : a ≤ b → A) (g : b < a → B) (hx : x = nI a := by rfl) (hy : y = nI b := by rfl) (ha : a < 2 ^ 31 := by omega) (hb : b < 2 ^ 31 := by omega) : (x ≤ y → A) ∧ (¬ x ≤ y → B) := by
  subst hx hy
  rw [nI_leI ha hb]
  exact ⟨f, fun z => g (by omega)⟩
theorem pk_lt {x y : Int32} {A B : Prop} (a b : Nat) (f : a < b → A) (g : b ≤ a → B) (hx : x = nI a := by rfl) (hy : y = nI b := by rfl) (ha : a < 2 ^ 31 := by omega) (hb : b < 2 ^ 31 := by omega) : (x < y → A) ∧ (¬ x < y → B) := by
  subst hx hy
  rw [nI_ltI ha hb]
  exact ⟨f, fun z => g (by omega)⟩
theorem pk_eq {x y : Int32} {A B : Prop} (a b : Nat) (f : a = b → A) (g : a ≠ b → B) (hx : x = nI a := by rfl) (hy : y = nI b := by rfl) (ha : a < 2 ^ 31 := by omega) (hb : b < 2 ^ 31 := by omega) : (x = y → A) ∧ (¬ x = y → B) := by
  subst hx hy
  rw [nI_eq ha hb]
  exact ⟨f, g⟩
theorem pk_in {x : Int32} (n N : Nat) (h : n < N) (hx : x = nI n := by rfl) (hN : N < 2 ^ 31 := by omega) : vp_in x N := by
  subst hx
  exact vp_in_nI h hN
theorem pk_cl {x : Int32} (n : Nat) (hx : x = nI n := by rfl) (h : n < 2 ^ 31 := by omega) : x.toNatClampNeg = n := by
  subst hx
  exact nI_clamp h
theorem pk_tn {n : Nat} (h : n < 2 ^ 32) : (nI n).toBitVec.toNat = n := Nat.mod_eq_of_lt h
theorem pk_and (x : Int32) {m : Int32} (k : Nat) (hm : m.toBitVec.toNat = 2 ^ k - 1) : x &&& m = nI (x.toBitVec.toNat % 2 ^ k) := by
  apply Int32.toBitVec_inj.mp
  apply BitVec.eq_of_toNat_eq
  rw [Int32.toBitVec_and, BitVec.toNat_and, hm, Nat.and_two_pow_sub_one_eq_mod]
  show _ = (BitVec.ofNat 32 _).toNat
  rw [BitVec.toNat_ofNat]
  exact (Nat.mod_eq_of_lt (Nat.lt_of_le_of_lt (Nat.mod_le _ _) x.toBitVec.isLt)).symm
theorem pk_andN {n : Nat} (h : n < 2 ^ 32) {m : Int32} (k : Nat) (hm : m.toBitVec.toNat = 2 ^ k - 1) : nI n &&& m = nI (n % 2 ^ k) := by
  rw [pk_and _ k hm, pk_tn h]
theorem pk_andE (x : Int32) {m : Int32} (k : Nat) (hm : m.toBitVec.toNat = 2 ^ k - 1) : ∃ j : Nat, j < 2 ^ k ∧ x &&& m = nI j := ⟨_, Nat.mod_lt _ (Nat.two_pow_pos k), pk_and x k hm⟩
theorem pk_andIn (x : Int32) {m : Int32} (k : Nat) (hm : m.toBitVec.toNat = 2 ^ k - 1) (hk : k ≤ 30) : vp_in (x &&& m) (2 ^ k) := by
  obtain ⟨j, hj, e⟩ := pk_andE x k hm
  rw [e]
  exact vp_in_nI hj (Nat.lt_of_le_of_lt (Nat.pow_le_pow_right (by decide) hk) (by decide))
theorem pk_shl (a s : Int32) (k : Nat) (hs : (s.toBitVec.smod 32).toNat = k) : (a <<< s).toBitVec.toNat = a.toBitVec.toNat * 2 ^ k % 2 ^ 32 := by
  show (a.toBitVec <<< (s.toBitVec.smod 32).toNat).toNat = _
  rw [hs, BitVec.toNat_shiftLeft, Nat.shiftLeft_eq]
theorem pk_shlN {n : Nat} (s : Int32) (k : Nat) (hs : (s.toBitVec.smod 32).toNat = k) (h : n * 2 ^ k < 2 ^ 32) : nI n <<< s = nI (n * 2 ^ k) := by
  apply Int32.toBitVec_inj.mp
  apply BitVec.eq_of_toNat_eq
  have hn : n < 2 ^ 32 := Nat.lt_of_le_of_lt (Nat.le_mul_of_pos_right n (Nat.two_pow_pos k)) h
  rw [pk_shl _ _ k hs, pk_tn hn, pk_tn h, Nat.mod_eq_of_lt h]
theorem pk_shr (a s : Int32) (k : Nat) (hs : (s.toBitVec.smod 32).toNat = k) : (a >>> s).toInt = a.toInt >>> k := by
  show (a.toBitVec.sshiftRight (s.toBitVec.smod 32).toNat).toInt = _
  rw [hs, BitVec.toInt_sshiftRight]
  rfl
theorem pk_shrN {n : Nat} (h : n < 2 ^ 31) (s : Int32) (k : Nat) (hs : (s.toBitVec.smod 32).toNat = k) : nI n >>> s = nI (n / 2 ^ k) := by
  apply Int32.toInt_inj.mp
  have h2 : n / 2 ^ k ≤ n := Nat.div_le_self _ _
  rw [pk_shr _ _ k hs, nI_toInt h, nI_toInt (by omega), Int.shiftRight_eq_div_pow]
  rfl
theorem pk_ushr (x s : Int32) (k : Nat) (hs : ((s.toUInt32 &&& Int32.toUInt32 31).toBitVec % 32).toNat = k) : (x.toUInt32 >>> (s.toUInt32 &&& Int32.toUInt32 31)).toInt32.toBitVec.toNat = x.toBitVec.toNat / 2 ^ k := by
  have e : (x.toUInt32 >>> (s.toUInt32 &&& Int32.toUInt32 31)).toInt32.toBitVec = x.toBitVec >>> k := by
    rw [← hs]
    exact UInt32.toBitVec_shiftRight _ _
  rw [e, BitVec.toNat_ushiftRight, Nat.shiftRight_eq_div_pow]
theorem pk_ushrN {n : Nat} (hn : n < 2 ^ 32) (s : Int32) (k : Nat) (hs : ((s.toUInt32 &&& Int32.toUInt32 31).toBitVec % 32).toNat = k) : ((nI n).toUInt32 >>> (s.toUInt32 &&& Int32.toUInt32 31)).toInt32 = nI (n / 2 ^ k) := by
  apply Int32.toBitVec_inj.mp
  apply BitVec.eq_of_toNat_eq
  rw [pk_ushr _ s k hs, pk_tn hn, pk_tn (Nat.lt_of_le_of_lt (Nat.div_le_self _ _) hn)]
theorem pk_nb (z : Int32) : narrow .byte (.int z.toInt8.toInt32) = .int z.toInt8.toInt32 := congrArg Value.int (by simp)
theorem pk_ns (z : Int32) : narrow .short (.int z.toInt16.toInt32) = .int z.toInt16.toInt32 := congrArg Value.int (by simp)
theorem pk_fb (r : Int32) : fits .byte (.int r.toInt8.toInt32) = true := by
  have ⟨a, b⟩ := lg_i2b_range r
  have h1 : (-128 : Int32).toInt = -128 := by decide
  have h2 : (127 : Int32).toInt = 127 := by decide
  simp only [fits, Bool.and_eq_true, decide_eq_true_eq, Int32.le_iff_toInt_le, h1, h2]
  omega
theorem pk_fs (r : Int32) : fits .short (.int r.toInt16.toInt32) = true := by
  have ⟨a, b⟩ := lg_i2s_range r
  have h1 : (-32768 : Int32).toInt = -32768 := by decide
  have h2 : (32767 : Int32).toInt = 32767 := by decide
  simp only [fits, Bool.and_eq_true, decide_eq_true_eq, Int32.le_iff_toInt_le, h1, h2]
  omega
theorem pk_charN {q : Nat} (hq : q < 65536) : narrow .char (.int (nI q)) = .int (nI q) ∧ fits .char (.int (nI q)) = true := by
  constructor
  · have e : (nI q).toUInt32.toUInt16.toUInt32.toInt32 = nI q := by
      apply Int32.toBitVec_inj.mp
      apply BitVec.eq_of_toNat_eq
      show (nI q).toUInt32.toUInt16.toUInt32.toNat = q % 2 ^ 32
      rw [UInt16.toNat_toUInt32, UInt32.toNat_toUInt16, show (nI q).toUInt32.toNat = q % 2 ^ 32 from rfl]
      omega
    exact congrArg Value.int e
  · have a : (0 : Int32) ≤ nI q := nI_pos' (by omega)
    have b : nI q ≤ 65535 := nI_le (b := 65535) (by omega) (by decide)
    show (decide ((0 : Int32) ≤ nI q) && decide (nI q ≤ 65535)) = true
    rw [decide_eq_true a, decide_eq_true b]
    rfl
theorem pk_char (x : Int32) : (x.toUInt32 % 65536).toInt32 = nI (x.toBitVec.toNat % 65536) := by
  apply Int32.toBitVec_inj.mp
  apply BitVec.eq_of_toNat_eq
  rw [pk_tn (by omega)]
  show (x.toUInt32 % 65536).toNat = _
  rw [UInt32.toNat_mod]
  rfl
theorem pk_nc (x : Int32) : narrow .char (.int (x.toUInt32 % 65536).toInt32) = .int (x.toUInt32 % 65536).toInt32 := by
  rw [pk_char]
  exact (pk_charN (Nat.mod_lt _ (by decide))).1
theorem pk_fc (x : Int32) : fits .char (.int (x.toUInt32 % 65536).toInt32) = true := by
  rw [pk_char]
  exact (pk_charN (Nat.mod_lt _ (by decide))).2
theorem pk_vb (z : Int32) : vp_nar .byte z.toInt8.toInt32 = z.toInt8.toInt32 := by rw [vp_nar_byte]; simp
theorem pk_vs (z : Int32) : vp_nar .short z.toInt16.toInt32 = z.toInt16.toInt32 := by rw [vp_nar_short]; simp
theorem pk_vc (z : Int32) : vp_nar .char (z.toUInt32 % 65536).toInt32 = (z.toUInt32 % 65536).toInt32 := Value.int.inj (pk_nc z)
theorem pk_lT {n : Nat} (h : n < 2 ^ 63) : (lN n).toInt = (n : Int) := lg_ofNat_toInt h
theorem pk_lLT {a b : Nat} (ha : a < 2 ^ 63) (hb : b < 2 ^ 63) : lN a < lN b ↔ a < b := by
  rw [Int64.lt_iff_toInt_lt, pk_lT ha, pk_lT hb]; omega
theorem pk_lLE {a b : Nat} (ha : a < 2 ^ 63) (hb : b < 2 ^ 63) : lN a ≤ lN b ↔ a ≤ b := by
  rw [Int64.le_iff_toInt_le, pk_lT ha, pk_lT hb]; omega
theorem pk_lEQ {a b : Nat} (ha : a < 2 ^ 63) (hb : b < 2 ^ 63) : lN a = lN b ↔ a = b := by
  rw [← Int64.toInt_inj, pk_lT ha, pk_lT hb]; omega
theorem pk_lOf {x : Int64} (h : ¬ x < 0) : ∃ k : Nat, k < 2 ^ 63 ∧ x = lN k := by
  rw [Int64.lt_iff_toInt_lt] at h
  have h0 : (0 : Int64).toInt = 0 := by decide
  have hx := Int64.toInt_lt x
  refine ⟨x.toInt.toNat, by omega, Int64.toInt_inj.mp ?_⟩
  rw [pk_lT (by omega)]
  omega
theorem pk_lDiv {a b : Nat} (ha : a < 2 ^ 63) (h0 : 0 < b) (hb : b < 2 ^ 63) : lN a / lN b = lN (a / b) := by
  apply Int64.toInt_inj.mp
  rw [lg_ldiv_nonneg (by rw [pk_lT ha]; omega) (by rw [pk_lT hb]; omega), pk_lT ha, pk_lT hb, pk_lT (Nat.lt_of_le_of_lt (Nat.div_le_self a b) ha)]
  rfl
theorem pk_lRem {a b : Nat} (ha : a < 2 ^ 63) (h0 : 0 < b) (hb : b < 2 ^ 63) : lN a - lN a / lN b * lN b = lN (a % b) := by
  rw [pk_lDiv ha h0 hb, lN_mul, lN_sub (Nat.div_mul_le_self a b)]
  exact congrArg lN (by have := Nat.div_add_mod' a b; omega)
theorem pk_loop {σ : Type} (W : Nat → Nat → σ → Prop) (I : Nat → σ → Prop) (e i0 : Nat) (s : σ) (hi : i0 ≤ e) (h0 : I i0 s) (hx : ∀ n s, I e s → W (n + 1) e s)
    (hs : ∀ n i s, i < e → I i s → (∀ s', I (i + 1) s' → W n (i + 1) s') → W (n + 1) i s) : ∃ n, W n i0 s :=
  ⟨e + 1, loop_i W I e hx hs (e + 1) i0 s hi (by omega) h0⟩
theorem pk_loopD {σ : Type} (W : Nat → Nat → σ → Prop) (I : Nat → σ → Prop) (hx : ∀ n s, I 0 s → W (n + 1) 0 s)
    (hs : ∀ n i s, I (i + 1) s → (∀ s', I i s' → W n i s') → W (n + 1) (i + 1) s) : ∀ (e : Nat) (s : σ), I e s → W (e + 1) e s := by
  intro e
  induction e with
  | zero => exact fun s h => hx 0 s h
  | succ e ih => exact fun s h => hs (e + 1) e s h (fun s' h' => ih s' h')
theorem lp1 {A1 : Type} (W : Nat → A1 → Prop) (I : A1 → Prop) (μ : A1 → Nat) (hs : ∀ (n : Nat) (a1 : A1), I a1 → (∀ (b1 : A1), I b1 → μ b1 < μ a1 → W n b1) → W (n + 1) a1) (a1 : A1) (h : I a1) : ∃ n, W n a1 :=
  loop_m (σ := A1) (fun n s => W n s) (fun s => I s) (fun s => μ s) (fun n s hI hk => hs n s hI (fun b1 h9 hm => hk b1 h9 hm)) a1 h
theorem lp2 {A1 A2 : Type} (W : Nat → A1 → A2 → Prop) (I : A1 → A2 → Prop) (μ : A1 → A2 → Nat) (hs : ∀ (n : Nat) (a1 : A1) (a2 : A2), I a1 a2 → (∀ (b1 : A1) (b2 : A2), I b1 b2 → μ b1 b2 < μ a1 a2 → W n b1 b2) → W (n + 1) a1 a2) (a1 : A1) (a2 : A2) (h : I a1 a2) : ∃ n, W n a1 a2 :=
  loop_m (σ := A1 × A2) (fun n s => W n s.1 s.2) (fun s => I s.1 s.2) (fun s => μ s.1 s.2) (fun n s hI hk => hs n s.1 s.2 hI (fun b1 b2 h9 hm => hk (b1, b2) h9 hm)) (a1, a2) h
theorem lp3 {A1 A2 A3 : Type} (W : Nat → A1 → A2 → A3 → Prop) (I : A1 → A2 → A3 → Prop) (μ : A1 → A2 → A3 → Nat) (hs : ∀ (n : Nat) (a1 : A1) (a2 : A2) (a3 : A3), I a1 a2 a3 → (∀ (b1 : A1) (b2 : A2) (b3 : A3), I b1 b2 b3 → μ b1 b2 b3 < μ a1 a2 a3 → W n b1 b2 b3) → W (n + 1) a1 a2 a3) (a1 : A1) (a2 : A2) (a3 : A3) (h : I a1 a2 a3) : ∃ n, W n a1 a2 a3 :=
  loop_m (σ := A1 × A2 × A3) (fun n s => W n s.1 s.2.1 s.2.2) (fun s => I s.1 s.2.1 s.2.2) (fun s => μ s.1 s.2.1 s.2.2) (fun n s hI hk => hs n s.1 s.2.1 s.2.2 hI (fun b1 b2 b3 h9 hm => hk (b1, b2, b3) h9 hm)) (a1, a2, a3) h
theorem lp4 {A1 A2 A3 A4 : Type} (W : Nat → A1 → A2 → A3 → A4 → Prop) (I : A1 → A2 → A3 → A4 → Prop) (μ : A1 → A2 → A3 → A4 → Nat) (hs : ∀ (n : Nat) (a1 : A1) (a2 : A2) (a3 : A3) (a4 : A4), I a1 a2 a3 a4 → (∀ (b1 : A1) (b2 : A2) (b3 : A3) (b4 : A4), I b1 b2 b3 b4 → μ b1 b2 b3 b4 < μ a1 a2 a3 a4 → W n b1 b2 b3 b4) → W (n + 1) a1 a2 a3 a4) (a1 : A1) (a2 : A2) (a3 : A3) (a4 : A4) (h : I a1 a2 a3 a4) : ∃ n, W n a1 a2 a3 a4 :=
  loop_m (σ := A1 × A2 × A3 × A4) (fun n s => W n s.1 s.2.1 s.2.2.1 s.2.2.2) (fun s => I s.1 s.2.1 s.2.2.1 s.2.2.2) (fun s => μ s.1 s.2.1 s.2.2.1 s.2.2.2) (fun n s hI hk => hs n s.1 s.2.1 s.2.2.1 s.2.2.2 hI (fun b1 b2 b3 b4 h9 hm => hk (b1, b2, b3, b4) h9 hm)) (a1, a2, a3, a4) h
theorem lp5 {A1 A2 A3 A4 A5 : Type} (W : Nat → A1 → A2 → A3 → A4 → A5 → Prop) (I : A1 → A2 → A3 → A4 → A5 → Prop) (μ : A1 → A2 → A3 → A4 → A5 → Nat) (hs : ∀ (n : Nat) (a1 : A1) (a2 : A2) (a3 : A3) (a4 : A4) (a5 : A5), I a1 a2 a3 a4 a5 → (∀ (b1 : A1) (b2 : A2) (b3 : A3) (b4 : A4) (b5 : A5), I b1 b2 b3 b4 b5 → μ b1 b2 b3 b4 b5 < μ a1 a2 a3 a4 a5 → W n b1 b2 b3 b4 b5) → W (n + 1) a1 a2 a3 a4 a5) (a1 : A1) (a2 : A2) (a3 : A3) (a4 : A4) (a5 : A5) (h : I a1 a2 a3 a4 a5) : ∃ n, W n a1 a2 a3 a4 a5 :=
  loop_m (σ := A1 × A2 × A3 × A4 × A5) (fun n s => W n s.1 s.2.1 s.2.2.1 s.2.2.2.1 s.2.2.2.2) (fun s => I s.1 s.2.1 s.2.2.1 s.2.2.2.1 s.2.2.2.2) (fun s => μ s.1 s.2.1 s.2.2.1 s.2.2.2.1 s.2.2.2.2) (fun n s hI hk => hs n s.1 s.2.1 s.2.2.1 s.2.2.2.1 s.2.2.2.2 hI (fun b1 b2 b3 b4 b5 h9 hm => hk (b1, b2, b3, b4, b5) h9 hm)) (a1, a2, a3, a4, a5) h
theorem lp6 {A1 A2 A3 A4 A5 A6 : Type} (W : Nat → A1 → A2 → A3 → A4 → A5 → A6 → Prop) (I : A1 → A2 → A3 → A4 → A5 → A6 → Prop) (μ : A1 → A2 → A3 → A4 → A5 → A6 → Nat) (hs : ∀ (n : Nat) (a1 : A1) (a2 : A2) (a3 : A3) (a4 : A4) (a5 : A5) (a6 : A6), I a1 a2 a3 a4 a5 a6 → (∀ (b1 : A1) (b2 : A2) (b3 : A3) (b4 : A4) (b5 : A5) (b6 : A6), I b1 b2 b3 b4 b5 b6 → μ b1 b2 b3 b4 b5 b6 < μ a1 a2 a3 a4 a5 a6 → W n b1 b2 b3 b4 b5 b6) → W (n + 1) a1 a2 a3 a4 a5 a6) (a1 : A1) (a2 : A2) (a3 : A3) (a4 : A4) (a5 : A5) (a6 : A6) (h : I a1 a2 a3 a4 a5 a6) : ∃ n, W n a1 a2 a3 a4 a5 a6 :=
  loop_m (σ := A1 × A2 × A3 × A4 × A5 × A6) (fun n s => W n s.1 s.2.1 s.2.2.1 s.2.2.2.1 s.2.2.2.2.1 s.2.2.2.2.2) (fun s => I s.1 s.2.1 s.2.2.1 s.2.2.2.1 s.2.2.2.2.1 s.2.2.2.2.2) (fun s => μ s.1 s.2.1 s.2.2.1 s.2.2.2.1 s.2.2.2.2.1 s.2.2.2.2.2) (fun n s hI hk => hs n s.1 s.2.1 s.2.2.1 s.2.2.2.1 s.2.2.2.2.1 s.2.2.2.2.2 hI (fun b1 b2 b3 b4 b5 b6 h9 hm => hk (b1, b2, b3, b4, b5, b6) h9 hm)) (a1, a2, a3, a4, a5, a6) h
theorem lp7 {A1 A2 A3 A4 A5 A6 A7 : Type} (W : Nat → A1 → A2 → A3 → A4 → A5 → A6 → A7 → Prop) (I : A1 → A2 → A3 → A4 → A5 → A6 → A7 → Prop) (μ : A1 → A2 → A3 → A4 → A5 → A6 → A7 → Nat) (hs : ∀ (n : Nat) (a1 : A1) (a2 : A2) (a3 : A3) (a4 : A4) (a5 : A5) (a6 : A6) (a7 : A7), I a1 a2 a3 a4 a5 a6 a7 → (∀ (b1 : A1) (b2 : A2) (b3 : A3) (b4 : A4) (b5 : A5) (b6 : A6) (b7 : A7), I b1 b2 b3 b4 b5 b6 b7 → μ b1 b2 b3 b4 b5 b6 b7 < μ a1 a2 a3 a4 a5 a6 a7 → W n b1 b2 b3 b4 b5 b6 b7) → W (n + 1) a1 a2 a3 a4 a5 a6 a7) (a1 : A1) (a2 : A2) (a3 : A3) (a4 : A4) (a5 : A5) (a6 : A6) (a7 : A7) (h : I a1 a2 a3 a4 a5 a6 a7) : ∃ n, W n a1 a2 a3 a4 a5 a6 a7 :=
  loop_m (σ := A1 × A2 × A3 × A4 × A5 × A6 × A7) (fun n s => W n s.1 s.2.1 s.2.2.1 s.2.2.2.1 s.2.2.2.2.1 s.2.2.2.2.2.1 s.2.2.2.2.2.2) (fun s => I s.1 s.2.1 s.2.2.1 s.2.2.2.1 s.2.2.2.2.1 s.2.2.2.2.2.1 s.2.2.2.2.2.2) (fun s => μ s.1 s.2.1 s.2.2.1 s.2.2.2.1 s.2.2.2.2.1 s.2.2.2.2.2.1 s.2.2.2.2.2.2) (fun n s hI hk => hs n s.1 s.2.1 s.2.2.1 s.2.2.2.1 s.2.2.2.2.1 s.2.2.2.2.2.1 s.2.2.2.2.2.2 hI (fun b1 b2 b3 b4 b5 b6 b7 h9 hm => hk (b1, b2, b3, b4, b5, b6, b7) h9 hm)) (a1, a2, a3, a4, a5, a6, a7) h
theorem lp8 {A1 A2 A3 A4 A5 A6 A7 A8 : Type} (W : Nat → A1 → A2 → A3 → A4 → A5 → A6 → A7 → A8 → Prop) (I : A1 → A2 → A3 → A4 → A5 → A6 → A7 → A8 → Prop) (μ : A1 → A2 → A3 → A4 → A5 → A6 → A7 → A8 → Nat) (hs : ∀ (n : Nat) (a1 : A1) (a2 : A2) (a3 : A3) (a4 : A4) (a5 : A5) (a6 : A6) (a7 : A7) (a8 : A8), I a1 a2 a3 a4 a5 a6 a7 a8 → (∀ (b1 : A1) (b2 : A2) (b3 : A3) (b4 : A4) (b5 : A5) (b6 : A6) (b7 : A7) (b8 : A8), I b1 b2 b3 b4 b5 b6 b7 b8 → μ b1 b2 b3 b4 b5 b6 b7 b8 < μ a1 a2 a3 a4 a5 a6 a7 a8 → W n b1 b2 b3 b4 b5 b6 b7 b8) → W (n + 1) a1 a2 a3 a4 a5 a6 a7 a8) (a1 : A1) (a2 : A2) (a3 : A3) (a4 : A4) (a5 : A5) (a6 : A6) (a7 : A7) (a8 : A8) (h : I a1 a2 a3 a4 a5 a6 a7 a8) : ∃ n, W n a1 a2 a3 a4 a5 a6 a7 a8 :=
  loop_m (σ := A1 × A2 × A3 × A4 × A5 × A6 × A7 × A8) (fun n s => W n s.1 s.2.1 s.2.2.1 s.2.2.2.1 s.2.2.2.2.1 s.2.2.2.2.2.1 s.2.2.2.2.2.2.1 s.2.2.2.2.2.2.2) (fun s => I s.1 s.2.1 s.2.2.1 s.2.2.2.1 s.2.2.2.2.1 s.2.2.2.2.2.1 s.2.2.2.2.2.2.1 s.2.2.2.2.2.2.2) (fun s => μ s.1 s.2.1 s.2.2.1 s.2.2.2.1 s.2.2.2.2.1 s.2.2.2.2.2.1 s.2.2.2.2.2.2.1 s.2.2.2.2.2.2.2) (fun n s hI hk => hs n s.1 s.2.1 s.2.2.1 s.2.2.2.1 s.2.2.2.2.1 s.2.2.2.2.2.1 s.2.2.2.2.2.2.1 s.2.2.2.2.2.2.2 hI (fun b1 b2 b3 b4 b5 b6 b7 b8 h9 hm => hk (b1, b2, b3, b4, b5, b6, b7, b8) h9 hm)) (a1, a2, a3, a4, a5, a6, a7, a8) h
theorem lp9 {A1 A2 A3 A4 A5 A6 A7 A8 A9 : Type} (W : Nat → A1 → A2 → A3 → A4 → A5 → A6 → A7 → A8 → A9 → Prop) (I : A1 → A2 → A3 → A4 → A5 → A6 → A7 → A8 → A9 → Prop) (μ : A1 → A2 → A3 → A4 → A5 → A6 → A7 → A8 → A9 → Nat) (hs : ∀ (n : Nat) (a1 : A1) (a2 : A2) (a3 : A3) (a4 : A4) (a5 : A5) (a6 : A6) (a7 : A7) (a8 : A8) (a9 : A9), I a1 a2 a3 a4 a5 a6 a7 a8 a9 → (∀ (b1 : A1) (b2 : A2) (b3 : A3) (b4 : A4) (b5 : A5) (b6 : A6) (b7 : A7) (b8 : A8) (b9 : A9), I b1 b2 b3 b4 b5 b6 b7 b8 b9 → μ b1 b2 b3 b4 b5 b6 b7 b8 b9 < μ a1 a2 a3 a4 a5 a6 a7 a8 a9 → W n b1 b2 b3 b4 b5 b6 b7 b8 b9) → W (n + 1) a1 a2 a3 a4 a5 a6 a7 a8 a9) (a1 : A1) (a2 : A2) (a3 : A3) (a4 : A4) (a5 : A5) (a6 : A6) (a7 : A7) (a8 : A8) (a9 : A9) (h : I a1 a2 a3 a4 a5 a6 a7 a8 a9) : ∃ n, W n a1 a2 a3 a4 a5 a6 a7 a8 a9 :=
  loop_m (σ := A1 × A2 × A3 × A4 × A5 × A6 × A7 × A8 × A9) (fun n s => W n s.1 s.2.1 s.2.2.1 s.2.2.2.1 s.2.2.2.2.1 s.2.2.2.2.2.1 s.2.2.2.2.2.2.1 s.2.2.2.2.2.2.2.1 s.2.2.2.2.2.2.2.2) (fun s => I s.1 s.2.1 s.2.2.1 s.2.2.2.1 s.2.2.2.2.1 s.2.2.2.2.2.1 s.2.2.2.2.2.2.1 s.2.2.2.2.2.2.2.1 s.2.2.2.2.2.2.2.2) (fun s => μ s.1 s.2.1 s.2.2.1 s.2.2.2.1 s.2.2.2.2.1 s.2.2.2.2.2.1 s.2.2.2.2.2.2.1 s.2.2.2.2.2.2.2.1 s.2.2.2.2.2.2.2.2) (fun n s hI hk => hs n s.1 s.2.1 s.2.2.1 s.2.2.2.1 s.2.2.2.2.1 s.2.2.2.2.2.1 s.2.2.2.2.2.2.1 s.2.2.2.2.2.2.2.1 s.2.2.2.2.2.2.2.2 hI (fun b1 b2 b3 b4 b5 b6 b7 b8 b9 h9 hm => hk (b1, b2, b3, b4, b5, b6, b7, b8, b9) h9 hm)) (a1, a2, a3, a4, a5, a6, a7, a8, a9) h
theorem lp10 {A1 A2 A3 A4 A5 A6 A7 A8 A9 A10 : Type} (W : Nat → A1 → A2 → A3 → A4 → A5 → A6 → A7 → A8 → A9 → A10 → Prop) (I : A1 → A2 → A3 → A4 → A5 → A6 → A7 → A8 → A9 → A10 → Prop) (μ : A1 → A2 → A3 → A4 → A5 → A6 → A7 → A8 → A9 → A10 → Nat) (hs : ∀ (n : Nat) (a1 : A1) (a2 : A2) (a3 : A3) (a4 : A4) (a5 : A5) (a6 : A6) (a7 : A7) (a8 : A8) (a9 : A9) (a10 : A10), I a1 a2 a3 a4 a5 a6 a7 a8 a9 a10 → (∀ (b1 : A1) (b2 : A2) (b3 : A3) (b4 : A4) (b5 : A5) (b6 : A6) (b7 : A7) (b8 : A8) (b9 : A9) (b10 : A10), I b1 b2 b3 b4 b5 b6 b7 b8 b9 b10 → μ b1 b2 b3 b4 b5 b6 b7 b8 b9 b10 < μ a1 a2 a3 a4 a5 a6 a7 a8 a9 a10 → W n b1 b2 b3 b4 b5 b6 b7 b8 b9 b10) → W (n + 1) a1 a2 a3 a4 a5 a6 a7 a8 a9 a10) (a1 : A1) (a2 : A2) (a3 : A3) (a4 : A4) (a5 : A5) (a6 : A6) (a7 : A7) (a8 : A8) (a9 : A9) (a10 : A10) (h : I a1 a2 a3 a4 a5 a6 a7 a8 a9 a10) : ∃ n, W n a1 a2 a3 a4 a5 a6 a7 a8 a9 a10 :=
  loop_m (σ := A1 × A2 × A3 × A4 × A5 × A6 × A7 × A8 × A9 × A10) (fun n s => W n s.1 s.2.1 s.2.2.1 s.2.2.2.1 s.2.2.2.2.1 s.2.2.2.2.2.1 s.2.2.2.2.2.2.1 s.2.2.2.2.2.2.2.1 s.2.2.2.2.2.2.2.2.1 s.2.2.2.2.2.2.2.2.2) (fun s => I s.1 s.2.1 s.2.2.1 s.2.2.2.1 s.2.2.2.2.1 s.2.2.2.2.2.1 s.2.2.2.2.2.2.1 s.2.2.2.2.2.2.2.1 s.2.2.2.2.2.2.2.2.1 s.2.2.2.2.2.2.2.2.2) (fun s => μ s.1 s.2.1 s.2.2.1 s.2.2.2.1 s.2.2.2.2.1 s.2.2.2.2.2.1 s.2.2.2.2.2.2.1 s.2.2.2.2.2.2.2.1 s.2.2.2.2.2.2.2.2.1 s.2.2.2.2.2.2.2.2.2) (fun n s hI hk => hs n s.1 s.2.1 s.2.2.1 s.2.2.2.1 s.2.2.2.2.1 s.2.2.2.2.2.1 s.2.2.2.2.2.2.1 s.2.2.2.2.2.2.2.1 s.2.2.2.2.2.2.2.2.1 s.2.2.2.2.2.2.2.2.2 hI (fun b1 b2 b3 b4 b5 b6 b7 b8 b9 b10 h9 hm => hk (b1, b2, b3, b4, b5, b6, b7, b8, b9, b10) h9 hm)) (a1, a2, a3, a4, a5, a6, a7, a8, a9, a10) h
theorem lp11 {A1 A2 A3 A4 A5 A6 A7 A8 A9 A10 A11 : Type} (W : Nat → A1 → A2 → A3 → A4 → A5 → A6 → A7 → A8 → A9 → A10 → A11 → Prop) (I : A1 → A2 → A3 → A4 → A5 → A6 → A7 → A8 → A9 → A10 → A11 → Prop) (μ : A1 → A2 → A3 → A4 → A5 → A6 → A7 → A8 → A9 → A10 → A11 → Nat) (hs : ∀ (n : Nat) (a1 : A1) (a2 : A2) (a3 : A3) (a4 : A4) (a5 : A5) (a6 : A6) (a7 : A7) (a8 : A8) (a9 : A9) (a10 : A10) (a11 : A11), I a1 a2 a3 a4 a5 a6 a7 a8 a9 a10 a11 → (∀ (b1 : A1) (b2 : A2) (b3 : A3) (b4 : A4) (b5 : A5) (b6 : A6) (b7 : A7) (b8 : A8) (b9 : A9) (b10 : A10) (b11 : A11), I b1 b2 b3 b4 b5 b6 b7 b8 b9 b10 b11 → μ b1 b2 b3 b4 b5 b6 b7 b8 b9 b10 b11 < μ a1 a2 a3 a4 a5 a6 a7 a8 a9 a10 a11 → W n b1 b2 b3 b4 b5 b6 b7 b8 b9 b10 b11) → W (n + 1) a1 a2 a3 a4 a5 a6 a7 a8 a9 a10 a11) (a1 : A1) (a2 : A2) (a3 : A3) (a4 : A4) (a5 : A5) (a6 : A6) (a7 : A7) (a8 : A8) (a9 : A9) (a10 : A10) (a11 : A11) (h : I a1 a2 a3 a4 a5 a6 a7 a8 a9 a10 a11) : ∃ n, W n a1 a2 a3 a4 a5 a6 a7 a8 a9 a10 a11 :=
  loop_m (σ := A1 × A2 × A3 × A4 × A5 × A6 × A7 × A8 × A9 × A10 × A11) (fun n s => W n s.1 s.2.1 s.2.2.1 s.2.2.2.1 s.2.2.2.2.1 s.2.2.2.2.2.1 s.2.2.2.2.2.2.1 s.2.2.2.2.2.2.2.1 s.2.2.2.2.2.2.2.2.1 s.2.2.2.2.2.2.2.2.2.1 s.2.2.2.2.2.2.2.2.2.2) (fun s => I s.1 s.2.1 s.2.2.1 s.2.2.2.1 s.2.2.2.2.1 s.2.2.2.2.2.1 s.2.2.2.2.2.2.1 s.2.2.2.2.2.2.2.1 s.2.2.2.2.2.2.2.2.1 s.2.2.2.2.2.2.2.2.2.1 s.2.2.2.2.2.2.2.2.2.2) (fun s => μ s.1 s.2.1 s.2.2.1 s.2.2.2.1 s.2.2.2.2.1 s.2.2.2.2.2.1 s.2.2.2.2.2.2.1 s.2.2.2.2.2.2.2.1 s.2.2.2.2.2.2.2.2.1 s.2.2.2.2.2.2.2.2.2.1 s.2.2.2.2.2.2.2.2.2.2) (fun n s hI hk => hs n s.1 s.2.1 s.2.2.1 s.2.2.2.1 s.2.2.2.2.1 s.2.2.2.2.2.1 s.2.2.2.2.2.2.1 s.2.2.2.2.2.2.2.1 s.2.2.2.2.2.2.2.2.1 s.2.2.2.2.2.2.2.2.2.1 s.2.2.2.2.2.2.2.2.2.2 hI (fun b1 b2 b3 b4 b5 b6 b7 b8 b9 b10 b11 h9 hm => hk (b1, b2, b3, b4, b5, b6, b7, b8, b9, b10, b11) h9 hm)) (a1, a2, a3, a4, a5, a6, a7, a8, a9, a10, a11) h
theorem lp12 {A1 A2 A3 A4 A5 A6 A7 A8 A9 A10 A11 A12 : Type} (W : Nat → A1 → A2 → A3 → A4 → A5 → A6 → A7 → A8 → A9 → A10 → A11 → A12 → Prop) (I : A1 → A2 → A3 → A4 → A5 → A6 → A7 → A8 → A9 → A10 → A11 → A12 → Prop) (μ : A1 → A2 → A3 → A4 → A5 → A6 → A7 → A8 → A9 → A10 → A11 → A12 → Nat) (hs : ∀ (n : Nat) (a1 : A1) (a2 : A2) (a3 : A3) (a4 : A4) (a5 : A5) (a6 : A6) (a7 : A7) (a8 : A8) (a9 : A9) (a10 : A10) (a11 : A11) (a12 : A12), I a1 a2 a3 a4 a5 a6 a7 a8 a9 a10 a11 a12 → (∀ (b1 : A1) (b2 : A2) (b3 : A3) (b4 : A4) (b5 : A5) (b6 : A6) (b7 : A7) (b8 : A8) (b9 : A9) (b10 : A10) (b11 : A11) (b12 : A12), I b1 b2 b3 b4 b5 b6 b7 b8 b9 b10 b11 b12 → μ b1 b2 b3 b4 b5 b6 b7 b8 b9 b10 b11 b12 < μ a1 a2 a3 a4 a5 a6 a7 a8 a9 a10 a11 a12 → W n b1 b2 b3 b4 b5 b6 b7 b8 b9 b10 b11 b12) → W (n + 1) a1 a2 a3 a4 a5 a6 a7 a8 a9 a10 a11 a12) (a1 : A1) (a2 : A2) (a3 : A3) (a4 : A4) (a5 : A5) (a6 : A6) (a7 : A7) (a8 : A8) (a9 : A9) (a10 : A10) (a11 : A11) (a12 : A12) (h : I a1 a2 a3 a4 a5 a6 a7 a8 a9 a10 a11 a12) : ∃ n, W n a1 a2 a3 a4 a5 a6 a7 a8 a9 a10 a11 a12 :=
  loop_m (σ := A1 × A2 × A3 × A4 × A5 × A6 × A7 × A8 × A9 × A10 × A11 × A12) (fun n s => W n s.1 s.2.1 s.2.2.1 s.2.2.2.1 s.2.2.2.2.1 s.2.2.2.2.2.1 s.2.2.2.2.2.2.1 s.2.2.2.2.2.2.2.1 s.2.2.2.2.2.2.2.2.1 s.2.2.2.2.2.2.2.2.2.1 s.2.2.2.2.2.2.2.2.2.2.1 s.2.2.2.2.2.2.2.2.2.2.2) (fun s => I s.1 s.2.1 s.2.2.1 s.2.2.2.1 s.2.2.2.2.1 s.2.2.2.2.2.1 s.2.2.2.2.2.2.1 s.2.2.2.2.2.2.2.1 s.2.2.2.2.2.2.2.2.1 s.2.2.2.2.2.2.2.2.2.1 s.2.2.2.2.2.2.2.2.2.2.1 s.2.2.2.2.2.2.2.2.2.2.2) (fun s => μ s.1 s.2.1 s.2.2.1 s.2.2.2.1 s.2.2.2.2.1 s.2.2.2.2.2.1 s.2.2.2.2.2.2.1 s.2.2.2.2.2.2.2.1 s.2.2.2.2.2.2.2.2.1 s.2.2.2.2.2.2.2.2.2.1 s.2.2.2.2.2.2.2.2.2.2.1 s.2.2.2.2.2.2.2.2.2.2.2) (fun n s hI hk => hs n s.1 s.2.1 s.2.2.1 s.2.2.2.1 s.2.2.2.2.1 s.2.2.2.2.2.1 s.2.2.2.2.2.2.1 s.2.2.2.2.2.2.2.1 s.2.2.2.2.2.2.2.2.1 s.2.2.2.2.2.2.2.2.2.1 s.2.2.2.2.2.2.2.2.2.2.1 s.2.2.2.2.2.2.2.2.2.2.2 hI (fun b1 b2 b3 b4 b5 b6 b7 b8 b9 b10 b11 b12 h9 hm => hk (b1, b2, b3, b4, b5, b6, b7, b8, b9, b10, b11, b12) h9 hm)) (a1, a2, a3, a4, a5, a6, a7, a8, a9, a10, a11, a12) h
theorem lp13 {A1 A2 A3 A4 A5 A6 A7 A8 A9 A10 A11 A12 A13 : Type} (W : Nat → A1 → A2 → A3 → A4 → A5 → A6 → A7 → A8 → A9 → A10 → A11 → A12 → A13 → Prop) (I : A1 → A2 → A3 → A4 → A5 → A6 → A7 → A8 → A9 → A10 → A11 → A12 → A13 → Prop) (μ : A1 → A2 → A3 → A4 → A5 → A6 → A7 → A8 → A9 → A10 → A11 → A12 → A13 → Nat) (hs : ∀ (n : Nat) (a1 : A1) (a2 : A2) (a3 : A3) (a4 : A4) (a5 : A5) (a6 : A6) (a7 : A7) (a8 : A8) (a9 : A9) (a10 : A10) (a11 : A11) (a12 : A12) (a13 : A13), I a1 a2 a3 a4 a5 a6 a7 a8 a9 a10 a11 a12 a13 → (∀ (b1 : A1) (b2 : A2) (b3 : A3) (b4 : A4) (b5 : A5) (b6 : A6) (b7 : A7) (b8 : A8) (b9 : A9) (b10 : A10) (b11 : A11) (b12 : A12) (b13 : A13), I b1 b2 b3 b4 b5 b6 b7 b8 b9 b10 b11 b12 b13 → μ b1 b2 b3 b4 b5 b6 b7 b8 b9 b10 b11 b12 b13 < μ a1 a2 a3 a4 a5 a6 a7 a8 a9 a10 a11 a12 a13 → W n b1 b2 b3 b4 b5 b6 b7 b8 b9 b10 b11 b12 b13) → W (n + 1) a1 a2 a3 a4 a5 a6 a7 a8 a9 a10 a11 a12 a13) (a1 : A1) (a2 : A2) (a3 : A3) (a4 : A4) (a5 : A5) (a6 : A6) (a7 : A7) (a8 : A8) (a9 : A9) (a10 : A10) (a11 : A11) (a12 : A12) (a13 : A13) (h : I a1 a2 a3 a4 a5 a6 a7 a8 a9 a10 a11 a12 a13) : ∃ n, W n a1 a2 a3 a4 a5 a6 a7 a8 a9 a10 a11 a12 a13 :=
  loop_m (σ := A1 × A2 × A3 × A4 × A5 × A6 × A7 × A8 × A9 × A10 × A11 × A12 × A13) (fun n s => W n s.1 s.2.1 s.2.2.1 s.2.2.2.1 s.2.2.2.2.1 s.2.2.2.2.2.1 s.2.2.2.2.2.2.1 s.2.2.2.2.2.2.2.1 s.2.2.2.2.2.2.2.2.1 s.2.2.2.2.2.2.2.2.2.1 s.2.2.2.2.2.2.2.2.2.2.1 s.2.2.2.2.2.2.2.2.2.2.2.1 s.2.2.2.2.2.2.2.2.2.2.2.2) (fun s => I s.1 s.2.1 s.2.2.1 s.2.2.2.1 s.2.2.2.2.1 s.2.2.2.2.2.1 s.2.2.2.2.2.2.1 s.2.2.2.2.2.2.2.1 s.2.2.2.2.2.2.2.2.1 s.2.2.2.2.2.2.2.2.2.1 s.2.2.2.2.2.2.2.2.2.2.1 s.2.2.2.2.2.2.2.2.2.2.2.1 s.2.2.2.2.2.2.2.2.2.2.2.2) (fun s => μ s.1 s.2.1 s.2.2.1 s.2.2.2.1 s.2.2.2.2.1 s.2.2.2.2.2.1 s.2.2.2.2.2.2.1 s.2.2.2.2.2.2.2.1 s.2.2.2.2.2.2.2.2.1 s.2.2.2.2.2.2.2.2.2.1 s.2.2.2.2.2.2.2.2.2.2.1 s.2.2.2.2.2.2.2.2.2.2.2.1 s.2.2.2.2.2.2.2.2.2.2.2.2) (fun n s hI hk => hs n s.1 s.2.1 s.2.2.1 s.2.2.2.1 s.2.2.2.2.1 s.2.2.2.2.2.1 s.2.2.2.2.2.2.1 s.2.2.2.2.2.2.2.1 s.2.2.2.2.2.2.2.2.1 s.2.2.2.2.2.2.2.2.2.1 s.2.2.2.2.2.2.2.2.2.2.1 s.2.2.2.2.2.2.2.2.2.2.2.1 s.2.2.2.2.2.2.2.2.2.2.2.2 hI (fun b1 b2 b3 b4 b5 b6 b7 b8 b9 b10 b11 b12 b13 h9 hm => hk (b1, b2, b3, b4, b5, b6, b7, b8, b9, b10, b11, b12, b13) h9 hm)) (a1, a2, a3, a4, a5, a6, a7, a8, a9, a10, a11, a12, a13) h
theorem lp14 {A1 A2 A3 A4 A5 A6 A7 A8 A9 A10 A11 A12 A13 A14 : Type} (W : Nat → A1 → A2 → A3 → A4 → A5 → A6 → A7 → A8 → A9 → A10 → A11 → A12 → A13 → A14 → Prop) (I : A1 → A2 → A3 → A4 → A5 → A6 → A7 → A8 → A9 → A10 → A11 → A12 → A13 → A14 → Prop) (μ : A1 → A2 → A3 → A4 → A5 → A6 → A7 → A8 → A9 → A10 → A11 → A12 → A13 → A14 → Nat) (hs : ∀ (n : Nat) (a1 : A1) (a2 : A2) (a3 : A3) (a4 : A4) (a5 : A5) (a6 : A6) (a7 : A7) (a8 : A8) (a9 : A9) (a10 : A10) (a11 : A11) (a12 : A12) (a13 : A13) (a14 : A14), I a1 a2 a3 a4 a5 a6 a7 a8 a9 a10 a11 a12 a13 a14 → (∀ (b1 : A1) (b2 : A2) (b3 : A3) (b4 : A4) (b5 : A5) (b6 : A6) (b7 : A7) (b8 : A8) (b9 : A9) (b10 : A10) (b11 : A11) (b12 : A12) (b13 : A13) (b14 : A14), I b1 b2 b3 b4 b5 b6 b7 b8 b9 b10 b11 b12 b13 b14 → μ b1 b2 b3 b4 b5 b6 b7 b8 b9 b10 b11 b12 b13 b14 < μ a1 a2 a3 a4 a5 a6 a7 a8 a9 a10 a11 a12 a13 a14 → W n b1 b2 b3 b4 b5 b6 b7 b8 b9 b10 b11 b12 b13 b14) → W (n + 1) a1 a2 a3 a4 a5 a6 a7 a8 a9 a10 a11 a12 a13 a14) (a1 : A1) (a2 : A2) (a3 : A3) (a4 : A4) (a5 : A5) (a6 : A6) (a7 : A7) (a8 : A8) (a9 : A9) (a10 : A10) (a11 : A11) (a12 : A12) (a13 : A13) (a14 : A14) (h : I a1 a2 a3 a4 a5 a6 a7 a8 a9 a10 a11 a12 a13 a14) : ∃ n, W n a1 a2 a3 a4 a5 a6 a7 a8 a9 a10 a11 a12 a13 a14 :=
  loop_m (σ := A1 × A2 × A3 × A4 × A5 × A6 × A7 × A8 × A9 × A10 × A11 × A12 × A13 × A14) (fun n s => W n s.1 s.2.1 s.2.2.1 s.2.2.2.1 s.2.2.2.2.1 s.2.2.2.2.2.1 s.2.2.2.2.2.2.1 s.2.2.2.2.2.2.2.1 s.2.2.2.2.2.2.2.2.1 s.2.2.2.2.2.2.2.2.2.1 s.2.2.2.2.2.2.2.2.2.2.1 s.2.2.2.2.2.2.2.2.2.2.2.1 s.2.2.2.2.2.2.2.2.2.2.2.2.1 s.2.2.2.2.2.2.2.2.2.2.2.2.2) (fun s => I s.1 s.2.1 s.2.2.1 s.2.2.2.1 s.2.2.2.2.1 s.2.2.2.2.2.1 s.2.2.2.2.2.2.1 s.2.2.2.2.2.2.2.1 s.2.2.2.2.2.2.2.2.1 s.2.2.2.2.2.2.2.2.2.1 s.2.2.2.2.2.2.2.2.2.2.1 s.2.2.2.2.2.2.2.2.2.2.2.1 s.2.2.2.2.2.2.2.2.2.2.2.2.1 s.2.2.2.2.2.2.2.2.2.2.2.2.2) (fun s => μ s.1 s.2.1 s.2.2.1 s.2.2.2.1 s.2.2.2.2.1 s.2.2.2.2.2.1 s.2.2.2.2.2.2.1 s.2.2.2.2.2.2.2.1 s.2.2.2.2.2.2.2.2.1 s.2.2.2.2.2.2.2.2.2.1 s.2.2.2.2.2.2.2.2.2.2.1 s.2.2.2.2.2.2.2.2.2.2.2.1 s.2.2.2.2.2.2.2.2.2.2.2.2.1 s.2.2.2.2.2.2.2.2.2.2.2.2.2) (fun n s hI hk => hs n s.1 s.2.1 s.2.2.1 s.2.2.2.1 s.2.2.2.2.1 s.2.2.2.2.2.1 s.2.2.2.2.2.2.1 s.2.2.2.2.2.2.2.1 s.2.2.2.2.2.2.2.2.1 s.2.2.2.2.2.2.2.2.2.1 s.2.2.2.2.2.2.2.2.2.2.1 s.2.2.2.2.2.2.2.2.2.2.2.1 s.2.2.2.2.2.2.2.2.2.2.2.2.1 s.2.2.2.2.2.2.2.2.2.2.2.2.2 hI (fun b1 b2 b3 b4 b5 b6 b7 b8 b9 b10 b11 b12 b13 b14 h9 hm => hk (b1, b2, b3, b4, b5, b6, b7, b8, b9, b10, b11, b12, b13, b14) h9 hm)) (a1, a2, a3, a4, a5, a6, a7, a8, a9, a10, a11, a12, a13, a14) h
theorem lp15 {A1 A2 A3 A4 A5 A6 A7 A8 A9 A10 A11 A12 A13 A14 A15 : Type} (W : Nat → A1 → A2 → A3 → A4 → A5 → A6 → A7 → A8 → A9 → A10 → A11 → A12 → A13 → A14 → A15 → Prop) (I : A1 → A2 → A3 → A4 → A5 → A6 → A7 → A8 → A9 → A10 → A11 → A12 → A13 → A14 → A15 → Prop) (μ : A1 → A2 → A3 → A4 → A5 → A6 → A7 → A8 → A9 → A10 → A11 → A12 → A13 → A14 → A15 → Nat) (hs : ∀ (n : Nat) (a1 : A1) (a2 : A2) (a3 : A3) (a4 : A4) (a5 : A5) (a6 : A6) (a7 : A7) (a8 : A8) (a9 : A9) (a10 : A10) (a11 : A11) (a12 : A12) (a13 : A13) (a14 : A14) (a15 : A15), I a1 a2 a3 a4 a5 a6 a7 a8 a9 a10 a11 a12 a13 a14 a15 → (∀ (b1 : A1) (b2 : A2) (b3 : A3) (b4 : A4) (b5 : A5) (b6 : A6) (b7 : A7) (b8 : A8) (b9 : A9) (b10 : A10) (b11 : A11) (b12 : A12) (b13 : A13) (b14 : A14) (b15 : A15), I b1 b2 b3 b4 b5 b6 b7 b8 b9 b10 b11 b12 b13 b14 b15 → μ b1 b2 b3 b4 b5 b6 b7 b8 b9 b10 b11 b12 b13 b14 b15 < μ a1 a2 a3 a4 a5 a6 a7 a8 a9 a10 a11 a12 a13 a14 a15 → W n b1 b2 b3 b4 b5 b6 b7 b8 b9 b10 b11 b12 b13 b14 b15) → W (n + 1) a1 a2 a3 a4 a5 a6 a7 a8 a9 a10 a11 a12 a13 a14 a15) (a1 : A1) (a2 : A2) (a3 : A3) (a4 : A4) (a5 : A5) (a6 : A6) (a7 : A7) (a8 : A8) (a9 : A9) (a10 : A10) (a11 : A11) (a12 : A12) (a13 : A13) (a14 : A14) (a15 : A15) (h : I a1 a2 a3 a4 a5 a6 a7 a8 a9 a10 a11 a12 a13 a14 a15) : ∃ n, W n a1 a2 a3 a4 a5 a6 a7 a8 a9 a10 a11 a12 a13 a14 a15 :=
  loop_m (σ := A1 × A2 × A3 × A4 × A5 × A6 × A7 × A8 × A9 × A10 × A11 × A12 × A13 × A14 × A15) (fun n s => W n s.1 s.2.1 s.2.2.1 s.2.2.2.1 s.2.2.2.2.1 s.2.2.2.2.2.1 s.2.2.2.2.2.2.1 s.2.2.2.2.2.2.2.1 s.2.2.2.2.2.2.2.2.1 s.2.2.2.2.2.2.2.2.2.1 s.2.2.2.2.2.2.2.2.2.2.1 s.2.2.2.2.2.2.2.2.2.2.2.1 s.2.2.2.2.2.2.2.2.2.2.2.2.1 s.2.2.2.2.2.2.2.2.2.2.2.2.2.1 s.2.2.2.2.2.2.2.2.2.2.2.2.2.2) (fun s => I s.1 s.2.1 s.2.2.1 s.2.2.2.1 s.2.2.2.2.1 s.2.2.2.2.2.1 s.2.2.2.2.2.2.1 s.2.2.2.2.2.2.2.1 s.2.2.2.2.2.2.2.2.1 s.2.2.2.2.2.2.2.2.2.1 s.2.2.2.2.2.2.2.2.2.2.1 s.2.2.2.2.2.2.2.2.2.2.2.1 s.2.2.2.2.2.2.2.2.2.2.2.2.1 s.2.2.2.2.2.2.2.2.2.2.2.2.2.1 s.2.2.2.2.2.2.2.2.2.2.2.2.2.2) (fun s => μ s.1 s.2.1 s.2.2.1 s.2.2.2.1 s.2.2.2.2.1 s.2.2.2.2.2.1 s.2.2.2.2.2.2.1 s.2.2.2.2.2.2.2.1 s.2.2.2.2.2.2.2.2.1 s.2.2.2.2.2.2.2.2.2.1 s.2.2.2.2.2.2.2.2.2.2.1 s.2.2.2.2.2.2.2.2.2.2.2.1 s.2.2.2.2.2.2.2.2.2.2.2.2.1 s.2.2.2.2.2.2.2.2.2.2.2.2.2.1 s.2.2.2.2.2.2.2.2.2.2.2.2.2.2) (fun n s hI hk => hs n s.1 s.2.1 s.2.2.1 s.2.2.2.1 s.2.2.2.2.1 s.2.2.2.2.2.1 s.2.2.2.2.2.2.1 s.2.2.2.2.2.2.2.1 s.2.2.2.2.2.2.2.2.1 s.2.2.2.2.2.2.2.2.2.1 s.2.2.2.2.2.2.2.2.2.2.1 s.2.2.2.2.2.2.2.2.2.2.2.1 s.2.2.2.2.2.2.2.2.2.2.2.2.1 s.2.2.2.2.2.2.2.2.2.2.2.2.2.1 s.2.2.2.2.2.2.2.2.2.2.2.2.2.2 hI (fun b1 b2 b3 b4 b5 b6 b7 b8 b9 b10 b11 b12 b13 b14 b15 h9 hm => hk (b1, b2, b3, b4, b5, b6, b7, b8, b9, b10, b11, b12, b13, b14, b15) h9 hm)) (a1, a2, a3, a4, a5, a6, a7, a8, a9, a10, a11, a12, a13, a14, a15) h
theorem lp16 {A1 A2 A3 A4 A5 A6 A7 A8 A9 A10 A11 A12 A13 A14 A15 A16 : Type} (W : Nat → A1 → A2 → A3 → A4 → A5 → A6 → A7 → A8 → A9 → A10 → A11 → A12 → A13 → A14 → A15 → A16 → Prop) (I : A1 → A2 → A3 → A4 → A5 → A6 → A7 → A8 → A9 → A10 → A11 → A12 → A13 → A14 → A15 → A16 → Prop) (μ : A1 → A2 → A3 → A4 → A5 → A6 → A7 → A8 → A9 → A10 → A11 → A12 → A13 → A14 → A15 → A16 → Nat) (hs : ∀ (n : Nat) (a1 : A1) (a2 : A2) (a3 : A3) (a4 : A4) (a5 : A5) (a6 : A6) (a7 : A7) (a8 : A8) (a9 : A9) (a10 : A10) (a11 : A11) (a12 : A12) (a13 : A13) (a14 : A14) (a15 : A15) (a16 : A16), I a1 a2 a3 a4 a5 a6 a7 a8 a9 a10 a11 a12 a13 a14 a15 a16 → (∀ (b1 : A1) (b2 : A2) (b3 : A3) (b4 : A4) (b5 : A5) (b6 : A6) (b7 : A7) (b8 : A8) (b9 : A9) (b10 : A10) (b11 : A11) (b12 : A12) (b13 : A13) (b14 : A14) (b15 : A15) (b16 : A16), I b1 b2 b3 b4 b5 b6 b7 b8 b9 b10 b11 b12 b13 b14 b15 b16 → μ b1 b2 b3 b4 b5 b6 b7 b8 b9 b10 b11 b12 b13 b14 b15 b16 < μ a1 a2 a3 a4 a5 a6 a7 a8 a9 a10 a11 a12 a13 a14 a15 a16 → W n b1 b2 b3 b4 b5 b6 b7 b8 b9 b10 b11 b12 b13 b14 b15 b16) → W (n + 1) a1 a2 a3 a4 a5 a6 a7 a8 a9 a10 a11 a12 a13 a14 a15 a16) (a1 : A1) (a2 : A2) (a3 : A3) (a4 : A4) (a5 : A5) (a6 : A6) (a7 : A7) (a8 : A8) (a9 : A9) (a10 : A10) (a11 : A11) (a12 : A12) (a13 : A13) (a14 : A14) (a15 : A15) (a16 : A16) (h : I a1 a2 a3 a4 a5 a6 a7 a8 a9 a10 a11 a12 a13 a14 a15 a16) : ∃ n, W n a1 a2 a3 a4 a5 a6 a7 a8 a9 a10 a11 a12 a13 a14 a15 a16 :=
  loop_m (σ := A1 × A2 × A3 × A4 × A5 × A6 × A7 × A8 × A9 × A10 × A11 × A12 × A13 × A14 × A15 × A16) (fun n s => W n s.1 s.2.1 s.2.2.1 s.2.2.2.1 s.2.2.2.2.1 s.2.2.2.2.2.1 s.2.2.2.2.2.2.1 s.2.2.2.2.2.2.2.1 s.2.2.2.2.2.2.2.2.1 s.2.2.2.2.2.2.2.2.2.1 s.2.2.2.2.2.2.2.2.2.2.1 s.2.2.2.2.2.2.2.2.2.2.2.1 s.2.2.2.2.2.2.2.2.2.2.2.2.1 s.2.2.2.2.2.2.2.2.2.2.2.2.2.1 s.2.2.2.2.2.2.2.2.2.2.2.2.2.2.1 s.2.2.2.2.2.2.2.2.2.2.2.2.2.2.2) (fun s => I s.1 s.2.1 s.2.2.1 s.2.2.2.1 s.2.2.2.2.1 s.2.2.2.2.2.1 s.2.2.2.2.2.2.1 s.2.2.2.2.2.2.2.1 s.2.2.2.2.2.2.2.2.1 s.2.2.2.2.2.2.2.2.2.1 s.2.2.2.2.2.2.2.2.2.2.1 s.2.2.2.2.2.2.2.2.2.2.2.1 s.2.2.2.2.2.2.2.2.2.2.2.2.1 s.2.2.2.2.2.2.2.2.2.2.2.2.2.1 s.2.2.2.2.2.2.2.2.2.2.2.2.2.2.1 s.2.2.2.2.2.2.2.2.2.2.2.2.2.2.2) (fun s => μ s.1 s.2.1 s.2.2.1 s.2.2.2.1 s.2.2.2.2.1 s.2.2.2.2.2.1 s.2.2.2.2.2.2.1 s.2.2.2.2.2.2.2.1 s.2.2.2.2.2.2.2.2.1 s.2.2.2.2.2.2.2.2.2.1 s.2.2.2.2.2.2.2.2.2.2.1 s.2.2.2.2.2.2.2.2.2.2.2.1 s.2.2.2.2.2.2.2.2.2.2.2.2.1 s.2.2.2.2.2.2.2.2.2.2.2.2.2.1 s.2.2.2.2.2.2.2.2.2.2.2.2.2.2.1 s.2.2.2.2.2.2.2.2.2.2.2.2.2.2.2) (fun n s hI hk => hs n s.1 s.2.1 s.2.2.1 s.2.2.2.1 s.2.2.2.2.1 s.2.2.2.2.2.1 s.2.2.2.2.2.2.1 s.2.2.2.2.2.2.2.1 s.2.2.2.2.2.2.2.2.1 s.2.2.2.2.2.2.2.2.2.1 s.2.2.2.2.2.2.2.2.2.2.1 s.2.2.2.2.2.2.2.2.2.2.2.1 s.2.2.2.2.2.2.2.2.2.2.2.2.1 s.2.2.2.2.2.2.2.2.2.2.2.2.2.1 s.2.2.2.2.2.2.2.2.2.2.2.2.2.2.1 s.2.2.2.2.2.2.2.2.2.2.2.2.2.2.2 hI (fun b1 b2 b3 b4 b5 b6 b7 b8 b9 b10 b11 b12 b13 b14 b15 b16 h9 hm => hk (b1, b2, b3, b4, b5, b6, b7, b8, b9, b10, b11, b12, b13, b14, b15, b16) h9 hm)) (a1, a2, a3, a4, a5, a6, a7, a8, a9, a10, a11, a12, a13, a14, a15, a16) h
theorem pk_least (P : Nat → Prop) (h : ∃ k, P k) : ∃ k, P k ∧ ∀ j, j < k → ¬ P j := by
  obtain ⟨k, hk⟩ := h
  induction k using Nat.strongRecOn with
  | ind k ih =>
    by_cases e : ∃ j, j < k ∧ P j
    · obtain ⟨j, hj, pj⟩ := e
      exact ih j hj pj
    · exact ⟨k, hk, fun j hj pj => e ⟨j, hj, pj⟩⟩
theorem rp1 {ρ A1 : Type} (W : Nat → (ρ → Prop) → A1 → Prop) (ok : A1 → Prop) (μ : A1 → Nat) (val : A1 → ρ)
    (hs : ∀ (d : Nat) (post : ρ → Prop) (a1 : A1), ok a1 → post (val a1) → (∀ (post' : ρ → Prop) (b1 : A1), ok b1 → μ b1 < μ a1 → post' (val b1) → W d post' b1) → W (d + 1) post a1) :
    ∀ (d : Nat) (post : ρ → Prop) (a1 : A1), ok a1 → μ a1 < d → post (val a1) → W d post a1 := by
  intro d
  induction d with
  | zero => intro post a1 _ h; omega
  | succ d ih =>
    intro post a1 ho hm hp
    exact hs d post a1 ho hp (fun post' b1 ho' hm' hp' => ih post' b1 ho' (by omega) hp')
theorem rp2 {ρ A1 A2 : Type} (W : Nat → (ρ → Prop) → A1 → A2 → Prop) (ok : A1 → A2 → Prop) (μ : A1 → A2 → Nat) (val : A1 → A2 → ρ)
    (hs : ∀ (d : Nat) (post : ρ → Prop) (a1 : A1) (a2 : A2), ok a1 a2 → post (val a1 a2) → (∀ (post' : ρ → Prop) (b1 : A1) (b2 : A2), ok b1 b2 → μ b1 b2 < μ a1 a2 → post' (val b1 b2) → W d post' b1 b2) → W (d + 1) post a1 a2) :
    ∀ (d : Nat) (post : ρ → Prop) (a1 : A1) (a2 : A2), ok a1 a2 → μ a1 a2 < d → post (val a1 a2) → W d post a1 a2 := by
  intro d
  induction d with
  | zero => intro post a1 a2 _ h; omega
  | succ d ih =>
    intro post a1 a2 ho hm hp
    exact hs d post a1 a2 ho hp (fun post' b1 b2 ho' hm' hp' => ih post' b1 b2 ho' (by omega) hp')
theorem rp3 {ρ A1 A2 A3 : Type} (W : Nat → (ρ → Prop) → A1 → A2 → A3 → Prop) (ok : A1 → A2 → A3 → Prop) (μ : A1 → A2 → A3 → Nat) (val : A1 → A2 → A3 → ρ)
    (hs : ∀ (d : Nat) (post : ρ → Prop) (a1 : A1) (a2 : A2) (a3 : A3), ok a1 a2 a3 → post (val a1 a2 a3) → (∀ (post' : ρ → Prop) (b1 : A1) (b2 : A2) (b3 : A3), ok b1 b2 b3 → μ b1 b2 b3 < μ a1 a2 a3 → post' (val b1 b2 b3) → W d post' b1 b2 b3) → W (d + 1) post a1 a2 a3) :
    ∀ (d : Nat) (post : ρ → Prop) (a1 : A1) (a2 : A2) (a3 : A3), ok a1 a2 a3 → μ a1 a2 a3 < d → post (val a1 a2 a3) → W d post a1 a2 a3 := by
  intro d
  induction d with
  | zero => intro post a1 a2 a3 _ h; omega
  | succ d ih =>
    intro post a1 a2 a3 ho hm hp
    exact hs d post a1 a2 a3 ho hp (fun post' b1 b2 b3 ho' hm' hp' => ih post' b1 b2 b3 ho' (by omega) hp')
theorem rp4 {ρ A1 A2 A3 A4 : Type} (W : Nat → (ρ → Prop) → A1 → A2 → A3 → A4 → Prop) (ok : A1 → A2 → A3 → A4 → Prop) (μ : A1 → A2 → A3 → A4 → Nat) (val : A1 → A2 → A3 → A4 → ρ)
    (hs : ∀ (d : Nat) (post : ρ → Prop) (a1 : A1) (a2 : A2) (a3 : A3) (a4 : A4), ok a1 a2 a3 a4 → post (val a1 a2 a3 a4) → (∀ (post' : ρ → Prop) (b1 : A1) (b2 : A2) (b3 : A3) (b4 : A4), ok b1 b2 b3 b4 → μ b1 b2 b3 b4 < μ a1 a2 a3 a4 → post' (val b1 b2 b3 b4) → W d post' b1 b2 b3 b4) → W (d + 1) post a1 a2 a3 a4) :
    ∀ (d : Nat) (post : ρ → Prop) (a1 : A1) (a2 : A2) (a3 : A3) (a4 : A4), ok a1 a2 a3 a4 → μ a1 a2 a3 a4 < d → post (val a1 a2 a3 a4) → W d post a1 a2 a3 a4 := by
  intro d
  induction d with
  | zero => intro post a1 a2 a3 a4 _ h; omega
  | succ d ih =>
    intro post a1 a2 a3 a4 ho hm hp
    exact hs d post a1 a2 a3 a4 ho hp (fun post' b1 b2 b3 b4 ho' hm' hp' => ih post' b1 b2 b3 b4 ho' (by omega) hp')
theorem rp5 {ρ A1 A2 A3 A4 A5 : Type} (W : Nat → (ρ → Prop) → A1 → A2 → A3 → A4 → A5 → Prop) (ok : A1 → A2 → A3 → A4 → A5 → Prop) (μ : A1 → A2 → A3 → A4 → A5 → Nat) (val : A1 → A2 → A3 → A4 → A5 → ρ)
    (hs : ∀ (d : Nat) (post : ρ → Prop) (a1 : A1) (a2 : A2) (a3 : A3) (a4 : A4) (a5 : A5), ok a1 a2 a3 a4 a5 → post (val a1 a2 a3 a4 a5) → (∀ (post' : ρ → Prop) (b1 : A1) (b2 : A2) (b3 : A3) (b4 : A4) (b5 : A5), ok b1 b2 b3 b4 b5 → μ b1 b2 b3 b4 b5 < μ a1 a2 a3 a4 a5 → post' (val b1 b2 b3 b4 b5) → W d post' b1 b2 b3 b4 b5) → W (d + 1) post a1 a2 a3 a4 a5) :
    ∀ (d : Nat) (post : ρ → Prop) (a1 : A1) (a2 : A2) (a3 : A3) (a4 : A4) (a5 : A5), ok a1 a2 a3 a4 a5 → μ a1 a2 a3 a4 a5 < d → post (val a1 a2 a3 a4 a5) → W d post a1 a2 a3 a4 a5 := by
  intro d
  induction d with
  | zero => intro post a1 a2 a3 a4 a5 _ h; omega
  | succ d ih =>
    intro post a1 a2 a3 a4 a5 ho hm hp
    exact hs d post a1 a2 a3 a4 a5 ho hp (fun post' b1 b2 b3 b4 b5 ho' hm' hp' => ih post' b1 b2 b3 b4 b5 ho' (by omega) hp')
theorem rp6 {ρ A1 A2 A3 A4 A5 A6 : Type} (W : Nat → (ρ → Prop) → A1 → A2 → A3 → A4 → A5 → A6 → Prop) (ok : A1 → A2 → A3 → A4 → A5 → A6 → Prop) (μ : A1 → A2 → A3 → A4 → A5 → A6 → Nat) (val : A1 → A2 → A3 → A4 → A5 → A6 → ρ)
    (hs : ∀ (d : Nat) (post : ρ → Prop) (a1 : A1) (a2 : A2) (a3 : A3) (a4 : A4) (a5 : A5) (a6 : A6), ok a1 a2 a3 a4 a5 a6 → post (val a1 a2 a3 a4 a5 a6) → (∀ (post' : ρ → Prop) (b1 : A1) (b2 : A2) (b3 : A3) (b4 : A4) (b5 : A5) (b6 : A6), ok b1 b2 b3 b4 b5 b6 → μ b1 b2 b3 b4 b5 b6 < μ a1 a2 a3 a4 a5 a6 → post' (val b1 b2 b3 b4 b5 b6) → W d post' b1 b2 b3 b4 b5 b6) → W (d + 1) post a1 a2 a3 a4 a5 a6) :
    ∀ (d : Nat) (post : ρ → Prop) (a1 : A1) (a2 : A2) (a3 : A3) (a4 : A4) (a5 : A5) (a6 : A6), ok a1 a2 a3 a4 a5 a6 → μ a1 a2 a3 a4 a5 a6 < d → post (val a1 a2 a3 a4 a5 a6) → W d post a1 a2 a3 a4 a5 a6 := by
  intro d
  induction d with
  | zero => intro post a1 a2 a3 a4 a5 a6 _ h; omega
  | succ d ih =>
    intro post a1 a2 a3 a4 a5 a6 ho hm hp
    exact hs d post a1 a2 a3 a4 a5 a6 ho hp (fun post' b1 b2 b3 b4 b5 b6 ho' hm' hp' => ih post' b1 b2 b3 b4 b5 b6 ho' (by omega) hp')
theorem rec_p {σ ρ : Type} (W : Nat → (ρ → Prop) → σ → Prop) (ok : σ → Prop) (μ : σ → Nat) (val : σ → ρ)
    (hs : ∀ d s post, ok s → post (val s) → (∀ s' post', ok s' → μ s' < μ s → post' (val s') → W d post' s') → W (d + 1) post s) :
    ∀ d s post, ok s → μ s < d → post (val s) → W d post s := by
  intro d
  induction d with
  | zero => intro s post _ h; omega
  | succ d ih =>
    intro s post ho hm hp
    exact hs d s post ho hp (fun s' post' ho' hm' hp' => ih s' post' ho' (by omega) hp')
theorem rec_q {σ ρ : Type} (W : Nat → (ρ → Prop) → σ → Prop) (ok : σ → Prop) (μ : σ → Nat) (Q : σ → ρ → Prop)
    (hs : ∀ d s post, ok s → (∀ r, Q s r → post r) → (∀ s' post', ok s' → μ s' < μ s → (∀ r, Q s' r → post' r) → W d post' s') → W (d + 1) post s) :
    ∀ d s post, ok s → μ s < d → (∀ r, Q s r → post r) → W d post s := by
  intro d
  induction d with
  | zero => intro s post _ h; omega
  | succ d ih =>
    intro s post ho hm hp
    exact hs d s post ho hp (fun s' post' ho' hm' hp' => ih s' post' ho' (by omega) hp')
def bx_sum (f : Nat → Int32) : Nat → Int32
  | 0 => 0
  | n + 1 => bx_sum f n + f n
theorem ek_u {A : Prop} {B : Nat → Prop} {k N : Nat} (hk : k < N) (h : B k) : (some k = none → A) ∧ (∀ y : Nat, some k = some y → (y < N ∧ B y)) :=
  ⟨fun z => absurd z (Option.some_ne_none k), fun _ e => (by cases e; exact ⟨hk, h⟩)⟩
theorem ek_nu {A : Prop} {B : Nat → Prop} (h : A) : ((none : Option Nat) = none → A) ∧ (∀ y : Nat, (none : Option Nat) = some y → B y) :=
  ⟨fun _ => h, fun _ e => (by cases e)⟩
theorem ek_if {c d A B : Prop} (e : c ↔ d) (f : d → A) (g : ¬ d → B) : (c → A) ∧ (¬ c → B) :=
  ⟨fun z => f (e.mp z), fun z => g (fun y => z (e.mpr y))⟩
theorem ek_v {α : Sort _} {P : α → Prop} {a b : α} (e : a = b) (h : P b) : P a := e ▸ h
theorem co_some {x : Option Nat} {A : Prop} {B : Nat → Prop} (i : Nat) (h : B i) (hx : x = some i := by rfl) : (x = none → A) ∧ (∀ y : Nat, x = some y → B y) := by
  subst hx
  exact ⟨fun e => (nomatch e), fun y e => Option.some.inj e ▸ h⟩
theorem co_none {x : Option Nat} {A : Prop} {B : Nat → Prop} (h : A) (hx : x = none := by rfl) : (x = none → A) ∧ (∀ y : Nat, x = some y → B y) := by
  subst hx
  exact ⟨fun _ => h, fun y e => (nomatch e)⟩
theorem co_any {x : Option Nat} {A : Prop} {B : Nat → Prop} (hn : x = none → A) (hs : ∀ i : Nat, x = some i → B i) : (x = none → A) ∧ (∀ y : Nat, x = some y → B y) := ⟨hn, hs⟩
theorem co_2 {P : Nat → Prop} (h0 : P 0) (h1 : P 1) {i : Nat} (hi : i < 2) : P i :=
  match i, hi with
  | 0, _ => h0
  | 1, _ => h1
theorem co_3 {P : Nat → Prop} (h0 : P 0) (h1 : P 1) (h2 : P 2) {i : Nat} (hi : i < 3) : P i :=
  match i, hi with
  | 0, _ => h0
  | 1, _ => h1
  | 2, _ => h2
theorem co_4 {P : Nat → Prop} (h0 : P 0) (h1 : P 1) (h2 : P 2) (h3 : P 3) {i : Nat} (hi : i < 4) : P i :=
  match i, hi with
  | 0, _ => h0
  | 1, _ => h1
  | 2, _ => h2
  | 3, _ => h3
theorem co_dec {N : Nat} {P : Nat → Prop} [DecidablePred P] (h : (List.range N).all (fun i => decide (P i)) = true) {i : Nat} (hi : i < N) : P i := by
  have := List.all_eq_true.mp h i (List.mem_range.mpr hi)
  exact of_decide_eq_true this
theorem co_tab {α : Type} {l : List α} {d : α} {P : α → Prop} (h : ∀ a, a ∈ l → P a) {i : Nat} (hi : i < l.length) : P (l.getD i d) := by
  rw [List.getD_eq_getElem?_getD, List.getElem?_eq_getElem hi]
  exact h _ (List.getElem_mem hi)
theorem pk_mu {x : Int32} {L : Nat} (h0 : ¬ x < 0) (h : ¬ nI L ≤ x) (hL : L < 2 ^ 31) : ∃ j : Nat, j < L ∧ x = nI j ∧ x + 1 = nI (j + 1) ∧ x.toNatClampNeg = j ∧ L - (x + 1).toNatClampNeg < L - x.toNatClampNeg := by
  obtain ⟨j, hj, rfl⟩ := nI_of h0
  have hl : j < L := Nat.not_le.mp fun q => h (nI_le q hj)
  refine ⟨j, hl, rfl, nI_1 j, nI_clamp hj, ?_⟩
  rw [nI_1, nI_clamp (by omega), nI_clamp hj]
  omega
theorem op_s {α : Type} {r : Option α} {A : Prop} {B : α → Prop} {y : α} (h : r = some y) (b : B y) : (r = none → A) ∧ ∀ z, r = some z → B z :=
  ⟨fun e => (by rw [h] at e; cases e), fun z e => (by rw [h] at e; cases e; exact b)⟩
def l_holds {α : Type} (a : Nat → Option Nat) (LP : List Nat) (p : Nat → α) (c : Nat) (b : Nat → α) : Prop :=
  ∀ j, j < c → ∃ y, a j = some y ∧ y ∈ LP ∧ p y = b j
theorem l_holds_0 {α : Type} {a : Nat → Option Nat} {LP : List Nat} {p b : Nat → α} : l_holds a LP p 0 b := fun j h => absurd h (Nat.not_lt_zero j)
theorem l_in_new (LP : List Nat) (q : Nat) : q ∈ LP ++ [q] := List.mem_append.mpr (Or.inr (List.mem_singleton.mpr rfl))
def l_sum (b : Nat → Int32) : Nat → Int32
  | 0 => 0
  | k + 1 => l_sum b k + b k
theorem sb_shr0 (x : Int32) : x >>> ((0 : Int32) &&& 31) = x := by
  rw [show ((0 : Int32) &&& 31) = 0 by decide]
  simp
theorem sb_shl0 (x : Int32) : x <<< ((0 : Int32) &&& 31) = x := by
  rw [show ((0 : Int32) &&& 31) = 0 by decide]
  simp
theorem sb_cl0 : (0 : Int32).toNatClampNeg = 0 := by decide
theorem sb_m1 {p : Nat} (h : 0 < p) : nI p + (-1) = nI (p - 1) := by
  obtain ⟨q, rfl⟩ : ∃ q, p = q + 1 := ⟨p - 1, by omega⟩
  exact pk_m1 q
def sb_b (c : Nat) : Int32 := (nI c).toInt8.toInt32
theorem sb_byte : ∀ c, c < 256 → sb_b c &&& 255 = nI c ∧ ((nI c).toUInt32 % 65536).toInt32 = nI c ∧ nI c ≤ 255 := by decide +kernel
def sb_Fit (a : Nat → Int32) : Prop := ∀ j, fits .byte (.int (a j)) = true
def sb_Lat (t : Nat → Nat) (n : Nat) (a : Nat → Int32) : Prop := ∀ j, j < n → t j < 256 ∧ a j = sb_b (t j)
theorem sb_fitB (c : Nat) : fits .byte (.int (sb_b c)) = true := pk_fb _
theorem sb_fit0 : sb_Fit (fun _ => 0) := fun _ => by
  show fits .byte (.int 0) = true
  decide
theorem sb_fitU {a : Nat → Int32} {k : Nat} {x : Int32} (h : sb_Fit a) (hx : fits .byte (.int x) = true) : sb_Fit (upd a k x) := by
  intro j
  by_cases e : j = k
  · subst e
    rw [pk_us]
    exact hx
  · rw [pk_un e]
    exact h j
def sb_cat (t : Nat → Nat) (n : Nat) (s : Nat → Nat) : Nat → Nat := fun j => if j < n then t j else s (j - n)
theorem sb_cat_lo {t s : Nat → Nat} {n j : Nat} (h : j < n) : sb_cat t n s j = t j := if_pos h
theorem sb_cat_hi {t s : Nat → Nat} {n j : Nat} : sb_cat t n s (n + j) = s j := by
  show (if n + j < n then t (n + j) else s (n + j - n)) = s j
  rw [if_neg (by omega), Nat.add_sub_cancel_left]
theorem sb_latPut {t s : Nat → Nat} {n w : Nat} {a a' : Nat → Int32} (h : sb_Lat t n a) (hk : ∀ j, j < n → a' j = a j) (hs : ∀ i, i < w → s i < 256 ∧ a' (n + i) = sb_b (s i)) : sb_Lat (sb_cat t n s) (n + w) a' := by
  intro j hj
  by_cases e : j < n
  · rw [sb_cat_lo e, hk j e]
    exact h j e
  · obtain ⟨i, rfl⟩ : ∃ i, j = n + i := ⟨j - n, by omega⟩
    rw [sb_cat_hi]
    exact hs i (by omega)
theorem sb_latKeep {t : Nat → Nat} {n : Nat} {a a' : Nat → Int32} (h : sb_Lat t n a) (hk : ∀ j, j < n → a' j = a j) : sb_Lat t n a' := fun j hj => by
  rw [hk j hj]
  exact h j hj
def sb_cap (q m : Nat) : Nat := if q ≤ m then m else if 2 * m + 2 < q then q else 2 * m + 2
def sb_Room (q m mc ms : Nat) : Prop := q ≤ m ∨ (1 ≤ mc ∧ sb_cap q m ≤ ms ∧ sb_cap q m ≤ 65536)
theorem sb_cap_ge (q m : Nat) : q ≤ sb_cap q m := by
  unfold sb_cap
  split
  · omega
  · split <;> omega
theorem sb_cap_gem (q m : Nat) : m ≤ sb_cap q m := by
  unfold sb_cap
  split
  · omega
  · split <;> omega
theorem sb_cap_le {q m mc ms : Nat} (hm : m ≤ 65536) (hr : sb_Room q m mc ms) : sb_cap q m ≤ 65536 := by
  rcases hr with h | h
  · rw [sb_cap, if_pos h]
    exact hm
  · exact h.2.2
theorem sb_at {P : Int32 → Prop} {x y : Int32} (e : x = y) (h : P y) : P x := e ▸ h
def sb_dg (w : Nat) : Nat := if w < 10 then 1 else if w < 100 then 2 else if w < 1000 then 3 else if w < 10000 then 4 else if w < 100000 then 5 else if w < 1000000 then 6 else if w < 10000000 then 7 else if w < 100000000 then 8 else if w < 1000000000 then 9 else 10
def sb_dec (v : Nat) : Nat → Nat := fun i => 48 + v / 10 ^ (sb_dg v - 1 - i) % 10
theorem sb_dg_in (w : Nat) : 1 ≤ sb_dg w ∧ sb_dg w ≤ 10 := by
  unfold sb_dg
  constructor <;> (repeat' split) <;> omega
theorem sb_dg100 {w : Nat} (h : 100 ≤ w) (hw : w < 2 ^ 31) : sb_dg w = sb_dg (w / 100) + 2 := by
  rw [sb_dg, sb_dg, if_neg (show ¬ w < 10 by omega), if_neg (show ¬ w < 100 by omega)]
  by_cases h3 : w < 1000
  · rw [if_pos h3, if_pos (show w / 100 < 10 by omega)]
  rw [if_neg h3, if_neg (show ¬ w / 100 < 10 by omega)]
  by_cases h4 : w < 10000
  · rw [if_pos h4, if_pos (show w / 100 < 100 by omega)]
  rw [if_neg h4, if_neg (show ¬ w / 100 < 100 by omega)]
  by_cases h5 : w < 100000
  · rw [if_pos h5, if_pos (show w / 100 < 1000 by omega)]
  rw [if_neg h5, if_neg (show ¬ w / 100 < 1000 by omega)]
  by_cases h6 : w < 1000000
  · rw [if_pos h6, if_pos (show w / 100 < 10000 by omega)]
  rw [if_neg h6, if_neg (show ¬ w / 100 < 10000 by omega)]
  by_cases h7 : w < 10000000
  · rw [if_pos h7, if_pos (show w / 100 < 100000 by omega)]
  rw [if_neg h7, if_neg (show ¬ w / 100 < 100000 by omega)]
  by_cases h8 : w < 100000000
  · rw [if_pos h8, if_pos (show w / 100 < 1000000 by omega)]
  rw [if_neg h8, if_neg (show ¬ w / 100 < 1000000 by omega)]
  by_cases h9 : w < 1000000000
  · rw [if_pos h9, if_pos (show w / 100 < 10000000 by omega)]
  rw [if_neg h9, if_neg (show ¬ w / 100 < 10000000 by omega)]
  rw [if_pos (show w / 100 < 100000000 by omega)]
theorem sb_negT {w : Nat} (h : w < 2 ^ 31) : (-nI w).toInt = -(w : Int) := by
  rw [Int32.toInt_neg, nI_toInt h]
  exact Int.bmod_eq_of_le (by omega) (by omega)
theorem sb_nle {a b : Nat} (ha : a < 2 ^ 31) (hb : b < 2 ^ 31) : -nI a ≤ -nI b ↔ b ≤ a := by
  rw [Int32.le_iff_toInt_le, sb_negT ha, sb_negT hb]
  omega
theorem sb_nlt {a b : Nat} (ha : a < 2 ^ 31) (hb : b < 2 ^ 31) : -nI a < -nI b ↔ b < a := by
  rw [Int32.lt_iff_toInt_lt, sb_negT ha, sb_negT hb]
  omega
theorem sb_cmp {A B : Prop} {x : Int32} (v c : Nat) (f : c ≤ v → A) (g : v < c → B) (hv : v < 2 ^ 31) (hx : x = -nI c := by rfl) (hc : c < 2 ^ 31 := by omega) : (-nI v ≤ x → A) ∧ (¬ -nI v ≤ x → B) := by
  subst hx
  rw [sb_nle hv hc]
  exact ⟨f, fun z => g (by omega)⟩
theorem sb_ndiv {w : Nat} (hw : w < 2 ^ 31) : (-nI w) / 100 = -nI (w / 100) := by
  apply Int32.toInt_inj.mp
  have h100 : (100 : Int32).toInt = 100 := by decide
  rw [Int32.toInt_div, sb_negT hw, h100, sb_negT (by omega), Int.neg_tdiv, Int.tdiv_eq_ediv_of_nonneg (by omega), Int.bmod_eq_of_le (by omega) (by omega)]
  omega
theorem sb_nrem {w : Nat} (hw : w < 2 ^ 31) : (-nI (w / 100)) * 100 - (-nI w) = nI (w % 100) := by
  have h := pk_rem (a := w) (d := 100) hw (by decide) (by decide)
  rw [pk_div hw (by decide) (by decide)] at h
  rw [← h]
  show (-nI (w / 100)) * nI 100 - (-nI w) = nI w - nI (w / 100) * nI 100
  rw [Int32.neg_mul, Int32.sub_neg, Int32.add_comm, ← Int32.sub_eq_add_neg]
end
section
def qg_port (u : SX) : Int32 := u.1
def qg_circuit (u : SX) : Int32 := u.2.1
def qg_tidy (u : SX) : Int32 := u.2.2.1
def qg_wires (u : SX) : Int32 := u.2.2.2.1
def qg_fans (u : SX) : Int32 := u.2.2.2.2.1
def qg_joinedMakes (u : SX) : Int32 := u.2.2.2.2.2.1
def qg_joinedLets (u : SX) : Int32 := u.2.2.2.2.2.2.1
def qg_threeSum (u : SX) : Int32 := u.2.2.2.2.2.2.2.1
def qg_threeCarry (u : SX) : Int32 := u.2.2.2.2.2.2.2.2.1
def qg_opLines (u : SX) : Int32 := u.2.2.2.2.2.2.2.2.2.1
def qg_wordD (u : SX) : Int32 := u.2.2.2.2.2.2.2.2.2.2.1
def qg_wordS (u : SX) : Int32 := u.2.2.2.2.2.2.2.2.2.2.2.1
def qg_wordM (u : SX) : Int32 := u.2.2.2.2.2.2.2.2.2.2.2.2.1
def qg_left (u : SX) : Int32 := u.2.2.2.2.2.2.2.2.2.2.2.2.2.1
def qg_right (u : SX) : Int32 := u.2.2.2.2.2.2.2.2.2.2.2.2.2.2.1
def qg_runs (u : SX) : Int32 := u.2.2.2.2.2.2.2.2.2.2.2.2.2.2.2.1
def qg_result (u : SX) : Int32 := u.2.2.2.2.2.2.2.2.2.2.2.2.2.2.2.2.1
def qg_carryOut (u : SX) : Int32 := u.2.2.2.2.2.2.2.2.2.2.2.2.2.2.2.2.2.1
def qg_address (u : SX) : Int32 := u.2.2.2.2.2.2.2.2.2.2.2.2.2.2.2.2.2.2.1
def qg_words (u : SX) : Nat → Int32 := u.2.2.2.2.2.2.2.2.2.2.2.2.2.2.2.2.2.2.2.1
def qg_state (u : SX) : Nat → Int32 := u.2.2.2.2.2.2.2.2.2.2.2.2.2.2.2.2.2.2.2.2.1
def qg_counts (u : SX) : Nat → Int32 := u.2.2.2.2.2.2.2.2.2.2.2.2.2.2.2.2.2.2.2.2.2.1
def qg_kind (u : SX) : Nat → Int32 := u.2.2.2.2.2.2.2.2.2.2.2.2.2.2.2.2.2.2.2.2.2.2.1
def qg_inA (u : SX) : Nat → Int32 := u.2.2.2.2.2.2.2.2.2.2.2.2.2.2.2.2.2.2.2.2.2.2.2.1
def qg_inB (u : SX) : Nat → Int32 := u.2.2.2.2.2.2.2.2.2.2.2.2.2.2.2.2.2.2.2.2.2.2.2.2.1
def qg_inC (u : SX) : Nat → Int32 := u.2.2.2.2.2.2.2.2.2.2.2.2.2.2.2.2.2.2.2.2.2.2.2.2.2.1
def qg_live (u : SX) : Nat → Int32 := u.2.2.2.2.2.2.2.2.2.2.2.2.2.2.2.2.2.2.2.2.2.2.2.2.2.2.1
def qg_level (u : SX) : Nat → Int32 := u.2.2.2.2.2.2.2.2.2.2.2.2.2.2.2.2.2.2.2.2.2.2.2.2.2.2.2.1
def qg_value (u : SX) : Nat → Int32 := u.2.2.2.2.2.2.2.2.2.2.2.2.2.2.2.2.2.2.2.2.2.2.2.2.2.2.2.2.1
def qg_fresh (u : SX) : Nat → Int32 := u.2.2.2.2.2.2.2.2.2.2.2.2.2.2.2.2.2.2.2.2.2.2.2.2.2.2.2.2.2.1
def qg_hashHead (u : SX) : Nat → Int32 := u.2.2.2.2.2.2.2.2.2.2.2.2.2.2.2.2.2.2.2.2.2.2.2.2.2.2.2.2.2.2.1
def qg_hashNext (u : SX) : Nat → Int32 := u.2.2.2.2.2.2.2.2.2.2.2.2.2.2.2.2.2.2.2.2.2.2.2.2.2.2.2.2.2.2.2.1
def qg_wire (u : SX) : Nat → Int32 := u.2.2.2.2.2.2.2.2.2.2.2.2.2.2.2.2.2.2.2.2.2.2.2.2.2.2.2.2.2.2.2.2.1
def qg_fanHead (u : SX) : Nat → Int32 := u.2.2.2.2.2.2.2.2.2.2.2.2.2.2.2.2.2.2.2.2.2.2.2.2.2.2.2.2.2.2.2.2.2.1
def qg_fanNext (u : SX) : Nat → Int32 := u.2.2.2.2.2.2.2.2.2.2.2.2.2.2.2.2.2.2.2.2.2.2.2.2.2.2.2.2.2.2.2.2.2.2.1
def qg_fanGate (u : SX) : Nat → Int32 := u.2.2.2.2.2.2.2.2.2.2.2.2.2.2.2.2.2.2.2.2.2.2.2.2.2.2.2.2.2.2.2.2.2.2.2.1
def qg_waitHead (u : SX) : Nat → Int32 := u.2.2.2.2.2.2.2.2.2.2.2.2.2.2.2.2.2.2.2.2.2.2.2.2.2.2.2.2.2.2.2.2.2.2.2.2.1
def qg_waitNext (u : SX) : Nat → Int32 := u.2.2.2.2.2.2.2.2.2.2.2.2.2.2.2.2.2.2.2.2.2.2.2.2.2.2.2.2.2.2.2.2.2.2.2.2.2.1
def qg_waits (u : SX) : Nat → Int32 := u.2.2.2.2.2.2.2.2.2.2.2.2.2.2.2.2.2.2.2.2.2.2.2.2.2.2.2.2.2.2.2.2.2.2.2.2.2.2
def qs_port (u : SX) (x_port : Int32) : SX := (x_port, u.2.1, u.2.2.1, u.2.2.2.1, u.2.2.2.2.1, u.2.2.2.2.2.1, u.2.2.2.2.2.2.1, u.2.2.2.2.2.2.2.1, u.2.2.2.2.2.2.2.2.1, u.2.2.2.2.2.2.2.2.2.1, u.2.2.2.2.2.2.2.2.2.2.1, u.2.2.2.2.2.2.2.2.2.2.2.1, u.2.2.2.2.2.2.2.2.2.2.2.2.1, u.2.2.2.2.2.2.2.2.2.2.2.2.2.1, u.2.2.2.2.2.2.2.2.2.2.2.2.2.2.1, u.2.2.2.2.2.2.2.2.2.2.2.2.2.2.2.1, u.2.2.2.2.2.2.2.2.2.2.2.2.2.2.2.2.1, u.2.2.2.2.2.2.2.2.2.2.2.2.2.2.2.2.2.1, u.2.2.2.2.2.2.2.2.2.2.2.2.2.2.2.2.2.2.1, u.2.2.2.2.2.2.2.2.2.2.2.2.2.2.2.2.2.2.2.1, u.2.2.2.2.2.2.2.2.2.2.2.2.2.2.2.2.2.2.2.2.1, u.2.2.2.2.2.2.2.2.2.2.2.2.2.2.2.2.2.2.2.2.2.1, u.2.2.2.2.2.2.2.2.2.2.2.2.2.2.2.2.2.2.2.2.2.2.1, u.2.2.2.2.2.2.2.2.2.2.2.2.2.2.2.2.2.2.2.2.2.2.2.1, u.2.2.2.2.2.2.2.2.2.2.2.2.2.2.2.2.2.2.2.2.2.2.2.2.1, u.2.2.2.2.2.2.2.2.2.2.2.2.2.2.2.2.2.2.2.2.2.2.2.2.2.1, u.2.2.2.2.2.2.2.2.2.2.2.2.2.2.2.2.2.2.2.2.2.2.2.2.2.2.1, u.2.2.2.2.2.2.2.2.2.2.2.2.2.2.2.2.2.2.2.2.2.2.2.2.2.2.2.1, u.2.2.2.2.2.2.2.2.2.2.2.2.2.2.2.2.2.2.2.2.2.2.2.2.2.2.2.2.1, u.2.2.2.2.2.2.2.2.2.2.2.2.2.2.2.2.2.2.2.2.2.2.2.2.2.2.2.2.2.1, u.2.2.2.2.2.2.2.2.2.2.2.2.2.2.2.2.2.2.2.2.2.2.2.2.2.2.2.2.2.2.1, u.2.2.2.2.2.2.2.2.2.2.2.2.2.2.2.2.2.2.2.2.2.2.2.2.2.2.2.2.2.2.2.1, u.2.2.2.2.2.2.2.2.2.2.2.2.2.2.2.2.2.2.2.2.2.2.2.2.2.2.2.2.2.2.2.2.1, u.2.2.2.2.2.2.2.2.2.2.2.2.2.2.2.2.2.2.2.2.2.2.2.2.2.2.2.2.2.2.2.2.2.1, u.2.2.2.2.2.2.2.2.2.2.2.2.2.2.2.2.2.2.2.2.2.2.2.2.2.2.2.2.2.2.2.2.2.2.1, u.2.2.2.2.2.2.2.2.2.2.2.2.2.2.2.2.2.2.2.2.2.2.2.2.2.2.2.2.2.2.2.2.2.2.2.1, u.2.2.2.2.2.2.2.2.2.2.2.2.2.2.2.2.2.2.2.2.2.2.2.2.2.2.2.2.2.2.2.2.2.2.2.2.1, u.2.2.2.2.2.2.2.2.2.2.2.2.2.2.2.2.2.2.2.2.2.2.2.2.2.2.2.2.2.2.2.2.2.2.2.2.2.1, u.2.2.2.2.2.2.2.2.2.2.2.2.2.2.2.2.2.2.2.2.2.2.2.2.2.2.2.2.2.2.2.2.2.2.2.2.2.2)
def qs_circuit (u : SX) (x_circuit : Int32) : SX := (u.1, x_circuit, u.2.2.1, u.2.2.2.1, u.2.2.2.2.1, u.2.2.2.2.2.1, u.2.2.2.2.2.2.1, u.2.2.2.2.2.2.2.1, u.2.2.2.2.2.2.2.2.1, u.2.2.2.2.2.2.2.2.2.1, u.2.2.2.2.2.2.2.2.2.2.1, u.2.2.2.2.2.2.2.2.2.2.2.1, u.2.2.2.2.2.2.2.2.2.2.2.2.1, u.2.2.2.2.2.2.2.2.2.2.2.2.2.1, u.2.2.2.2.2.2.2.2.2.2.2.2.2.2.1, u.2.2.2.2.2.2.2.2.2.2.2.2.2.2.2.1, u.2.2.2.2.2.2.2.2.2.2.2.2.2.2.2.2.1, u.2.2.2.2.2.2.2.2.2.2.2.2.2.2.2.2.2.1, u.2.2.2.2.2.2.2.2.2.2.2.2.2.2.2.2.2.2.1, u.2.2.2.2.2.2.2.2.2.2.2.2.2.2.2.2.2.2.2.1, u.2.2.2.2.2.2.2.2.2.2.2.2.2.2.2.2.2.2.2.2.1, u.2.2.2.2.2.2.2.2.2.2.2.2.2.2.2.2.2.2.2.2.2.1, u.2.2.2.2.2.2.2.2.2.2.2.2.2.2.2.2.2.2.2.2.2.2.1, u.2.2.2.2.2.2.2.2.2.2.2.2.2.2.2.2.2.2.2.2.2.2.2.1, u.2.2.2.2.2.2.2.2.2.2.2.2.2.2.2.2.2.2.2.2.2.2.2.2.1, u.2.2.2.2.2.2.2.2.2.2.2.2.2.2.2.2.2.2.2.2.2.2.2.2.2.1, u.2.2.2.2.2.2.2.2.2.2.2.2.2.2.2.2.2.2.2.2.2.2.2.2.2.2.1, u.2.2.2.2.2.2.2.2.2.2.2.2.2.2.2.2.2.2.2.2.2.2.2.2.2.2.2.1, u.2.2.2.2.2.2.2.2.2.2.2.2.2.2.2.2.2.2.2.2.2.2.2.2.2.2.2.2.1, u.2.2.2.2.2.2.2.2.2.2.2.2.2.2.2.2.2.2.2.2.2.2.2.2.2.2.2.2.2.1, u.2.2.2.2.2.2.2.2.2.2.2.2.2.2.2.2.2.2.2.2.2.2.2.2.2.2.2.2.2.2.1, u.2.2.2.2.2.2.2.2.2.2.2.2.2.2.2.2.2.2.2.2.2.2.2.2.2.2.2.2.2.2.2.1, u.2.2.2.2.2.2.2.2.2.2.2.2.2.2.2.2.2.2.2.2.2.2.2.2.2.2.2.2.2.2.2.2.1, u.2.2.2.2.2.2.2.2.2.2.2.2.2.2.2.2.2.2.2.2.2.2.2.2.2.2.2.2.2.2.2.2.2.1, u.2.2.2.2.2.2.2.2.2.2.2.2.2.2.2.2.2.2.2.2.2.2.2.2.2.2.2.2.2.2.2.2.2.2.1, u.2.2.2.2.2.2.2.2.2.2.2.2.2.2.2.2.2.2.2.2.2.2.2.2.2.2.2.2.2.2.2.2.2.2.2.1, u.2.2.2.2.2.2.2.2.2.2.2.2.2.2.2.2.2.2.2.2.2.2.2.2.2.2.2.2.2.2.2.2.2.2.2.2.1, u.2.2.2.2.2.2.2.2.2.2.2.2.2.2.2.2.2.2.2.2.2.2.2.2.2.2.2.2.2.2.2.2.2.2.2.2.2.1, u.2.2.2.2.2.2.2.2.2.2.2.2.2.2.2.2.2.2.2.2.2.2.2.2.2.2.2.2.2.2.2.2.2.2.2.2.2.2)
def qs_tidy (u : SX) (x_tidy : Int32) : SX := (u.1, u.2.1, x_tidy, u.2.2.2.1, u.2.2.2.2.1, u.2.2.2.2.2.1, u.2.2.2.2.2.2.1, u.2.2.2.2.2.2.2.1, u.2.2.2.2.2.2.2.2.1, u.2.2.2.2.2.2.2.2.2.1, u.2.2.2.2.2.2.2.2.2.2.1, u.2.2.2.2.2.2.2.2.2.2.2.1, u.2.2.2.2.2.2.2.2.2.2.2.2.1, u.2.2.2.2.2.2.2.2.2.2.2.2.2.1, u.2.2.2.2.2.2.2.2.2.2.2.2.2.2.1, u.2.2.2.2.2.2.2.2.2.2.2.2.2.2.2.1, u.2.2.2.2.2.2.2.2.2.2.2.2.2.2.2.2.1, u.2.2.2.2.2.2.2.2.2.2.2.2.2.2.2.2.2.1, u.2.2.2.2.2.2.2.2.2.2.2.2.2.2.2.2.2.2.1, u.2.2.2.2.2.2.2.2.2.2.2.2.2.2.2.2.2.2.2.1, u.2.2.2.2.2.2.2.2.2.2.2.2.2.2.2.2.2.2.2.2.1, u.2.2.2.2.2.2.2.2.2.2.2.2.2.2.2.2.2.2.2.2.2.1, u.2.2.2.2.2.2.2.2.2.2.2.2.2.2.2.2.2.2.2.2.2.2.1, u.2.2.2.2.2.2.2.2.2.2.2.2.2.2.2.2.2.2.2.2.2.2.2.1, u.2.2.2.2.2.2.2.2.2.2.2.2.2.2.2.2.2.2.2.2.2.2.2.2.1, u.2.2.2.2.2.2.2.2.2.2.2.2.2.2.2.2.2.2.2.2.2.2.2.2.2.1, u.2.2.2.2.2.2.2.2.2.2.2.2.2.2.2.2.2.2.2.2.2.2.2.2.2.2.1, u.2.2.2.2.2.2.2.2.2.2.2.2.2.2.2.2.2.2.2.2.2.2.2.2.2.2.2.1, u.2.2.2.2.2.2.2.2.2.2.2.2.2.2.2.2.2.2.2.2.2.2.2.2.2.2.2.2.1, u.2.2.2.2.2.2.2.2.2.2.2.2.2.2.2.2.2.2.2.2.2.2.2.2.2.2.2.2.2.1, u.2.2.2.2.2.2.2.2.2.2.2.2.2.2.2.2.2.2.2.2.2.2.2.2.2.2.2.2.2.2.1, u.2.2.2.2.2.2.2.2.2.2.2.2.2.2.2.2.2.2.2.2.2.2.2.2.2.2.2.2.2.2.2.1, u.2.2.2.2.2.2.2.2.2.2.2.2.2.2.2.2.2.2.2.2.2.2.2.2.2.2.2.2.2.2.2.2.1, u.2.2.2.2.2.2.2.2.2.2.2.2.2.2.2.2.2.2.2.2.2.2.2.2.2.2.2.2.2.2.2.2.2.1, u.2.2.2.2.2.2.2.2.2.2.2.2.2.2.2.2.2.2.2.2.2.2.2.2.2.2.2.2.2.2.2.2.2.2.1, u.2.2.2.2.2.2.2.2.2.2.2.2.2.2.2.2.2.2.2.2.2.2.2.2.2.2.2.2.2.2.2.2.2.2.2.1, u.2.2.2.2.2.2.2.2.2.2.2.2.2.2.2.2.2.2.2.2.2.2.2.2.2.2.2.2.2.2.2.2.2.2.2.2.1, u.2.2.2.2.2.2.2.2.2.2.2.2.2.2.2.2.2.2.2.2.2.2.2.2.2.2.2.2.2.2.2.2.2.2.2.2.2.1, u.2.2.2.2.2.2.2.2.2.2.2.2.2.2.2.2.2.2.2.2.2.2.2.2.2.2.2.2.2.2.2.2.2.2.2.2.2.2)
def qs_wires (u : SX) (x_wires : Int32) : SX := (u.1, u.2.1, u.2.2.1, x_wires, u.2.2.2.2.1, u.2.2.2.2.2.1, u.2.2.2.2.2.2.1, u.2.2.2.2.2.2.2.1, u.2.2.2.2.2.2.2.2.1, u.2.2.2.2.2.2.2.2.2.1, u.2.2.2.2.2.2.2.2.2.2.1, u.2.2.2.2.2.2.2.2.2.2.2.1, u.2.2.2.2.2.2.2.2.2.2.2.2.1, u.2.2.2.2.2.2.2.2.2.2.2.2.2.1, u.2.2.2.2.2.2.2.2.2.2.2.2.2.2.1, u.2.2.2.2.2.2.2.2.2.2.2.2.2.2.2.1, u.2.2.2.2.2.2.2.2.2.2.2.2.2.2.2.2.1, u.2.2.2.2.2.2.2.2.2.2.2.2.2.2.2.2.2.1, u.2.2.2.2.2.2.2.2.2.2.2.2.2.2.2.2.2.2.1, u.2.2.2.2.2.2.2.2.2.2.2.2.2.2.2.2.2.2.2.1, u.2.2.2.2.2.2.2.2.2.2.2.2.2.2.2.2.2.2.2.2.1, u.2.2.2.2.2.2.2.2.2.2.2.2.2.2.2.2.2.2.2.2.2.1, u.2.2.2.2.2.2.2.2.2.2.2.2.2.2.2.2.2.2.2.2.2.2.1, u.2.2.2.2.2.2.2.2.2.2.2.2.2.2.2.2.2.2.2.2.2.2.2.1, u.2.2.2.2.2.2.2.2.2.2.2.2.2.2.2.2.2.2.2.2.2.2.2.2.1, u.2.2.2.2.2.2.2.2.2.2.2.2.2.2.2.2.2.2.2.2.2.2.2.2.2.1, u.2.2.2.2.2.2.2.2.2.2.2.2.2.2.2.2.2.2.2.2.2.2.2.2.2.2.1, u.2.2.2.2.2.2.2.2.2.2.2.2.2.2.2.2.2.2.2.2.2.2.2.2.2.2.2.1, u.2.2.2.2.2.2.2.2.2.2.2.2.2.2.2.2.2.2.2.2.2.2.2.2.2.2.2.2.1, u.2.2.2.2.2.2.2.2.2.2.2.2.2.2.2.2.2.2.2.2.2.2.2.2.2.2.2.2.2.1, u.2.2.2.2.2.2.2.2.2.2.2.2.2.2.2.2.2.2.2.2.2.2.2.2.2.2.2.2.2.2.1, u.2.2.2.2.2.2.2.2.2.2.2.2.2.2.2.2.2.2.2.2.2.2.2.2.2.2.2.2.2.2.2.1, u.2.2.2.2.2.2.2.2.2.2.2.2.2.2.2.2.2.2.2.2.2.2.2.2.2.2.2.2.2.2.2.2.1, u.2.2.2.2.2.2.2.2.2.2.2.2.2.2.2.2.2.2.2.2.2.2.2.2.2.2.2.2.2.2.2.2.2.1, u.2.2.2.2.2.2.2.2.2.2.2.2.2.2.2.2.2.2.2.2.2.2.2.2.2.2.2.2.2.2.2.2.2.2.1, u.2.2.2.2.2.2.2.2.2.2.2.2.2.2.2.2.2.2.2.2.2.2.2.2.2.2.2.2.2.2.2.2.2.2.2.1, u.2.2.2.2.2.2.2.2.2.2.2.2.2.2.2.2.2.2.2.2.2.2.2.2.2.2.2.2.2.2.2.2.2.2.2.2.1, u.2.2.2.2.2.2.2.2.2.2.2.2.2.2.2.2.2.2.2.2.2.2.2.2.2.2.2.2.2.2.2.2.2.2.2.2.2.1, u.2.2.2.2.2.2.2.2.2.2.2.2.2.2.2.2.2.2.2.2.2.2.2.2.2.2.2.2.2.2.2.2.2.2.2.2.2.2)
def qs_fans (u : SX) (x_fans : Int32) : SX := (u.1, u.2.1, u.2.2.1, u.2.2.2.1, x_fans, u.2.2.2.2.2.1, u.2.2.2.2.2.2.1, u.2.2.2.2.2.2.2.1, u.2.2.2.2.2.2.2.2.1, u.2.2.2.2.2.2.2.2.2.1, u.2.2.2.2.2.2.2.2.2.2.1, u.2.2.2.2.2.2.2.2.2.2.2.1, u.2.2.2.2.2.2.2.2.2.2.2.2.1, u.2.2.2.2.2.2.2.2.2.2.2.2.2.1, u.2.2.2.2.2.2.2.2.2.2.2.2.2.2.1, u.2.2.2.2.2.2.2.2.2.2.2.2.2.2.2.1, u.2.2.2.2.2.2.2.2.2.2.2.2.2.2.2.2.1, u.2.2.2.2.2.2.2.2.2.2.2.2.2.2.2.2.2.1, u.2.2.2.2.2.2.2.2.2.2.2.2.2.2.2.2.2.2.1, u.2.2.2.2.2.2.2.2.2.2.2.2.2.2.2.2.2.2.2.1, u.2.2.2.2.2.2.2.2.2.2.2.2.2.2.2.2.2.2.2.2.1, u.2.2.2.2.2.2.2.2.2.2.2.2.2.2.2.2.2.2.2.2.2.1, u.2.2.2.2.2.2.2.2.2.2.2.2.2.2.2.2.2.2.2.2.2.2.1, u.2.2.2.2.2.2.2.2.2.2.2.2.2.2.2.2.2.2.2.2.2.2.2.1, u.2.2.2.2.2.2.2.2.2.2.2.2.2.2.2.2.2.2.2.2.2.2.2.2.1, u.2.2.2.2.2.2.2.2.2.2.2.2.2.2.2.2.2.2.2.2.2.2.2.2.2.1, u.2.2.2.2.2.2.2.2.2.2.2.2.2.2.2.2.2.2.2.2.2.2.2.2.2.2.1, u.2.2.2.2.2.2.2.2.2.2.2.2.2.2.2.2.2.2.2.2.2.2.2.2.2.2.2.1, u.2.2.2.2.2.2.2.2.2.2.2.2.2.2.2.2.2.2.2.2.2.2.2.2.2.2.2.2.1, u.2.2.2.2.2.2.2.2.2.2.2.2.2.2.2.2.2.2.2.2.2.2.2.2.2.2.2.2.2.1, u.2.2.2.2.2.2.2.2.2.2.2.2.2.2.2.2.2.2.2.2.2.2.2.2.2.2.2.2.2.2.1, u.2.2.2.2.2.2.2.2.2.2.2.2.2.2.2.2.2.2.2.2.2.2.2.2.2.2.2.2.2.2.2.1, u.2.2.2.2.2.2.2.2.2.2.2.2.2.2.2.2.2.2.2.2.2.2.2.2.2.2.2.2.2.2.2.2.1, u.2.2.2.2.2.2.2.2.2.2.2.2.2.2.2.2.2.2.2.2.2.2.2.2.2.2.2.2.2.2.2.2.2.1, u.2.2.2.2.2.2.2.2.2.2.2.2.2.2.2.2.2.2.2.2.2.2.2.2.2.2.2.2.2.2.2.2.2.2.1, u.2.2.2.2.2.2.2.2.2.2.2.2.2.2.2.2.2.2.2.2.2.2.2.2.2.2.2.2.2.2.2.2.2.2.2.1, u.2.2.2.2.2.2.2.2.2.2.2.2.2.2.2.2.2.2.2.2.2.2.2.2.2.2.2.2.2.2.2.2.2.2.2.2.1, u.2.2.2.2.2.2.2.2.2.2.2.2.2.2.2.2.2.2.2.2.2.2.2.2.2.2.2.2.2.2.2.2.2.2.2.2.2.1, u.2.2.2.2.2.2.2.2.2.2.2.2.2.2.2.2.2.2.2.2.2.2.2.2.2.2.2.2.2.2.2.2.2.2.2.2.2.2)
def qs_joinedMakes (u : SX) (x_joinedMakes : Int32) : SX := (u.1, u.2.1, u.2.2.1, u.2.2.2.1, u.2.2.2.2.1, x_joinedMakes, u.2.2.2.2.2.2.1, u.2.2.2.2.2.2.2.1, u.2.2.2.2.2.2.2.2.1, u.2.2.2.2.2.2.2.2.2.1, u.2.2.2.2.2.2.2.2.2.2.1, u.2.2.2.2.2.2.2.2.2.2.2.1, u.2.2.2.2.2.2.2.2.2.2.2.2.1, u.2.2.2.2.2.2.2.2.2.2.2.2.2.1, u.2.2.2.2.2.2.2.2.2.2.2.2.2.2.1, u.2.2.2.2.2.2.2.2.2.2.2.2.2.2.2.1, u.2.2.2.2.2.2.2.2.2.2.2.2.2.2.2.2.1, u.2.2.2.2.2.2.2.2.2.2.2.2.2.2.2.2.2.1, u.2.2.2.2.2.2.2.2.2.2.2.2.2.2.2.2.2.2.1, u.2.2.2.2.2.2.2.2.2.2.2.2.2.2.2.2.2.2.2.1, u.2.2.2.2.2.2.2.2.2.2.2.2.2.2.2.2.2.2.2.2.1, u.2.2.2.2.2.2.2.2.2.2.2.2.2.2.2.2.2.2.2.2.2.1, u.2.2.2.2.2.2.2.2.2.2.2.2.2.2.2.2.2.2.2.2.2.2.1, u.2.2.2.2.2.2.2.2.2.2.2.2.2.2.2.2.2.2.2.2.2.2.2.1, u.2.2.2.2.2.2.2.2.2.2.2.2.2.2.2.2.2.2.2.2.2.2.2.2.1, u.2.2.2.2.2.2.2.2.2.2.2.2.2.2.2.2.2.2.2.2.2.2.2.2.2.1, u.2.2.2.2.2.2.2.2.2.2.2.2.2.2.2.2.2.2.2.2.2.2.2.2.2.2.1, u.2.2.2.2.2.2.2.2.2.2.2.2.2.2.2.2.2.2.2.2.2.2.2.2.2.2.2.1, u.2.2.2.2.2.2.2.2.2.2.2.2.2.2.2.2.2.2.2.2.2.2.2.2.2.2.2.2.1, u.2.2.2.2.2.2.2.2.2.2.2.2.2.2.2.2.2.2.2.2.2.2.2.2.2.2.2.2.2.1, u.2.2.2.2.2.2.2.2.2.2.2.2.2.2.2.2.2.2.2.2.2.2.2.2.2.2.2.2.2.2.1, u.2.2.2.2.2.2.2.2.2.2.2.2.2.2.2.2.2.2.2.2.2.2.2.2.2.2.2.2.2.2.2.1, u.2.2.2.2.2.2.2.2.2.2.2.2.2.2.2.2.2.2.2.2.2.2.2.2.2.2.2.2.2.2.2.2.1, u.2.2.2.2.2.2.2.2.2.2.2.2.2.2.2.2.2.2.2.2.2.2.2.2.2.2.2.2.2.2.2.2.2.1, u.2.2.2.2.2.2.2.2.2.2.2.2.2.2.2.2.2.2.2.2.2.2.2.2.2.2.2.2.2.2.2.2.2.2.1, u.2.2.2.2.2.2.2.2.2.2.2.2.2.2.2.2.2.2.2.2.2.2.2.2.2.2.2.2.2.2.2.2.2.2.2.1, u.2.2.2.2.2.2.2.2.2.2.2.2.2.2.2.2.2.2.2.2.2.2.2.2.2.2.2.2.2.2.2.2.2.2.2.2.1, u.2.2.2.2.2.2.2.2.2.2.2.2.2.2.2.2.2.2.2.2.2.2.2.2.2.2.2.2.2.2.2.2.2.2.2.2.2.1, u.2.2.2.2.2.2.2.2.2.2.2.2.2.2.2.2.2.2.2.2.2.2.2.2.2.2.2.2.2.2.2.2.2.2.2.2.2.2)
def qs_joinedLets (u : SX) (x_joinedLets : Int32) : SX := (u.1, u.2.1, u.2.2.1, u.2.2.2.1, u.2.2.2.2.1, u.2.2.2.2.2.1, x_joinedLets, u.2.2.2.2.2.2.2.1, u.2.2.2.2.2.2.2.2.1, u.2.2.2.2.2.2.2.2.2.1, u.2.2.2.2.2.2.2.2.2.2.1, u.2.2.2.2.2.2.2.2.2.2.2.1, u.2.2.2.2.2.2.2.2.2.2.2.2.1, u.2.2.2.2.2.2.2.2.2.2.2.2.2.1, u.2.2.2.2.2.2.2.2.2.2.2.2.2.2.1, u.2.2.2.2.2.2.2.2.2.2.2.2.2.2.2.1, u.2.2.2.2.2.2.2.2.2.2.2.2.2.2.2.2.1, u.2.2.2.2.2.2.2.2.2.2.2.2.2.2.2.2.2.1, u.2.2.2.2.2.2.2.2.2.2.2.2.2.2.2.2.2.2.1, u.2.2.2.2.2.2.2.2.2.2.2.2.2.2.2.2.2.2.2.1, u.2.2.2.2.2.2.2.2.2.2.2.2.2.2.2.2.2.2.2.2.1, u.2.2.2.2.2.2.2.2.2.2.2.2.2.2.2.2.2.2.2.2.2.1, u.2.2.2.2.2.2.2.2.2.2.2.2.2.2.2.2.2.2.2.2.2.2.1, u.2.2.2.2.2.2.2.2.2.2.2.2.2.2.2.2.2.2.2.2.2.2.2.1, u.2.2.2.2.2.2.2.2.2.2.2.2.2.2.2.2.2.2.2.2.2.2.2.2.1, u.2.2.2.2.2.2.2.2.2.2.2.2.2.2.2.2.2.2.2.2.2.2.2.2.2.1, u.2.2.2.2.2.2.2.2.2.2.2.2.2.2.2.2.2.2.2.2.2.2.2.2.2.2.1, u.2.2.2.2.2.2.2.2.2.2.2.2.2.2.2.2.2.2.2.2.2.2.2.2.2.2.2.1, u.2.2.2.2.2.2.2.2.2.2.2.2.2.2.2.2.2.2.2.2.2.2.2.2.2.2.2.2.1, u.2.2.2.2.2.2.2.2.2.2.2.2.2.2.2.2.2.2.2.2.2.2.2.2.2.2.2.2.2.1, u.2.2.2.2.2.2.2.2.2.2.2.2.2.2.2.2.2.2.2.2.2.2.2.2.2.2.2.2.2.2.1, u.2.2.2.2.2.2.2.2.2.2.2.2.2.2.2.2.2.2.2.2.2.2.2.2.2.2.2.2.2.2.2.1, u.2.2.2.2.2.2.2.2.2.2.2.2.2.2.2.2.2.2.2.2.2.2.2.2.2.2.2.2.2.2.2.2.1, u.2.2.2.2.2.2.2.2.2.2.2.2.2.2.2.2.2.2.2.2.2.2.2.2.2.2.2.2.2.2.2.2.2.1, u.2.2.2.2.2.2.2.2.2.2.2.2.2.2.2.2.2.2.2.2.2.2.2.2.2.2.2.2.2.2.2.2.2.2.1, u.2.2.2.2.2.2.2.2.2.2.2.2.2.2.2.2.2.2.2.2.2.2.2.2.2.2.2.2.2.2.2.2.2.2.2.1, u.2.2.2.2.2.2.2.2.2.2.2.2.2.2.2.2.2.2.2.2.2.2.2.2.2.2.2.2.2.2.2.2.2.2.2.2.1, u.2.2.2.2.2.2.2.2.2.2.2.2.2.2.2.2.2.2.2.2.2.2.2.2.2.2.2.2.2.2.2.2.2.2.2.2.2.1, u.2.2.2.2.2.2.2.2.2.2.2.2.2.2.2.2.2.2.2.2.2.2.2.2.2.2.2.2.2.2.2.2.2.2.2.2.2.2)
def qs_threeSum (u : SX) (x_threeSum : Int32) : SX := (u.1, u.2.1, u.2.2.1, u.2.2.2.1, u.2.2.2.2.1, u.2.2.2.2.2.1, u.2.2.2.2.2.2.1, x_threeSum, u.2.2.2.2.2.2.2.2.1, u.2.2.2.2.2.2.2.2.2.1, u.2.2.2.2.2.2.2.2.2.2.1, u.2.2.2.2.2.2.2.2.2.2.2.1, u.2.2.2.2.2.2.2.2.2.2.2.2.1, u.2.2.2.2.2.2.2.2.2.2.2.2.2.1, u.2.2.2.2.2.2.2.2.2.2.2.2.2.2.1, u.2.2.2.2.2.2.2.2.2.2.2.2.2.2.2.1, u.2.2.2.2.2.2.2.2.2.2.2.2.2.2.2.2.1, u.2.2.2.2.2.2.2.2.2.2.2.2.2.2.2.2.2.1, u.2.2.2.2.2.2.2.2.2.2.2.2.2.2.2.2.2.2.1, u.2.2.2.2.2.2.2.2.2.2.2.2.2.2.2.2.2.2.2.1, u.2.2.2.2.2.2.2.2.2.2.2.2.2.2.2.2.2.2.2.2.1, u.2.2.2.2.2.2.2.2.2.2.2.2.2.2.2.2.2.2.2.2.2.1, u.2.2.2.2.2.2.2.2.2.2.2.2.2.2.2.2.2.2.2.2.2.2.1, u.2.2.2.2.2.2.2.2.2.2.2.2.2.2.2.2.2.2.2.2.2.2.2.1, u.2.2.2.2.2.2.2.2.2.2.2.2.2.2.2.2.2.2.2.2.2.2.2.2.1, u.2.2.2.2.2.2.2.2.2.2.2.2.2.2.2.2.2.2.2.2.2.2.2.2.2.1, u.2.2.2.2.2.2.2.2.2.2.2.2.2.2.2.2.2.2.2.2.2.2.2.2.2.2.1, u.2.2.2.2.2.2.2.2.2.2.2.2.2.2.2.2.2.2.2.2.2.2.2.2.2.2.2.1, u.2.2.2.2.2.2.2.2.2.2.2.2.2.2.2.2.2.2.2.2.2.2.2.2.2.2.2.2.1, u.2.2.2.2.2.2.2.2.2.2.2.2.2.2.2.2.2.2.2.2.2.2.2.2.2.2.2.2.2.1, u.2.2.2.2.2.2.2.2.2.2.2.2.2.2.2.2.2.2.2.2.2.2.2.2.2.2.2.2.2.2.1, u.2.2.2.2.2.2.2.2.2.2.2.2.2.2.2.2.2.2.2.2.2.2.2.2.2.2.2.2.2.2.2.1, u.2.2.2.2.2.2.2.2.2.2.2.2.2.2.2.2.2.2.2.2.2.2.2.2.2.2.2.2.2.2.2.2.1, u.2.2.2.2.2.2.2.2.2.2.2.2.2.2.2.2.2.2.2.2.2.2.2.2.2.2.2.2.2.2.2.2.2.1, u.2.2.2.2.2.2.2.2.2.2.2.2.2.2.2.2.2.2.2.2.2.2.2.2.2.2.2.2.2.2.2.2.2.2.1, u.2.2.2.2.2.2.2.2.2.2.2.2.2.2.2.2.2.2.2.2.2.2.2.2.2.2.2.2.2.2.2.2.2.2.2.1, u.2.2.2.2.2.2.2.2.2.2.2.2.2.2.2.2.2.2.2.2.2.2.2.2.2.2.2.2.2.2.2.2.2.2.2.2.1, u.2.2.2.2.2.2.2.2.2.2.2.2.2.2.2.2.2.2.2.2.2.2.2.2.2.2.2.2.2.2.2.2.2.2.2.2.2.1, u.2.2.2.2.2.2.2.2.2.2.2.2.2.2.2.2.2.2.2.2.2.2.2.2.2.2.2.2.2.2.2.2.2.2.2.2.2.2)
def qs_threeCarry (u : SX) (x_threeCarry : Int32) : SX := (u.1, u.2.1, u.2.2.1, u.2.2.2.1, u.2.2.2.2.1, u.2.2.2.2.2.1, u.2.2.2.2.2.2.1, u.2.2.2.2.2.2.2.1, x_threeCarry, u.2.2.2.2.2.2.2.2.2.1, u.2.2.2.2.2.2.2.2.2.2.1, u.2.2.2.2.2.2.2.2.2.2.2.1, u.2.2.2.2.2.2.2.2.2.2.2.2.1, u.2.2.2.2.2.2.2.2.2.2.2.2.2.1, u.2.2.2.2.2.2.2.2.2.2.2.2.2.2.1, u.2.2.2.2.2.2.2.2.2.2.2.2.2.2.2.1, u.2.2.2.2.2.2.2.2.2.2.2.2.2.2.2.2.1, u.2.2.2.2.2.2.2.2.2.2.2.2.2.2.2.2.2.1, u.2.2.2.2.2.2.2.2.2.2.2.2.2.2.2.2.2.2.1, u.2.2.2.2.2.2.2.2.2.2.2.2.2.2.2.2.2.2.2.1, u.2.2.2.2.2.2.2.2.2.2.2.2.2.2.2.2.2.2.2.2.1, u.2.2.2.2.2.2.2.2.2.2.2.2.2.2.2.2.2.2.2.2.2.1, u.2.2.2.2.2.2.2.2.2.2.2.2.2.2.2.2.2.2.2.2.2.2.1, u.2.2.2.2.2.2.2.2.2.2.2.2.2.2.2.2.2.2.2.2.2.2.2.1, u.2.2.2.2.2.2.2.2.2.2.2.2.2.2.2.2.2.2.2.2.2.2.2.2.1, u.2.2.2.2.2.2.2.2.2.2.2.2.2.2.2.2.2.2.2.2.2.2.2.2.2.1, u.2.2.2.2.2.2.2.2.2.2.2.2.2.2.2.2.2.2.2.2.2.2.2.2.2.2.1, u.2.2.2.2.2.2.2.2.2.2.2.2.2.2.2.2.2.2.2.2.2.2.2.2.2.2.2.1, u.2.2.2.2.2.2.2.2.2.2.2.2.2.2.2.2.2.2.2.2.2.2.2.2.2.2.2.2.1, u.2.2.2.2.2.2.2.2.2.2.2.2.2.2.2.2.2.2.2.2.2.2.2.2.2.2.2.2.2.1, u.2.2.2.2.2.2.2.2.2.2.2.2.2.2.2.2.2.2.2.2.2.2.2.2.2.2.2.2.2.2.1, u.2.2.2.2.2.2.2.2.2.2.2.2.2.2.2.2.2.2.2.2.2.2.2.2.2.2.2.2.2.2.2.1, u.2.2.2.2.2.2.2.2.2.2.2.2.2.2.2.2.2.2.2.2.2.2.2.2.2.2.2.2.2.2.2.2.1, u.2.2.2.2.2.2.2.2.2.2.2.2.2.2.2.2.2.2.2.2.2.2.2.2.2.2.2.2.2.2.2.2.2.1, u.2.2.2.2.2.2.2.2.2.2.2.2.2.2.2.2.2.2.2.2.2.2.2.2.2.2.2.2.2.2.2.2.2.2.1, u.2.2.2.2.2.2.2.2.2.2.2.2.2.2.2.2.2.2.2.2.2.2.2.2.2.2.2.2.2.2.2.2.2.2.2.1, u.2.2.2.2.2.2.2.2.2.2.2.2.2.2.2.2.2.2.2.2.2.2.2.2.2.2.2.2.2.2.2.2.2.2.2.2.1, u.2.2.2.2.2.2.2.2.2.2.2.2.2.2.2.2.2.2.2.2.2.2.2.2.2.2.2.2.2.2.2.2.2.2.2.2.2.1, u.2.2.2.2.2.2.2.2.2.2.2.2.2.2.2.2.2.2.2.2.2.2.2.2.2.2.2.2.2.2.2.2.2.2.2.2.2.2)
def qs_opLines (u : SX) (x_opLines : Int32) : SX := (u.1, u.2.1, u.2.2.1, u.2.2.2.1, u.2.2.2.2.1, u.2.2.2.2.2.1, u.2.2.2.2.2.2.1, u.2.2.2.2.2.2.2.1, u.2.2.2.2.2.2.2.2.1, x_opLines, u.2.2.2.2.2.2.2.2.2.2.1, u.2.2.2.2.2.2.2.2.2.2.2.1, u.2.2.2.2.2.2.2.2.2.2.2.2.1, u.2.2.2.2.2.2.2.2.2.2.2.2.2.1, u.2.2.2.2.2.2.2.2.2.2.2.2.2.2.1, u.2.2.2.2.2.2.2.2.2.2.2.2.2.2.2.1, u.2.2.2.2.2.2.2.2.2.2.2.2.2.2.2.2.1, u.2.2.2.2.2.2.2.2.2.2.2.2.2.2.2.2.2.1, u.2.2.2.2.2.2.2.2.2.2.2.2.2.2.2.2.2.2.1, u.2.2.2.2.2.2.2.2.2.2.2.2.2.2.2.2.2.2.2.1, u.2.2.2.2.2.2.2.2.2.2.2.2.2.2.2.2.2.2.2.2.1, u.2.2.2.2.2.2.2.2.2.2.2.2.2.2.2.2.2.2.2.2.2.1, u.2.2.2.2.2.2.2.2.2.2.2.2.2.2.2.2.2.2.2.2.2.2.1, u.2.2.2.2.2.2.2.2.2.2.2.2.2.2.2.2.2.2.2.2.2.2.2.1, u.2.2.2.2.2.2.2.2.2.2.2.2.2.2.2.2.2.2.2.2.2.2.2.2.1, u.2.2.2.2.2.2.2.2.2.2.2.2.2.2.2.2.2.2.2.2.2.2.2.2.2.1, u.2.2.2.2.2.2.2.2.2.2.2.2.2.2.2.2.2.2.2.2.2.2.2.2.2.2.1, u.2.2.2.2.2.2.2.2.2.2.2.2.2.2.2.2.2.2.2.2.2.2.2.2.2.2.2.1, u.2.2.2.2.2.2.2.2.2.2.2.2.2.2.2.2.2.2.2.2.2.2.2.2.2.2.2.2.1, u.2.2.2.2.2.2.2.2.2.2.2.2.2.2.2.2.2.2.2.2.2.2.2.2.2.2.2.2.2.1, u.2.2.2.2.2.2.2.2.2.2.2.2.2.2.2.2.2.2.2.2.2.2.2.2.2.2.2.2.2.2.1, u.2.2.2.2.2.2.2.2.2.2.2.2.2.2.2.2.2.2.2.2.2.2.2.2.2.2.2.2.2.2.2.1, u.2.2.2.2.2.2.2.2.2.2.2.2.2.2.2.2.2.2.2.2.2.2.2.2.2.2.2.2.2.2.2.2.1, u.2.2.2.2.2.2.2.2.2.2.2.2.2.2.2.2.2.2.2.2.2.2.2.2.2.2.2.2.2.2.2.2.2.1, u.2.2.2.2.2.2.2.2.2.2.2.2.2.2.2.2.2.2.2.2.2.2.2.2.2.2.2.2.2.2.2.2.2.2.1, u.2.2.2.2.2.2.2.2.2.2.2.2.2.2.2.2.2.2.2.2.2.2.2.2.2.2.2.2.2.2.2.2.2.2.2.1, u.2.2.2.2.2.2.2.2.2.2.2.2.2.2.2.2.2.2.2.2.2.2.2.2.2.2.2.2.2.2.2.2.2.2.2.2.1, u.2.2.2.2.2.2.2.2.2.2.2.2.2.2.2.2.2.2.2.2.2.2.2.2.2.2.2.2.2.2.2.2.2.2.2.2.2.1, u.2.2.2.2.2.2.2.2.2.2.2.2.2.2.2.2.2.2.2.2.2.2.2.2.2.2.2.2.2.2.2.2.2.2.2.2.2.2)
def qs_wordD (u : SX) (x_wordD : Int32) : SX := (u.1, u.2.1, u.2.2.1, u.2.2.2.1, u.2.2.2.2.1, u.2.2.2.2.2.1, u.2.2.2.2.2.2.1, u.2.2.2.2.2.2.2.1, u.2.2.2.2.2.2.2.2.1, u.2.2.2.2.2.2.2.2.2.1, x_wordD, u.2.2.2.2.2.2.2.2.2.2.2.1, u.2.2.2.2.2.2.2.2.2.2.2.2.1, u.2.2.2.2.2.2.2.2.2.2.2.2.2.1, u.2.2.2.2.2.2.2.2.2.2.2.2.2.2.1, u.2.2.2.2.2.2.2.2.2.2.2.2.2.2.2.1, u.2.2.2.2.2.2.2.2.2.2.2.2.2.2.2.2.1, u.2.2.2.2.2.2.2.2.2.2.2.2.2.2.2.2.2.1, u.2.2.2.2.2.2.2.2.2.2.2.2.2.2.2.2.2.2.1, u.2.2.2.2.2.2.2.2.2.2.2.2.2.2.2.2.2.2.2.1, u.2.2.2.2.2.2.2.2.2.2.2.2.2.2.2.2.2.2.2.2.1, u.2.2.2.2.2.2.2.2.2.2.2.2.2.2.2.2.2.2.2.2.2.1, u.2.2.2.2.2.2.2.2.2.2.2.2.2.2.2.2.2.2.2.2.2.2.1, u.2.2.2.2.2.2.2.2.2.2.2.2.2.2.2.2.2.2.2.2.2.2.2.1, u.2.2.2.2.2.2.2.2.2.2.2.2.2.2.2.2.2.2.2.2.2.2.2.2.1, u.2.2.2.2.2.2.2.2.2.2.2.2.2.2.2.2.2.2.2.2.2.2.2.2.2.1, u.2.2.2.2.2.2.2.2.2.2.2.2.2.2.2.2.2.2.2.2.2.2.2.2.2.2.1, u.2.2.2.2.2.2.2.2.2.2.2.2.2.2.2.2.2.2.2.2.2.2.2.2.2.2.2.1, u.2.2.2.2.2.2.2.2.2.2.2.2.2.2.2.2.2.2.2.2.2.2.2.2.2.2.2.2.1, u.2.2.2.2.2.2.2.2.2.2.2.2.2.2.2.2.2.2.2.2.2.2.2.2.2.2.2.2.2.1, u.2.2.2.2.2.2.2.2.2.2.2.2.2.2.2.2.2.2.2.2.2.2.2.2.2.2.2.2.2.2.1, u.2.2.2.2.2.2.2.2.2.2.2.2.2.2.2.2.2.2.2.2.2.2.2.2.2.2.2.2.2.2.2.1, u.2.2.2.2.2.2.2.2.2.2.2.2.2.2.2.2.2.2.2.2.2.2.2.2.2.2.2.2.2.2.2.2.1, u.2.2.2.2.2.2.2.2.2.2.2.2.2.2.2.2.2.2.2.2.2.2.2.2.2.2.2.2.2.2.2.2.2.1, u.2.2.2.2.2.2.2.2.2.2.2.2.2.2.2.2.2.2.2.2.2.2.2.2.2.2.2.2.2.2.2.2.2.2.1, u.2.2.2.2.2.2.2.2.2.2.2.2.2.2.2.2.2.2.2.2.2.2.2.2.2.2.2.2.2.2.2.2.2.2.2.1, u.2.2.2.2.2.2.2.2.2.2.2.2.2.2.2.2.2.2.2.2.2.2.2.2.2.2.2.2.2.2.2.2.2.2.2.2.1, u.2.2.2.2.2.2.2.2.2.2.2.2.2.2.2.2.2.2.2.2.2.2.2.2.2.2.2.2.2.2.2.2.2.2.2.2.2.1, u.2.2.2.2.2.2.2.2.2.2.2.2.2.2.2.2.2.2.2.2.2.2.2.2.2.2.2.2.2.2.2.2.2.2.2.2.2.2)
def qs_wordS (u : SX) (x_wordS : Int32) : SX := (u.1, u.2.1, u.2.2.1, u.2.2.2.1, u.2.2.2.2.1, u.2.2.2.2.2.1, u.2.2.2.2.2.2.1, u.2.2.2.2.2.2.2.1, u.2.2.2.2.2.2.2.2.1, u.2.2.2.2.2.2.2.2.2.1, u.2.2.2.2.2.2.2.2.2.2.1, x_wordS, u.2.2.2.2.2.2.2.2.2.2.2.2.1, u.2.2.2.2.2.2.2.2.2.2.2.2.2.1, u.2.2.2.2.2.2.2.2.2.2.2.2.2.2.1, u.2.2.2.2.2.2.2.2.2.2.2.2.2.2.2.1, u.2.2.2.2.2.2.2.2.2.2.2.2.2.2.2.2.1, u.2.2.2.2.2.2.2.2.2.2.2.2.2.2.2.2.2.1, u.2.2.2.2.2.2.2.2.2.2.2.2.2.2.2.2.2.2.1, u.2.2.2.2.2.2.2.2.2.2.2.2.2.2.2.2.2.2.2.1, u.2.2.2.2.2.2.2.2.2.2.2.2.2.2.2.2.2.2.2.2.1, u.2.2.2.2.2.2.2.2.2.2.2.2.2.2.2.2.2.2.2.2.2.1, u.2.2.2.2.2.2.2.2.2.2.2.2.2.2.2.2.2.2.2.2.2.2.1, u.2.2.2.2.2.2.2.2.2.2.2.2.2.2.2.2.2.2.2.2.2.2.2.1, u.2.2.2.2.2.2.2.2.2.2.2.2.2.2.2.2.2.2.2.2.2.2.2.2.1, u.2.2.2.2.2.2.2.2.2.2.2.2.2.2.2.2.2.2.2.2.2.2.2.2.2.1, u.2.2.2.2.2.2.2.2.2.2.2.2.2.2.2.2.2.2.2.2.2.2.2.2.2.2.1, u.2.2.2.2.2.2.2.2.2.2.2.2.2.2.2.2.2.2.2.2.2.2.2.2.2.2.2.1, u.2.2.2.2.2.2.2.2.2.2.2.2.2.2.2.2.2.2.2.2.2.2.2.2.2.2.2.2.1, u.2.2.2.2.2.2.2.2.2.2.2.2.2.2.2.2.2.2.2.2.2.2.2.2.2.2.2.2.2.1, u.2.2.2.2.2.2.2.2.2.2.2.2.2.2.2.2.2.2.2.2.2.2.2.2.2.2.2.2.2.2.1, u.2.2.2.2.2.2.2.2.2.2.2.2.2.2.2.2.2.2.2.2.2.2.2.2.2.2.2.2.2.2.2.1, u.2.2.2.2.2.2.2.2.2.2.2.2.2.2.2.2.2.2.2.2.2.2.2.2.2.2.2.2.2.2.2.2.1, u.2.2.2.2.2.2.2.2.2.2.2.2.2.2.2.2.2.2.2.2.2.2.2.2.2.2.2.2.2.2.2.2.2.1, u.2.2.2.2.2.2.2.2.2.2.2.2.2.2.2.2.2.2.2.2.2.2.2.2.2.2.2.2.2.2.2.2.2.2.1, u.2.2.2.2.2.2.2.2.2.2.2.2.2.2.2.2.2.2.2.2.2.2.2.2.2.2.2.2.2.2.2.2.2.2.2.1, u.2.2.2.2.2.2.2.2.2.2.2.2.2.2.2.2.2.2.2.2.2.2.2.2.2.2.2.2.2.2.2.2.2.2.2.2.1, u.2.2.2.2.2.2.2.2.2.2.2.2.2.2.2.2.2.2.2.2.2.2.2.2.2.2.2.2.2.2.2.2.2.2.2.2.2.1, u.2.2.2.2.2.2.2.2.2.2.2.2.2.2.2.2.2.2.2.2.2.2.2.2.2.2.2.2.2.2.2.2.2.2.2.2.2.2)
def qs_wordM (u : SX) (x_wordM : Int32) : SX := (u.1, u.2.1, u.2.2.1, u.2.2.2.1, u.2.2.2.2.1, u.2.2.2.2.2.1, u.2.2.2.2.2.2.1, u.2.2.2.2.2.2.2.1, u.2.2.2.2.2.2.2.2.1, u.2.2.2.2.2.2.2.2.2.1, u.2.2.2.2.2.2.2.2.2.2.1, u.2.2.2.2.2.2.2.2.2.2.2.1, x_wordM, u.2.2.2.2.2.2.2.2.2.2.2.2.2.1, u.2.2.2.2.2.2.2.2.2.2.2.2.2.2.1, u.2.2.2.2.2.2.2.2.2.2.2.2.2.2.2.1, u.2.2.2.2.2.2.2.2.2.2.2.2.2.2.2.2.1, u.2.2.2.2.2.2.2.2.2.2.2.2.2.2.2.2.2.1, u.2.2.2.2.2.2.2.2.2.2.2.2.2.2.2.2.2.2.1, u.2.2.2.2.2.2.2.2.2.2.2.2.2.2.2.2.2.2.2.1, u.2.2.2.2.2.2.2.2.2.2.2.2.2.2.2.2.2.2.2.2.1, u.2.2.2.2.2.2.2.2.2.2.2.2.2.2.2.2.2.2.2.2.2.1, u.2.2.2.2.2.2.2.2.2.2.2.2.2.2.2.2.2.2.2.2.2.2.1, u.2.2.2.2.2.2.2.2.2.2.2.2.2.2.2.2.2.2.2.2.2.2.2.1, u.2.2.2.2.2.2.2.2.2.2.2.2.2.2.2.2.2.2.2.2.2.2.2.2.1, u.2.2.2.2.2.2.2.2.2.2.2.2.2.2.2.2.2.2.2.2.2.2.2.2.2.1, u.2.2.2.2.2.2.2.2.2.2.2.2.2.2.2.2.2.2.2.2.2.2.2.2.2.2.1, u.2.2.2.2.2.2.2.2.2.2.2.2.2.2.2.2.2.2.2.2.2.2.2.2.2.2.2.1, u.2.2.2.2.2.2.2.2.2.2.2.2.2.2.2.2.2.2.2.2.2.2.2.2.2.2.2.2.1, u.2.2.2.2.2.2.2.2.2.2.2.2.2.2.2.2.2.2.2.2.2.2.2.2.2.2.2.2.2.1, u.2.2.2.2.2.2.2.2.2.2.2.2.2.2.2.2.2.2.2.2.2.2.2.2.2.2.2.2.2.2.1, u.2.2.2.2.2.2.2.2.2.2.2.2.2.2.2.2.2.2.2.2.2.2.2.2.2.2.2.2.2.2.2.1, u.2.2.2.2.2.2.2.2.2.2.2.2.2.2.2.2.2.2.2.2.2.2.2.2.2.2.2.2.2.2.2.2.1, u.2.2.2.2.2.2.2.2.2.2.2.2.2.2.2.2.2.2.2.2.2.2.2.2.2.2.2.2.2.2.2.2.2.1, u.2.2.2.2.2.2.2.2.2.2.2.2.2.2.2.2.2.2.2.2.2.2.2.2.2.2.2.2.2.2.2.2.2.2.1, u.2.2.2.2.2.2.2.2.2.2.2.2.2.2.2.2.2.2.2.2.2.2.2.2.2.2.2.2.2.2.2.2.2.2.2.1, u.2.2.2.2.2.2.2.2.2.2.2.2.2.2.2.2.2.2.2.2.2.2.2.2.2.2.2.2.2.2.2.2.2.2.2.2.1, u.2.2.2.2.2.2.2.2.2.2.2.2.2.2.2.2.2.2.2.2.2.2.2.2.2.2.2.2.2.2.2.2.2.2.2.2.2.1, u.2.2.2.2.2.2.2.2.2.2.2.2.2.2.2.2.2.2.2.2.2.2.2.2.2.2.2.2.2.2.2.2.2.2.2.2.2.2)
def qs_left (u : SX) (x_left : Int32) : SX := (u.1, u.2.1, u.2.2.1, u.2.2.2.1, u.2.2.2.2.1, u.2.2.2.2.2.1, u.2.2.2.2.2.2.1, u.2.2.2.2.2.2.2.1, u.2.2.2.2.2.2.2.2.1, u.2.2.2.2.2.2.2.2.2.1, u.2.2.2.2.2.2.2.2.2.2.1, u.2.2.2.2.2.2.2.2.2.2.2.1, u.2.2.2.2.2.2.2.2.2.2.2.2.1, x_left, u.2.2.2.2.2.2.2.2.2.2.2.2.2.2.1, u.2.2.2.2.2.2.2.2.2.2.2.2.2.2.2.1, u.2.2.2.2.2.2.2.2.2.2.2.2.2.2.2.2.1, u.2.2.2.2.2.2.2.2.2.2.2.2.2.2.2.2.2.1, u.2.2.2.2.2.2.2.2.2.2.2.2.2.2.2.2.2.2.1, u.2.2.2.2.2.2.2.2.2.2.2.2.2.2.2.2.2.2.2.1, u.2.2.2.2.2.2.2.2.2.2.2.2.2.2.2.2.2.2.2.2.1, u.2.2.2.2.2.2.2.2.2.2.2.2.2.2.2.2.2.2.2.2.2.1, u.2.2.2.2.2.2.2.2.2.2.2.2.2.2.2.2.2.2.2.2.2.2.1, u.2.2.2.2.2.2.2.2.2.2.2.2.2.2.2.2.2.2.2.2.2.2.2.1, u.2.2.2.2.2.2.2.2.2.2.2.2.2.2.2.2.2.2.2.2.2.2.2.2.1, u.2.2.2.2.2.2.2.2.2.2.2.2.2.2.2.2.2.2.2.2.2.2.2.2.2.1, u.2.2.2.2.2.2.2.2.2.2.2.2.2.2.2.2.2.2.2.2.2.2.2.2.2.2.1, u.2.2.2.2.2.2.2.2.2.2.2.2.2.2.2.2.2.2.2.2.2.2.2.2.2.2.2.1, u.2.2.2.2.2.2.2.2.2.2.2.2.2.2.2.2.2.2.2.2.2.2.2.2.2.2.2.2.1, u.2.2.2.2.2.2.2.2.2.2.2.2.2.2.2.2.2.2.2.2.2.2.2.2.2.2.2.2.2.1, u.2.2.2.2.2.2.2.2.2.2.2.2.2.2.2.2.2.2.2.2.2.2.2.2.2.2.2.2.2.2.1, u.2.2.2.2.2.2.2.2.2.2.2.2.2.2.2.2.2.2.2.2.2.2.2.2.2.2.2.2.2.2.2.1, u.2.2.2.2.2.2.2.2.2.2.2.2.2.2.2.2.2.2.2.2.2.2.2.2.2.2.2.2.2.2.2.2.1, u.2.2.2.2.2.2.2.2.2.2.2.2.2.2.2.2.2.2.2.2.2.2.2.2.2.2.2.2.2.2.2.2.2.1, u.2.2.2.2.2.2.2.2.2.2.2.2.2.2.2.2.2.2.2.2.2.2.2.2.2.2.2.2.2.2.2.2.2.2.1, u.2.2.2.2.2.2.2.2.2.2.2.2.2.2.2.2.2.2.2.2.2.2.2.2.2.2.2.2.2.2.2.2.2.2.2.1, u.2.2.2.2.2.2.2.2.2.2.2.2.2.2.2.2.2.2.2.2.2.2.2.2.2.2.2.2.2.2.2.2.2.2.2.2.1, u.2.2.2.2.2.2.2.2.2.2.2.2.2.2.2.2.2.2.2.2.2.2.2.2.2.2.2.2.2.2.2.2.2.2.2.2.2.1, u.2.2.2.2.2.2.2.2.2.2.2.2.2.2.2.2.2.2.2.2.2.2.2.2.2.2.2.2.2.2.2.2.2.2.2.2.2.2)
def qs_right (u : SX) (x_right : Int32) : SX := (u.1, u.2.1, u.2.2.1, u.2.2.2.1, u.2.2.2.2.1, u.2.2.2.2.2.1, u.2.2.2.2.2.2.1, u.2.2.2.2.2.2.2.1, u.2.2.2.2.2.2.2.2.1, u.2.2.2.2.2.2.2.2.2.1, u.2.2.2.2.2.2.2.2.2.2.1, u.2.2.2.2.2.2.2.2.2.2.2.1, u.2.2.2.2.2.2.2.2.2.2.2.2.1, u.2.2.2.2.2.2.2.2.2.2.2.2.2.1, x_right, u.2.2.2.2.2.2.2.2.2.2.2.2.2.2.2.1, u.2.2.2.2.2.2.2.2.2.2.2.2.2.2.2.2.1, u.2.2.2.2.2.2.2.2.2.2.2.2.2.2.2.2.2.1, u.2.2.2.2.2.2.2.2.2.2.2.2.2.2.2.2.2.2.1, u.2.2.2.2.2.2.2.2.2.2.2.2.2.2.2.2.2.2.2.1, u.2.2.2.2.2.2.2.2.2.2.2.2.2.2.2.2.2.2.2.2.1, u.2.2.2.2.2.2.2.2.2.2.2.2.2.2.2.2.2.2.2.2.2.1, u.2.2.2.2.2.2.2.2.2.2.2.2.2.2.2.2.2.2.2.2.2.2.1, u.2.2.2.2.2.2.2.2.2.2.2.2.2.2.2.2.2.2.2.2.2.2.2.1, u.2.2.2.2.2.2.2.2.2.2.2.2.2.2.2.2.2.2.2.2.2.2.2.2.1, u.2.2.2.2.2.2.2.2.2.2.2.2.2.2.2.2.2.2.2.2.2.2.2.2.2.1, u.2.2.2.2.2.2.2.2.2.2.2.2.2.2.2.2.2.2.2.2.2.2.2.2.2.2.1, u.2.2.2.2.2.2.2.2.2.2.2.2.2.2.2.2.2.2.2.2.2.2.2.2.2.2.2.1, u.2.2.2.2.2.2.2.2.2.2.2.2.2.2.2.2.2.2.2.2.2.2.2.2.2.2.2.2.1, u.2.2.2.2.2.2.2.2.2.2.2.2.2.2.2.2.2.2.2.2.2.2.2.2.2.2.2.2.2.1, u.2.2.2.2.2.2.2.2.2.2.2.2.2.2.2.2.2.2.2.2.2.2.2.2.2.2.2.2.2.2.1, u.2.2.2.2.2.2.2.2.2.2.2.2.2.2.2.2.2.2.2.2.2.2.2.2.2.2.2.2.2.2.2.1, u.2.2.2.2.2.2.2.2.2.2.2.2.2.2.2.2.2.2.2.2.2.2.2.2.2.2.2.2.2.2.2.2.1, u.2.2.2.2.2.2.2.2.2.2.2.2.2.2.2.2.2.2.2.2.2.2.2.2.2.2.2.2.2.2.2.2.2.1, u.2.2.2.2.2.2.2.2.2.2.2.2.2.2.2.2.2.2.2.2.2.2.2.2.2.2.2.2.2.2.2.2.2.2.1, u.2.2.2.2.2.2.2.2.2.2.2.2.2.2.2.2.2.2.2.2.2.2.2.2.2.2.2.2.2.2.2.2.2.2.2.1, u.2.2.2.2.2.2.2.2.2.2.2.2.2.2.2.2.2.2.2.2.2.2.2.2.2.2.2.2.2.2.2.2.2.2.2.2.1, u.2.2.2.2.2.2.2.2.2.2.2.2.2.2.2.2.2.2.2.2.2.2.2.2.2.2.2.2.2.2.2.2.2.2.2.2.2.1, u.2.2.2.2.2.2.2.2.2.2.2.2.2.2.2.2.2.2.2.2.2.2.2.2.2.2.2.2.2.2.2.2.2.2.2.2.2.2)
def qs_runs (u : SX) (x_runs : Int32) : SX := (u.1, u.2.1, u.2.2.1, u.2.2.2.1, u.2.2.2.2.1, u.2.2.2.2.2.1, u.2.2.2.2.2.2.1, u.2.2.2.2.2.2.2.1, u.2.2.2.2.2.2.2.2.1, u.2.2.2.2.2.2.2.2.2.1, u.2.2.2.2.2.2.2.2.2.2.1, u.2.2.2.2.2.2.2.2.2.2.2.1, u.2.2.2.2.2.2.2.2.2.2.2.2.1, u.2.2.2.2.2.2.2.2.2.2.2.2.2.1, u.2.2.2.2.2.2.2.2.2.2.2.2.2.2.1, x_runs, u.2.2.2.2.2.2.2.2.2.2.2.2.2.2.2.2.1, u.2.2.2.2.2.2.2.2.2.2.2.2.2.2.2.2.2.1, u.2.2.2.2.2.2.2.2.2.2.2.2.2.2.2.2.2.2.1, u.2.2.2.2.2.2.2.2.2.2.2.2.2.2.2.2.2.2.2.1, u.2.2.2.2.2.2.2.2.2.2.2.2.2.2.2.2.2.2.2.2.1, u.2.2.2.2.2.2.2.2.2.2.2.2.2.2.2.2.2.2.2.2.2.1, u.2.2.2.2.2.2.2.2.2.2.2.2.2.2.2.2.2.2.2.2.2.2.1, u.2.2.2.2.2.2.2.2.2.2.2.2.2.2.2.2.2.2.2.2.2.2.2.1, u.2.2.2.2.2.2.2.2.2.2.2.2.2.2.2.2.2.2.2.2.2.2.2.2.1, u.2.2.2.2.2.2.2.2.2.2.2.2.2.2.2.2.2.2.2.2.2.2.2.2.2.1, u.2.2.2.2.2.2.2.2.2.2.2.2.2.2.2.2.2.2.2.2.2.2.2.2.2.2.1, u.2.2.2.2.2.2.2.2.2.2.2.2.2.2.2.2.2.2.2.2.2.2.2.2.2.2.2.1, u.2.2.2.2.2.2.2.2.2.2.2.2.2.2.2.2.2.2.2.2.2.2.2.2.2.2.2.2.1, u.2.2.2.2.2.2.2.2.2.2.2.2.2.2.2.2.2.2.2.2.2.2.2.2.2.2.2.2.2.1, u.2.2.2.2.2.2.2.2.2.2.2.2.2.2.2.2.2.2.2.2.2.2.2.2.2.2.2.2.2.2.1, u.2.2.2.2.2.2.2.2.2.2.2.2.2.2.2.2.2.2.2.2.2.2.2.2.2.2.2.2.2.2.2.1, u.2.2.2.2.2.2.2.2.2.2.2.2.2.2.2.2.2.2.2.2.2.2.2.2.2.2.2.2.2.2.2.2.1, u.2.2.2.2.2.2.2.2.2.2.2.2.2.2.2.2.2.2.2.2.2.2.2.2.2.2.2.2.2.2.2.2.2.1, u.2.2.2.2.2.2.2.2.2.2.2.2.2.2.2.2.2.2.2.2.2.2.2.2.2.2.2.2.2.2.2.2.2.2.1, u.2.2.2.2.2.2.2.2.2.2.2.2.2.2.2.2.2.2.2.2.2.2.2.2.2.2.2.2.2.2.2.2.2.2.2.1, u.2.2.2.2.2.2.2.2.2.2.2.2.2.2.2.2.2.2.2.2.2.2.2.2.2.2.2.2.2.2.2.2.2.2.2.2.1, u.2.2.2.2.2.2.2.2.2.2.2.2.2.2.2.2.2.2.2.2.2.2.2.2.2.2.2.2.2.2.2.2.2.2.2.2.2.1, u.2.2.2.2.2.2.2.2.2.2.2.2.2.2.2.2.2.2.2.2.2.2.2.2.2.2.2.2.2.2.2.2.2.2.2.2.2.2)
def qs_result (u : SX) (x_result : Int32) : SX := (u.1, u.2.1, u.2.2.1, u.2.2.2.1, u.2.2.2.2.1, u.2.2.2.2.2.1, u.2.2.2.2.2.2.1, u.2.2.2.2.2.2.2.1, u.2.2.2.2.2.2.2.2.1, u.2.2.2.2.2.2.2.2.2.1, u.2.2.2.2.2.2.2.2.2.2.1, u.2.2.2.2.2.2.2.2.2.2.2.1, u.2.2.2.2.2.2.2.2.2.2.2.2.1, u.2.2.2.2.2.2.2.2.2.2.2.2.2.1, u.2.2.2.2.2.2.2.2.2.2.2.2.2.2.1, u.2.2.2.2.2.2.2.2.2.2.2.2.2.2.2.1, x_result, u.2.2.2.2.2.2.2.2.2.2.2.2.2.2.2.2.2.1, u.2.2.2.2.2.2.2.2.2.2.2.2.2.2.2.2.2.2.1, u.2.2.2.2.2.2.2.2.2.2.2.2.2.2.2.2.2.2.2.1, u.2.2.2.2.2.2.2.2.2.2.2.2.2.2.2.2.2.2.2.2.1, u.2.2.2.2.2.2.2.2.2.2.2.2.2.2.2.2.2.2.2.2.2.1, u.2.2.2.2.2.2.2.2.2.2.2.2.2.2.2.2.2.2.2.2.2.2.1, u.2.2.2.2.2.2.2.2.2.2.2.2.2.2.2.2.2.2.2.2.2.2.2.1, u.2.2.2.2.2.2.2.2.2.2.2.2.2.2.2.2.2.2.2.2.2.2.2.2.1, u.2.2.2.2.2.2.2.2.2.2.2.2.2.2.2.2.2.2.2.2.2.2.2.2.2.1, u.2.2.2.2.2.2.2.2.2.2.2.2.2.2.2.2.2.2.2.2.2.2.2.2.2.2.1, u.2.2.2.2.2.2.2.2.2.2.2.2.2.2.2.2.2.2.2.2.2.2.2.2.2.2.2.1, u.2.2.2.2.2.2.2.2.2.2.2.2.2.2.2.2.2.2.2.2.2.2.2.2.2.2.2.2.1, u.2.2.2.2.2.2.2.2.2.2.2.2.2.2.2.2.2.2.2.2.2.2.2.2.2.2.2.2.2.1, u.2.2.2.2.2.2.2.2.2.2.2.2.2.2.2.2.2.2.2.2.2.2.2.2.2.2.2.2.2.2.1, u.2.2.2.2.2.2.2.2.2.2.2.2.2.2.2.2.2.2.2.2.2.2.2.2.2.2.2.2.2.2.2.1, u.2.2.2.2.2.2.2.2.2.2.2.2.2.2.2.2.2.2.2.2.2.2.2.2.2.2.2.2.2.2.2.2.1, u.2.2.2.2.2.2.2.2.2.2.2.2.2.2.2.2.2.2.2.2.2.2.2.2.2.2.2.2.2.2.2.2.2.1, u.2.2.2.2.2.2.2.2.2.2.2.2.2.2.2.2.2.2.2.2.2.2.2.2.2.2.2.2.2.2.2.2.2.2.1, u.2.2.2.2.2.2.2.2.2.2.2.2.2.2.2.2.2.2.2.2.2.2.2.2.2.2.2.2.2.2.2.2.2.2.2.1, u.2.2.2.2.2.2.2.2.2.2.2.2.2.2.2.2.2.2.2.2.2.2.2.2.2.2.2.2.2.2.2.2.2.2.2.2.1, u.2.2.2.2.2.2.2.2.2.2.2.2.2.2.2.2.2.2.2.2.2.2.2.2.2.2.2.2.2.2.2.2.2.2.2.2.2.1, u.2.2.2.2.2.2.2.2.2.2.2.2.2.2.2.2.2.2.2.2.2.2.2.2.2.2.2.2.2.2.2.2.2.2.2.2.2.2)
def qs_carryOut (u : SX) (x_carryOut : Int32) : SX := (u.1, u.2.1, u.2.2.1, u.2.2.2.1, u.2.2.2.2.1, u.2.2.2.2.2.1, u.2.2.2.2.2.2.1, u.2.2.2.2.2.2.2.1, u.2.2.2.2.2.2.2.2.1, u.2.2.2.2.2.2.2.2.2.1, u.2.2.2.2.2.2.2.2.2.2.1, u.2.2.2.2.2.2.2.2.2.2.2.1, u.2.2.2.2.2.2.2.2.2.2.2.2.1, u.2.2.2.2.2.2.2.2.2.2.2.2.2.1, u.2.2.2.2.2.2.2.2.2.2.2.2.2.2.1, u.2.2.2.2.2.2.2.2.2.2.2.2.2.2.2.1, u.2.2.2.2.2.2.2.2.2.2.2.2.2.2.2.2.1, x_carryOut, u.2.2.2.2.2.2.2.2.2.2.2.2.2.2.2.2.2.2.1, u.2.2.2.2.2.2.2.2.2.2.2.2.2.2.2.2.2.2.2.1, u.2.2.2.2.2.2.2.2.2.2.2.2.2.2.2.2.2.2.2.2.1, u.2.2.2.2.2.2.2.2.2.2.2.2.2.2.2.2.2.2.2.2.2.1, u.2.2.2.2.2.2.2.2.2.2.2.2.2.2.2.2.2.2.2.2.2.2.1, u.2.2.2.2.2.2.2.2.2.2.2.2.2.2.2.2.2.2.2.2.2.2.2.1, u.2.2.2.2.2.2.2.2.2.2.2.2.2.2.2.2.2.2.2.2.2.2.2.2.1, u.2.2.2.2.2.2.2.2.2.2.2.2.2.2.2.2.2.2.2.2.2.2.2.2.2.1, u.2.2.2.2.2.2.2.2.2.2.2.2.2.2.2.2.2.2.2.2.2.2.2.2.2.2.1, u.2.2.2.2.2.2.2.2.2.2.2.2.2.2.2.2.2.2.2.2.2.2.2.2.2.2.2.1, u.2.2.2.2.2.2.2.2.2.2.2.2.2.2.2.2.2.2.2.2.2.2.2.2.2.2.2.2.1, u.2.2.2.2.2.2.2.2.2.2.2.2.2.2.2.2.2.2.2.2.2.2.2.2.2.2.2.2.2.1, u.2.2.2.2.2.2.2.2.2.2.2.2.2.2.2.2.2.2.2.2.2.2.2.2.2.2.2.2.2.2.1, u.2.2.2.2.2.2.2.2.2.2.2.2.2.2.2.2.2.2.2.2.2.2.2.2.2.2.2.2.2.2.2.1, u.2.2.2.2.2.2.2.2.2.2.2.2.2.2.2.2.2.2.2.2.2.2.2.2.2.2.2.2.2.2.2.2.1, u.2.2.2.2.2.2.2.2.2.2.2.2.2.2.2.2.2.2.2.2.2.2.2.2.2.2.2.2.2.2.2.2.2.1, u.2.2.2.2.2.2.2.2.2.2.2.2.2.2.2.2.2.2.2.2.2.2.2.2.2.2.2.2.2.2.2.2.2.2.1, u.2.2.2.2.2.2.2.2.2.2.2.2.2.2.2.2.2.2.2.2.2.2.2.2.2.2.2.2.2.2.2.2.2.2.2.1, u.2.2.2.2.2.2.2.2.2.2.2.2.2.2.2.2.2.2.2.2.2.2.2.2.2.2.2.2.2.2.2.2.2.2.2.2.1, u.2.2.2.2.2.2.2.2.2.2.2.2.2.2.2.2.2.2.2.2.2.2.2.2.2.2.2.2.2.2.2.2.2.2.2.2.2.1, u.2.2.2.2.2.2.2.2.2.2.2.2.2.2.2.2.2.2.2.2.2.2.2.2.2.2.2.2.2.2.2.2.2.2.2.2.2.2)
def qs_address (u : SX) (x_address : Int32) : SX := (u.1, u.2.1, u.2.2.1, u.2.2.2.1, u.2.2.2.2.1, u.2.2.2.2.2.1, u.2.2.2.2.2.2.1, u.2.2.2.2.2.2.2.1, u.2.2.2.2.2.2.2.2.1, u.2.2.2.2.2.2.2.2.2.1, u.2.2.2.2.2.2.2.2.2.2.1, u.2.2.2.2.2.2.2.2.2.2.2.1, u.2.2.2.2.2.2.2.2.2.2.2.2.1, u.2.2.2.2.2.2.2.2.2.2.2.2.2.1, u.2.2.2.2.2.2.2.2.2.2.2.2.2.2.1, u.2.2.2.2.2.2.2.2.2.2.2.2.2.2.2.1, u.2.2.2.2.2.2.2.2.2.2.2.2.2.2.2.2.1, u.2.2.2.2.2.2.2.2.2.2.2.2.2.2.2.2.2.1, x_address, u.2.2.2.2.2.2.2.2.2.2.2.2.2.2.2.2.2.2.2.1, u.2.2.2.2.2.2.2.2.2.2.2.2.2.2.2.2.2.2.2.2.1, u.2.2.2.2.2.2.2.2.2.2.2.2.2.2.2.2.2.2.2.2.2.1, u.2.2.2.2.2.2.2.2.2.2.2.2.2.2.2.2.2.2.2.2.2.2.1, u.2.2.2.2.2.2.2.2.2.2.2.2.2.2.2.2.2.2.2.2.2.2.2.1, u.2.2.2.2.2.2.2.2.2.2.2.2.2.2.2.2.2.2.2.2.2.2.2.2.1, u.2.2.2.2.2.2.2.2.2.2.2.2.2.2.2.2.2.2.2.2.2.2.2.2.2.1, u.2.2.2.2.2.2.2.2.2.2.2.2.2.2.2.2.2.2.2.2.2.2.2.2.2.2.1, u.2.2.2.2.2.2.2.2.2.2.2.2.2.2.2.2.2.2.2.2.2.2.2.2.2.2.2.1, u.2.2.2.2.2.2.2.2.2.2.2.2.2.2.2.2.2.2.2.2.2.2.2.2.2.2.2.2.1, u.2.2.2.2.2.2.2.2.2.2.2.2.2.2.2.2.2.2.2.2.2.2.2.2.2.2.2.2.2.1, u.2.2.2.2.2.2.2.2.2.2.2.2.2.2.2.2.2.2.2.2.2.2.2.2.2.2.2.2.2.2.1, u.2.2.2.2.2.2.2.2.2.2.2.2.2.2.2.2.2.2.2.2.2.2.2.2.2.2.2.2.2.2.2.1, u.2.2.2.2.2.2.2.2.2.2.2.2.2.2.2.2.2.2.2.2.2.2.2.2.2.2.2.2.2.2.2.2.1, u.2.2.2.2.2.2.2.2.2.2.2.2.2.2.2.2.2.2.2.2.2.2.2.2.2.2.2.2.2.2.2.2.2.1, u.2.2.2.2.2.2.2.2.2.2.2.2.2.2.2.2.2.2.2.2.2.2.2.2.2.2.2.2.2.2.2.2.2.2.1, u.2.2.2.2.2.2.2.2.2.2.2.2.2.2.2.2.2.2.2.2.2.2.2.2.2.2.2.2.2.2.2.2.2.2.2.1, u.2.2.2.2.2.2.2.2.2.2.2.2.2.2.2.2.2.2.2.2.2.2.2.2.2.2.2.2.2.2.2.2.2.2.2.2.1, u.2.2.2.2.2.2.2.2.2.2.2.2.2.2.2.2.2.2.2.2.2.2.2.2.2.2.2.2.2.2.2.2.2.2.2.2.2.1, u.2.2.2.2.2.2.2.2.2.2.2.2.2.2.2.2.2.2.2.2.2.2.2.2.2.2.2.2.2.2.2.2.2.2.2.2.2.2)
def qs_words (u : SX) (x_words : Nat → Int32) : SX := (u.1, u.2.1, u.2.2.1, u.2.2.2.1, u.2.2.2.2.1, u.2.2.2.2.2.1, u.2.2.2.2.2.2.1, u.2.2.2.2.2.2.2.1, u.2.2.2.2.2.2.2.2.1, u.2.2.2.2.2.2.2.2.2.1, u.2.2.2.2.2.2.2.2.2.2.1, u.2.2.2.2.2.2.2.2.2.2.2.1, u.2.2.2.2.2.2.2.2.2.2.2.2.1, u.2.2.2.2.2.2.2.2.2.2.2.2.2.1, u.2.2.2.2.2.2.2.2.2.2.2.2.2.2.1, u.2.2.2.2.2.2.2.2.2.2.2.2.2.2.2.1, u.2.2.2.2.2.2.2.2.2.2.2.2.2.2.2.2.1, u.2.2.2.2.2.2.2.2.2.2.2.2.2.2.2.2.2.1, u.2.2.2.2.2.2.2.2.2.2.2.2.2.2.2.2.2.2.1, x_words, u.2.2.2.2.2.2.2.2.2.2.2.2.2.2.2.2.2.2.2.2.1, u.2.2.2.2.2.2.2.2.2.2.2.2.2.2.2.2.2.2.2.2.2.1, u.2.2.2.2.2.2.2.2.2.2.2.2.2.2.2.2.2.2.2.2.2.2.1, u.2.2.2.2.2.2.2.2.2.2.2.2.2.2.2.2.2.2.2.2.2.2.2.1, u.2.2.2.2.2.2.2.2.2.2.2.2.2.2.2.2.2.2.2.2.2.2.2.2.1, u.2.2.2.2.2.2.2.2.2.2.2.2.2.2.2.2.2.2.2.2.2.2.2.2.2.1, u.2.2.2.2.2.2.2.2.2.2.2.2.2.2.2.2.2.2.2.2.2.2.2.2.2.2.1, u.2.2.2.2.2.2.2.2.2.2.2.2.2.2.2.2.2.2.2.2.2.2.2.2.2.2.2.1, u.2.2.2.2.2.2.2.2.2.2.2.2.2.2.2.2.2.2.2.2.2.2.2.2.2.2.2.2.1, u.2.2.2.2.2.2.2.2.2.2.2.2.2.2.2.2.2.2.2.2.2.2.2.2.2.2.2.2.2.1, u.2.2.2.2.2.2.2.2.2.2.2.2.2.2.2.2.2.2.2.2.2.2.2.2.2.2.2.2.2.2.1, u.2.2.2.2.2.2.2.2.2.2.2.2.2.2.2.2.2.2.2.2.2.2.2.2.2.2.2.2.2.2.2.1, u.2.2.2.2.2.2.2.2.2.2.2.2.2.2.2.2.2.2.2.2.2.2.2.2.2.2.2.2.2.2.2.2.1, u.2.2.2.2.2.2.2.2.2.2.2.2.2.2.2.2.2.2.2.2.2.2.2.2.2.2.2.2.2.2.2.2.2.1, u.2.2.2.2.2.2.2.2.2.2.2.2.2.2.2.2.2.2.2.2.2.2.2.2.2.2.2.2.2.2.2.2.2.2.1, u.2.2.2.2.2.2.2.2.2.2.2.2.2.2.2.2.2.2.2.2.2.2.2.2.2.2.2.2.2.2.2.2.2.2.2.1, u.2.2.2.2.2.2.2.2.2.2.2.2.2.2.2.2.2.2.2.2.2.2.2.2.2.2.2.2.2.2.2.2.2.2.2.2.1, u.2.2.2.2.2.2.2.2.2.2.2.2.2.2.2.2.2.2.2.2.2.2.2.2.2.2.2.2.2.2.2.2.2.2.2.2.2.1, u.2.2.2.2.2.2.2.2.2.2.2.2.2.2.2.2.2.2.2.2.2.2.2.2.2.2.2.2.2.2.2.2.2.2.2.2.2.2)
def qs_state (u : SX) (x_state : Nat → Int32) : SX := (u.1, u.2.1, u.2.2.1, u.2.2.2.1, u.2.2.2.2.1, u.2.2.2.2.2.1, u.2.2.2.2.2.2.1, u.2.2.2.2.2.2.2.1, u.2.2.2.2.2.2.2.2.1, u.2.2.2.2.2.2.2.2.2.1, u.2.2.2.2.2.2.2.2.2.2.1, u.2.2.2.2.2.2.2.2.2.2.2.1, u.2.2.2.2.2.2.2.2.2.2.2.2.1, u.2.2.2.2.2.2.2.2.2.2.2.2.2.1, u.2.2.2.2.2.2.2.2.2.2.2.2.2.2.1, u.2.2.2.2.2.2.2.2.2.2.2.2.2.2.2.1, u.2.2.2.2.2.2.2.2.2.2.2.2.2.2.2.2.1, u.2.2.2.2.2.2.2.2.2.2.2.2.2.2.2.2.2.1, u.2.2.2.2.2.2.2.2.2.2.2.2.2.2.2.2.2.2.1, u.2.2.2.2.2.2.2.2.2.2.2.2.2.2.2.2.2.2.2.1, x_state, u.2.2.2.2.2.2.2.2.2.2.2.2.2.2.2.2.2.2.2.2.2.1, u.2.2.2.2.2.2.2.2.2.2.2.2.2.2.2.2.2.2.2.2.2.2.1, u.2.2.2.2.2.2.2.2.2.2.2.2.2.2.2.2.2.2.2.2.2.2.2.1, u.2.2.2.2.2.2.2.2.2.2.2.2.2.2.2.2.2.2.2.2.2.2.2.2.1, u.2.2.2.2.2.2.2.2.2.2.2.2.2.2.2.2.2.2.2.2.2.2.2.2.2.1, u.2.2.2.2.2.2.2.2.2.2.2.2.2.2.2.2.2.2.2.2.2.2.2.2.2.2.1, u.2.2.2.2.2.2.2.2.2.2.2.2.2.2.2.2.2.2.2.2.2.2.2.2.2.2.2.1, u.2.2.2.2.2.2.2.2.2.2.2.2.2.2.2.2.2.2.2.2.2.2.2.2.2.2.2.2.1, u.2.2.2.2.2.2.2.2.2.2.2.2.2.2.2.2.2.2.2.2.2.2.2.2.2.2.2.2.2.1, u.2.2.2.2.2.2.2.2.2.2.2.2.2.2.2.2.2.2.2.2.2.2.2.2.2.2.2.2.2.2.1, u.2.2.2.2.2.2.2.2.2.2.2.2.2.2.2.2.2.2.2.2.2.2.2.2.2.2.2.2.2.2.2.1, u.2.2.2.2.2.2.2.2.2.2.2.2.2.2.2.2.2.2.2.2.2.2.2.2.2.2.2.2.2.2.2.2.1, u.2.2.2.2.2.2.2.2.2.2.2.2.2.2.2.2.2.2.2.2.2.2.2.2.2.2.2.2.2.2.2.2.2.1, u.2.2.2.2.2.2.2.2.2.2.2.2.2.2.2.2.2.2.2.2.2.2.2.2.2.2.2.2.2.2.2.2.2.2.1, u.2.2.2.2.2.2.2.2.2.2.2.2.2.2.2.2.2.2.2.2.2.2.2.2.2.2.2.2.2.2.2.2.2.2.2.1, u.2.2.2.2.2.2.2.2.2.2.2.2.2.2.2.2.2.2.2.2.2.2.2.2.2.2.2.2.2.2.2.2.2.2.2.2.1, u.2.2.2.2.2.2.2.2.2.2.2.2.2.2.2.2.2.2.2.2.2.2.2.2.2.2.2.2.2.2.2.2.2.2.2.2.2.1, u.2.2.2.2.2.2.2.2.2.2.2.2.2.2.2.2.2.2.2.2.2.2.2.2.2.2.2.2.2.2.2.2.2.2.2.2.2.2)
def qs_counts (u : SX) (x_counts : Nat → Int32) : SX := (u.1, u.2.1, u.2.2.1, u.2.2.2.1, u.2.2.2.2.1, u.2.2.2.2.2.1, u.2.2.2.2.2.2.1, u.2.2.2.2.2.2.2.1, u.2.2.2.2.2.2.2.2.1, u.2.2.2.2.2.2.2.2.2.1, u.2.2.2.2.2.2.2.2.2.2.1, u.2.2.2.2.2.2.2.2.2.2.2.1, u.2.2.2.2.2.2.2.2.2.2.2.2.1, u.2.2.2.2.2.2.2.2.2.2.2.2.2.1, u.2.2.2.2.2.2.2.2.2.2.2.2.2.2.1, u.2.2.2.2.2.2.2.2.2.2.2.2.2.2.2.1, u.2.2.2.2.2.2.2.2.2.2.2.2.2.2.2.2.1, u.2.2.2.2.2.2.2.2.2.2.2.2.2.2.2.2.2.1, u.2.2.2.2.2.2.2.2.2.2.2.2.2.2.2.2.2.2.1, u.2.2.2.2.2.2.2.2.2.2.2.2.2.2.2.2.2.2.2.1, u.2.2.2.2.2.2.2.2.2.2.2.2.2.2.2.2.2.2.2.2.1, x_counts, u.2.2.2.2.2.2.2.2.2.2.2.2.2.2.2.2.2.2.2.2.2.2.1, u.2.2.2.2.2.2.2.2.2.2.2.2.2.2.2.2.2.2.2.2.2.2.2.1, u.2.2.2.2.2.2.2.2.2.2.2.2.2.2.2.2.2.2.2.2.2.2.2.2.1, u.2.2.2.2.2.2.2.2.2.2.2.2.2.2.2.2.2.2.2.2.2.2.2.2.2.1, u.2.2.2.2.2.2.2.2.2.2.2.2.2.2.2.2.2.2.2.2.2.2.2.2.2.2.1, u.2.2.2.2.2.2.2.2.2.2.2.2.2.2.2.2.2.2.2.2.2.2.2.2.2.2.2.1, u.2.2.2.2.2.2.2.2.2.2.2.2.2.2.2.2.2.2.2.2.2.2.2.2.2.2.2.2.1, u.2.2.2.2.2.2.2.2.2.2.2.2.2.2.2.2.2.2.2.2.2.2.2.2.2.2.2.2.2.1, u.2.2.2.2.2.2.2.2.2.2.2.2.2.2.2.2.2.2.2.2.2.2.2.2.2.2.2.2.2.2.1, u.2.2.2.2.2.2.2.2.2.2.2.2.2.2.2.2.2.2.2.2.2.2.2.2.2.2.2.2.2.2.2.1, u.2.2.2.2.2.2.2.2.2.2.2.2.2.2.2.2.2.2.2.2.2.2.2.2.2.2.2.2.2.2.2.2.1, u.2.2.2.2.2.2.2.2.2.2.2.2.2.2.2.2.2.2.2.2.2.2.2.2.2.2.2.2.2.2.2.2.2.1, u.2.2.2.2.2.2.2.2.2.2.2.2.2.2.2.2.2.2.2.2.2.2.2.2.2.2.2.2.2.2.2.2.2.2.1, u.2.2.2.2.2.2.2.2.2.2.2.2.2.2.2.2.2.2.2.2.2.2.2.2.2.2.2.2.2.2.2.2.2.2.2.1, u.2.2.2.2.2.2.2.2.2.2.2.2.2.2.2.2.2.2.2.2.2.2.2.2.2.2.2.2.2.2.2.2.2.2.2.2.1, u.2.2.2.2.2.2.2.2.2.2.2.2.2.2.2.2.2.2.2.2.2.2.2.2.2.2.2.2.2.2.2.2.2.2.2.2.2.1, u.2.2.2.2.2.2.2.2.2.2.2.2.2.2.2.2.2.2.2.2.2.2.2.2.2.2.2.2.2.2.2.2.2.2.2.2.2.2)
def qs_kind (u : SX) (x_kind : Nat → Int32) : SX := (u.1, u.2.1, u.2.2.1, u.2.2.2.1, u.2.2.2.2.1, u.2.2.2.2.2.1, u.2.2.2.2.2.2.1, u.2.2.2.2.2.2.2.1, u.2.2.2.2.2.2.2.2.1, u.2.2.2.2.2.2.2.2.2.1, u.2.2.2.2.2.2.2.2.2.2.1, u.2.2.2.2.2.2.2.2.2.2.2.1, u.2.2.2.2.2.2.2.2.2.2.2.2.1, u.2.2.2.2.2.2.2.2.2.2.2.2.2.1, u.2.2.2.2.2.2.2.2.2.2.2.2.2.2.1, u.2.2.2.2.2.2.2.2.2.2.2.2.2.2.2.1, u.2.2.2.2.2.2.2.2.2.2.2.2.2.2.2.2.1, u.2.2.2.2.2.2.2.2.2.2.2.2.2.2.2.2.2.1, u.2.2.2.2.2.2.2.2.2.2.2.2.2.2.2.2.2.2.1, u.2.2.2.2.2.2.2.2.2.2.2.2.2.2.2.2.2.2.2.1, u.2.2.2.2.2.2.2.2.2.2.2.2.2.2.2.2.2.2.2.2.1, u.2.2.2.2.2.2.2.2.2.2.2.2.2.2.2.2.2.2.2.2.2.1, x_kind, u.2.2.2.2.2.2.2.2.2.2.2.2.2.2.2.2.2.2.2.2.2.2.2.1, u.2.2.2.2.2.2.2.2.2.2.2.2.2.2.2.2.2.2.2.2.2.2.2.2.1, u.2.2.2.2.2.2.2.2.2.2.2.2.2.2.2.2.2.2.2.2.2.2.2.2.2.1, u.2.2.2.2.2.2.2.2.2.2.2.2.2.2.2.2.2.2.2.2.2.2.2.2.2.2.1, u.2.2.2.2.2.2.2.2.2.2.2.2.2.2.2.2.2.2.2.2.2.2.2.2.2.2.2.1, u.2.2.2.2.2.2.2.2.2.2.2.2.2.2.2.2.2.2.2.2.2.2.2.2.2.2.2.2.1, u.2.2.2.2.2.2.2.2.2.2.2.2.2.2.2.2.2.2.2.2.2.2.2.2.2.2.2.2.2.1, u.2.2.2.2.2.2.2.2.2.2.2.2.2.2.2.2.2.2.2.2.2.2.2.2.2.2.2.2.2.2.1, u.2.2.2.2.2.2.2.2.2.2.2.2.2.2.2.2.2.2.2.2.2.2.2.2.2.2.2.2.2.2.2.1, u.2.2.2.2.2.2.2.2.2.2.2.2.2.2.2.2.2.2.2.2.2.2.2.2.2.2.2.2.2.2.2.2.1, u.2.2.2.2.2.2.2.2.2.2.2.2.2.2.2.2.2.2.2.2.2.2.2.2.2.2.2.2.2.2.2.2.2.1, u.2.2.2.2.2.2.2.2.2.2.2.2.2.2.2.2.2.2.2.2.2.2.2.2.2.2.2.2.2.2.2.2.2.2.1, u.2.2.2.2.2.2.2.2.2.2.2.2.2.2.2.2.2.2.2.2.2.2.2.2.2.2.2.2.2.2.2.2.2.2.2.1, u.2.2.2.2.2.2.2.2.2.2.2.2.2.2.2.2.2.2.2.2.2.2.2.2.2.2.2.2.2.2.2.2.2.2.2.2.1, u.2.2.2.2.2.2.2.2.2.2.2.2.2.2.2.2.2.2.2.2.2.2.2.2.2.2.2.2.2.2.2.2.2.2.2.2.2.1, u.2.2.2.2.2.2.2.2.2.2.2.2.2.2.2.2.2.2.2.2.2.2.2.2.2.2.2.2.2.2.2.2.2.2.2.2.2.2)
def qs_inA (u : SX) (x_inA : Nat → Int32) : SX := (u.1, u.2.1, u.2.2.1, u.2.2.2.1, u.2.2.2.2.1, u.2.2.2.2.2.1, u.2.2.2.2.2.2.1, u.2.2.2.2.2.2.2.1, u.2.2.2.2.2.2.2.2.1, u.2.2.2.2.2.2.2.2.2.1, u.2.2.2.2.2.2.2.2.2.2.1, u.2.2.2.2.2.2.2.2.2.2.2.1, u.2.2.2.2.2.2.2.2.2.2.2.2.1, u.2.2.2.2.2.2.2.2.2.2.2.2.2.1, u.2.2.2.2.2.2.2.2.2.2.2.2.2.2.1, u.2.2.2.2.2.2.2.2.2.2.2.2.2.2.2.1, u.2.2.2.2.2.2.2.2.2.2.2.2.2.2.2.2.1, u.2.2.2.2.2.2.2.2.2.2.2.2.2.2.2.2.2.1, u.2.2.2.2.2.2.2.2.2.2.2.2.2.2.2.2.2.2.1, u.2.2.2.2.2.2.2.2.2.2.2.2.2.2.2.2.2.2.2.1, u.2.2.2.2.2.2.2.2.2.2.2.2.2.2.2.2.2.2.2.2.1, u.2.2.2.2.2.2.2.2.2.2.2.2.2.2.2.2.2.2.2.2.2.1, u.2.2.2.2.2.2.2.2.2.2.2.2.2.2.2.2.2.2.2.2.2.2.1, x_inA, u.2.2.2.2.2.2.2.2.2.2.2.2.2.2.2.2.2.2.2.2.2.2.2.2.1, u.2.2.2.2.2.2.2.2.2.2.2.2.2.2.2.2.2.2.2.2.2.2.2.2.2.1, u.2.2.2.2.2.2.2.2.2.2.2.2.2.2.2.2.2.2.2.2.2.2.2.2.2.2.1, u.2.2.2.2.2.2.2.2.2.2.2.2.2.2.2.2.2.2.2.2.2.2.2.2.2.2.2.1, u.2.2.2.2.2.2.2.2.2.2.2.2.2.2.2.2.2.2.2.2.2.2.2.2.2.2.2.2.1, u.2.2.2.2.2.2.2.2.2.2.2.2.2.2.2.2.2.2.2.2.2.2.2.2.2.2.2.2.2.1, u.2.2.2.2.2.2.2.2.2.2.2.2.2.2.2.2.2.2.2.2.2.2.2.2.2.2.2.2.2.2.1, u.2.2.2.2.2.2.2.2.2.2.2.2.2.2.2.2.2.2.2.2.2.2.2.2.2.2.2.2.2.2.2.1, u.2.2.2.2.2.2.2.2.2.2.2.2.2.2.2.2.2.2.2.2.2.2.2.2.2.2.2.2.2.2.2.2.1, u.2.2.2.2.2.2.2.2.2.2.2.2.2.2.2.2.2.2.2.2.2.2.2.2.2.2.2.2.2.2.2.2.2.1, u.2.2.2.2.2.2.2.2.2.2.2.2.2.2.2.2.2.2.2.2.2.2.2.2.2.2.2.2.2.2.2.2.2.2.1, u.2.2.2.2.2.2.2.2.2.2.2.2.2.2.2.2.2.2.2.2.2.2.2.2.2.2.2.2.2.2.2.2.2.2.2.1, u.2.2.2.2.2.2.2.2.2.2.2.2.2.2.2.2.2.2.2.2.2.2.2.2.2.2.2.2.2.2.2.2.2.2.2.2.1, u.2.2.2.2.2.2.2.2.2.2.2.2.2.2.2.2.2.2.2.2.2.2.2.2.2.2.2.2.2.2.2.2.2.2.2.2.2.1, u.2.2.2.2.2.2.2.2.2.2.2.2.2.2.2.2.2.2.2.2.2.2.2.2.2.2.2.2.2.2.2.2.2.2.2.2.2.2)
def qs_inB (u : SX) (x_inB : Nat → Int32) : SX := (u.1, u.2.1, u.2.2.1, u.2.2.2.1, u.2.2.2.2.1, u.2.2.2.2.2.1, u.2.2.2.2.2.2.1, u.2.2.2.2.2.2.2.1, u.2.2.2.2.2.2.2.2.1, u.2.2.2.2.2.2.2.2.2.1, u.2.2.2.2.2.2.2.2.2.2.1, u.2.2.2.2.2.2.2.2.2.2.2.1, u.2.2.2.2.2.2.2.2.2.2.2.2.1, u.2.2.2.2.2.2.2.2.2.2.2.2.2.1, u.2.2.2.2.2.2.2.2.2.2.2.2.2.2.1, u.2.2.2.2.2.2.2.2.2.2.2.2.2.2.2.1, u.2.2.2.2.2.2.2.2.2.2.2.2.2.2.2.2.1, u.2.2.2.2.2.2.2.2.2.2.2.2.2.2.2.2.2.1, u.2.2.2.2.2.2.2.2.2.2.2.2.2.2.2.2.2.2.1, u.2.2.2.2.2.2.2.2.2.2.2.2.2.2.2.2.2.2.2.1, u.2.2.2.2.2.2.2.2.2.2.2.2.2.2.2.2.2.2.2.2.1, u.2.2.2.2.2.2.2.2.2.2.2.2.2.2.2.2.2.2.2.2.2.1, u.2.2.2.2.2.2.2.2.2.2.2.2.2.2.2.2.2.2.2.2.2.2.1, u.2.2.2.2.2.2.2.2.2.2.2.2.2.2.2.2.2.2.2.2.2.2.2.1, x_inB, u.2.2.2.2.2.2.2.2.2.2.2.2.2.2.2.2.2.2.2.2.2.2.2.2.2.1, u.2.2.2.2.2.2.2.2.2.2.2.2.2.2.2.2.2.2.2.2.2.2.2.2.2.2.1, u.2.2.2.2.2.2.2.2.2.2.2.2.2.2.2.2.2.2.2.2.2.2.2.2.2.2.2.1, u.2.2.2.2.2.2.2.2.2.2.2.2.2.2.2.2.2.2.2.2.2.2.2.2.2.2.2.2.1, u.2.2.2.2.2.2.2.2.2.2.2.2.2.2.2.2.2.2.2.2.2.2.2.2.2.2.2.2.2.1, u.2.2.2.2.2.2.2.2.2.2.2.2.2.2.2.2.2.2.2.2.2.2.2.2.2.2.2.2.2.2.1, u.2.2.2.2.2.2.2.2.2.2.2.2.2.2.2.2.2.2.2.2.2.2.2.2.2.2.2.2.2.2.2.1, u.2.2.2.2.2.2.2.2.2.2.2.2.2.2.2.2.2.2.2.2.2.2.2.2.2.2.2.2.2.2.2.2.1, u.2.2.2.2.2.2.2.2.2.2.2.2.2.2.2.2.2.2.2.2.2.2.2.2.2.2.2.2.2.2.2.2.2.1, u.2.2.2.2.2.2.2.2.2.2.2.2.2.2.2.2.2.2.2.2.2.2.2.2.2.2.2.2.2.2.2.2.2.2.1, u.2.2.2.2.2.2.2.2.2.2.2.2.2.2.2.2.2.2.2.2.2.2.2.2.2.2.2.2.2.2.2.2.2.2.2.1, u.2.2.2.2.2.2.2.2.2.2.2.2.2.2.2.2.2.2.2.2.2.2.2.2.2.2.2.2.2.2.2.2.2.2.2.2.1, u.2.2.2.2.2.2.2.2.2.2.2.2.2.2.2.2.2.2.2.2.2.2.2.2.2.2.2.2.2.2.2.2.2.2.2.2.2.1, u.2.2.2.2.2.2.2.2.2.2.2.2.2.2.2.2.2.2.2.2.2.2.2.2.2.2.2.2.2.2.2.2.2.2.2.2.2.2)
def qs_inC (u : SX) (x_inC : Nat → Int32) : SX := (u.1, u.2.1, u.2.2.1, u.2.2.2.1, u.2.2.2.2.1, u.2.2.2.2.2.1, u.2.2.2.2.2.2.1, u.2.2.2.2.2.2.2.1, u.2.2.2.2.2.2.2.2.1, u.2.2.2.2.2.2.2.2.2.1, u.2.2.2.2.2.2.2.2.2.2.1, u.2.2.2.2.2.2.2.2.2.2.2.1, u.2.2.2.2.2.2.2.2.2.2.2.2.1, u.2.2.2.2.2.2.2.2.2.2.2.2.2.1, u.2.2.2.2.2.2.2.2.2.2.2.2.2.2.1, u.2.2.2.2.2.2.2.2.2.2.2.2.2.2.2.1, u.2.2.2.2.2.2.2.2.2.2.2.2.2.2.2.2.1, u.2.2.2.2.2.2.2.2.2.2.2.2.2.2.2.2.2.1, u.2.2.2.2.2.2.2.2.2.2.2.2.2.2.2.2.2.2.1, u.2.2.2.2.2.2.2.2.2.2.2.2.2.2.2.2.2.2.2.1, u.2.2.2.2.2.2.2.2.2.2.2.2.2.2.2.2.2.2.2.2.1, u.2.2.2.2.2.2.2.2.2.2.2.2.2.2.2.2.2.2.2.2.2.1, u.2.2.2.2.2.2.2.2.2.2.2.2.2.2.2.2.2.2.2.2.2.2.1, u.2.2.2.2.2.2.2.2.2.2.2.2.2.2.2.2.2.2.2.2.2.2.2.1, u.2.2.2.2.2.2.2.2.2.2.2.2.2.2.2.2.2.2.2.2.2.2.2.2.1, x_inC, u.2.2.2.2.2.2.2.2.2.2.2.2.2.2.2.2.2.2.2.2.2.2.2.2.2.2.1, u.2.2.2.2.2.2.2.2.2.2.2.2.2.2.2.2.2.2.2.2.2.2.2.2.2.2.2.1, u.2.2.2.2.2.2.2.2.2.2.2.2.2.2.2.2.2.2.2.2.2.2.2.2.2.2.2.2.1, u.2.2.2.2.2.2.2.2.2.2.2.2.2.2.2.2.2.2.2.2.2.2.2.2.2.2.2.2.2.1, u.2.2.2.2.2.2.2.2.2.2.2.2.2.2.2.2.2.2.2.2.2.2.2.2.2.2.2.2.2.2.1, u.2.2.2.2.2.2.2.2.2.2.2.2.2.2.2.2.2.2.2.2.2.2.2.2.2.2.2.2.2.2.2.1, u.2.2.2.2.2.2.2.2.2.2.2.2.2.2.2.2.2.2.2.2.2.2.2.2.2.2.2.2.2.2.2.2.1, u.2.2.2.2.2.2.2.2.2.2.2.2.2.2.2.2.2.2.2.2.2.2.2.2.2.2.2.2.2.2.2.2.2.1, u.2.2.2.2.2.2.2.2.2.2.2.2.2.2.2.2.2.2.2.2.2.2.2.2.2.2.2.2.2.2.2.2.2.2.1, u.2.2.2.2.2.2.2.2.2.2.2.2.2.2.2.2.2.2.2.2.2.2.2.2.2.2.2.2.2.2.2.2.2.2.2.1, u.2.2.2.2.2.2.2.2.2.2.2.2.2.2.2.2.2.2.2.2.2.2.2.2.2.2.2.2.2.2.2.2.2.2.2.2.1, u.2.2.2.2.2.2.2.2.2.2.2.2.2.2.2.2.2.2.2.2.2.2.2.2.2.2.2.2.2.2.2.2.2.2.2.2.2.1, u.2.2.2.2.2.2.2.2.2.2.2.2.2.2.2.2.2.2.2.2.2.2.2.2.2.2.2.2.2.2.2.2.2.2.2.2.2.2)
def qs_live (u : SX) (x_live : Nat → Int32) : SX := (u.1, u.2.1, u.2.2.1, u.2.2.2.1, u.2.2.2.2.1, u.2.2.2.2.2.1, u.2.2.2.2.2.2.1, u.2.2.2.2.2.2.2.1, u.2.2.2.2.2.2.2.2.1, u.2.2.2.2.2.2.2.2.2.1, u.2.2.2.2.2.2.2.2.2.2.1, u.2.2.2.2.2.2.2.2.2.2.2.1, u.2.2.2.2.2.2.2.2.2.2.2.2.1, u.2.2.2.2.2.2.2.2.2.2.2.2.2.1, u.2.2.2.2.2.2.2.2.2.2.2.2.2.2.1, u.2.2.2.2.2.2.2.2.2.2.2.2.2.2.2.1, u.2.2.2.2.2.2.2.2.2.2.2.2.2.2.2.2.1, u.2.2.2.2.2.2.2.2.2.2.2.2.2.2.2.2.2.1, u.2.2.2.2.2.2.2.2.2.2.2.2.2.2.2.2.2.2.1, u.2.2.2.2.2.2.2.2.2.2.2.2.2.2.2.2.2.2.2.1, u.2.2.2.2.2.2.2.2.2.2.2.2.2.2.2.2.2.2.2.2.1, u.2.2.2.2.2.2.2.2.2.2.2.2.2.2.2.2.2.2.2.2.2.1, u.2.2.2.2.2.2.2.2.2.2.2.2.2.2.2.2.2.2.2.2.2.2.1, u.2.2.2.2.2.2.2.2.2.2.2.2.2.2.2.2.2.2.2.2.2.2.2.1, u.2.2.2.2.2.2.2.2.2.2.2.2.2.2.2.2.2.2.2.2.2.2.2.2.1, u.2.2.2.2.2.2.2.2.2.2.2.2.2.2.2.2.2.2.2.2.2.2.2.2.2.1, x_live, u.2.2.2.2.2.2.2.2.2.2.2.2.2.2.2.2.2.2.2.2.2.2.2.2.2.2.2.1, u.2.2.2.2.2.2.2.2.2.2.2.2.2.2.2.2.2.2.2.2.2.2.2.2.2.2.2.2.1, u.2.2.2.2.2.2.2.2.2.2.2.2.2.2.2.2.2.2.2.2.2.2.2.2.2.2.2.2.2.1, u.2.2.2.2.2.2.2.2.2.2.2.2.2.2.2.2.2.2.2.2.2.2.2.2.2.2.2.2.2.2.1, u.2.2.2.2.2.2.2.2.2.2.2.2.2.2.2.2.2.2.2.2.2.2.2.2.2.2.2.2.2.2.2.1, u.2.2.2.2.2.2.2.2.2.2.2.2.2.2.2.2.2.2.2.2.2.2.2.2.2.2.2.2.2.2.2.2.1, u.2.2.2.2.2.2.2.2.2.2.2.2.2.2.2.2.2.2.2.2.2.2.2.2.2.2.2.2.2.2.2.2.2.1, u.2.2.2.2.2.2.2.2.2.2.2.2.2.2.2.2.2.2.2.2.2.2.2.2.2.2.2.2.2.2.2.2.2.2.1, u.2.2.2.2.2.2.2.2.2.2.2.2.2.2.2.2.2.2.2.2.2.2.2.2.2.2.2.2.2.2.2.2.2.2.2.1, u.2.2.2.2.2.2.2.2.2.2.2.2.2.2.2.2.2.2.2.2.2.2.2.2.2.2.2.2.2.2.2.2.2.2.2.2.1, u.2.2.2.2.2.2.2.2.2.2.2.2.2.2.2.2.2.2.2.2.2.2.2.2.2.2.2.2.2.2.2.2.2.2.2.2.2.1, u.2.2.2.2.2.2.2.2.2.2.2.2.2.2.2.2.2.2.2.2.2.2.2.2.2.2.2.2.2.2.2.2.2.2.2.2.2.2)
def qs_level (u : SX) (x_level : Nat → Int32) : SX := (u.1, u.2.1, u.2.2.1, u.2.2.2.1, u.2.2.2.2.1, u.2.2.2.2.2.1, u.2.2.2.2.2.2.1, u.2.2.2.2.2.2.2.1, u.2.2.2.2.2.2.2.2.1, u.2.2.2.2.2.2.2.2.2.1, u.2.2.2.2.2.2.2.2.2.2.1, u.2.2.2.2.2.2.2.2.2.2.2.1, u.2.2.2.2.2.2.2.2.2.2.2.2.1, u.2.2.2.2.2.2.2.2.2.2.2.2.2.1, u.2.2.2.2.2.2.2.2.2.2.2.2.2.2.1, u.2.2.2.2.2.2.2.2.2.2.2.2.2.2.2.1, u.2.2.2.2.2.2.2.2.2.2.2.2.2.2.2.2.1, u.2.2.2.2.2.2.2.2.2.2.2.2.2.2.2.2.2.1, u.2.2.2.2.2.2.2.2.2.2.2.2.2.2.2.2.2.2.1, u.2.2.2.2.2.2.2.2.2.2.2.2.2.2.2.2.2.2.2.1, u.2.2.2.2.2.2.2.2.2.2.2.2.2.2.2.2.2.2.2.2.1, u.2.2.2.2.2.2.2.2.2.2.2.2.2.2.2.2.2.2.2.2.2.1, u.2.2.2.2.2.2.2.2.2.2.2.2.2.2.2.2.2.2.2.2.2.2.1, u.2.2.2.2.2.2.2.2.2.2.2.2.2.2.2.2.2.2.2.2.2.2.2.1, u.2.2.2.2.2.2.2.2.2.2.2.2.2.2.2.2.2.2.2.2.2.2.2.2.1, u.2.2.2.2.2.2.2.2.2.2.2.2.2.2.2.2.2.2.2.2.2.2.2.2.2.1, u.2.2.2.2.2.2.2.2.2.2.2.2.2.2.2.2.2.2.2.2.2.2.2.2.2.2.1, x_level, u.2.2.2.2.2.2.2.2.2.2.2.2.2.2.2.2.2.2.2.2.2.2.2.2.2.2.2.2.1, u.2.2.2.2.2.2.2.2.2.2.2.2.2.2.2.2.2.2.2.2.2.2.2.2.2.2.2.2.2.1, u.2.2.2.2.2.2.2.2.2.2.2.2.2.2.2.2.2.2.2.2.2.2.2.2.2.2.2.2.2.2.1, u.2.2.2.2.2.2.2.2.2.2.2.2.2.2.2.2.2.2.2.2.2.2.2.2.2.2.2.2.2.2.2.1, u.2.2.2.2.2.2.2.2.2.2.2.2.2.2.2.2.2.2.2.2.2.2.2.2.2.2.2.2.2.2.2.2.1, u.2.2.2.2.2.2.2.2.2.2.2.2.2.2.2.2.2.2.2.2.2.2.2.2.2.2.2.2.2.2.2.2.2.1, u.2.2.2.2.2.2.2.2.2.2.2.2.2.2.2.2.2.2.2.2.2.2.2.2.2.2.2.2.2.2.2.2.2.2.1, u.2.2.2.2.2.2.2.2.2.2.2.2.2.2.2.2.2.2.2.2.2.2.2.2.2.2.2.2.2.2.2.2.2.2.2.1, u.2.2.2.2.2.2.2.2.2.2.2.2.2.2.2.2.2.2.2.2.2.2.2.2.2.2.2.2.2.2.2.2.2.2.2.2.1, u.2.2.2.2.2.2.2.2.2.2.2.2.2.2.2.2.2.2.2.2.2.2.2.2.2.2.2.2.2.2.2.2.2.2.2.2.2.1, u.2.2.2.2.2.2.2.2.2.2.2.2.2.2.2.2.2.2.2.2.2.2.2.2.2.2.2.2.2.2.2.2.2.2.2.2.2.2)
def qs_value (u : SX) (x_value : Nat → Int32) : SX := (u.1, u.2.1, u.2.2.1, u.2.2.2.1, u.2.2.2.2.1, u.2.2.2.2.2.1, u.2.2.2.2.2.2.1, u.2.2.2.2.2.2.2.1, u.2.2.2.2.2.2.2.2.1, u.2.2.2.2.2.2.2.2.2.1, u.2.2.2.2.2.2.2.2.2.2.1, u.2.2.2.2.2.2.2.2.2.2.2.1, u.2.2.2.2.2.2.2.2.2.2.2.2.1, u.2.2.2.2.2.2.2.2.2.2.2.2.2.1, u.2.2.2.2.2.2.2.2.2.2.2.2.2.2.1, u.2.2.2.2.2.2.2.2.2.2.2.2.2.2.2.1, u.2.2.2.2.2.2.2.2.2.2.2.2.2.2.2.2.1, u.2.2.2.2.2.2.2.2.2.2.2.2.2.2.2.2.2.1, u.2.2.2.2.2.2.2.2.2.2.2.2.2.2.2.2.2.2.1, u.2.2.2.2.2.2.2.2.2.2.2.2.2.2.2.2.2.2.2.1, u.2.2.2.2.2.2.2.2.2.2.2.2.2.2.2.2.2.2.2.2.1, u.2.2.2.2.2.2.2.2.2.2.2.2.2.2.2.2.2.2.2.2.2.1, u.2.2.2.2.2.2.2.2.2.2.2.2.2.2.2.2.2.2.2.2.2.2.1, u.2.2.2.2.2.2.2.2.2.2.2.2.2.2.2.2.2.2.2.2.2.2.2.1, u.2.2.2.2.2.2.2.2.2.2.2.2.2.2.2.2.2.2.2.2.2.2.2.2.1, u.2.2.2.2.2.2.2.2.2.2.2.2.2.2.2.2.2.2.2.2.2.2.2.2.2.1, u.2.2.2.2.2.2.2.2.2.2.2.2.2.2.2.2.2.2.2.2.2.2.2.2.2.2.1, u.2.2.2.2.2.2.2.2.2.2.2.2.2.2.2.2.2.2.2.2.2.2.2.2.2.2.2.1, x_value, u.2.2.2.2.2.2.2.2.2.2.2.2.2.2.2.2.2.2.2.2.2.2.2.2.2.2.2.2.2.1, u.2.2.2.2.2.2.2.2.2.2.2.2.2.2.2.2.2.2.2.2.2.2.2.2.2.2.2.2.2.2.1, u.2.2.2.2.2.2.2.2.2.2.2.2.2.2.2.2.2.2.2.2.2.2.2.2.2.2.2.2.2.2.2.1, u.2.2.2.2.2.2.2.2.2.2.2.2.2.2.2.2.2.2.2.2.2.2.2.2.2.2.2.2.2.2.2.2.1, u.2.2.2.2.2.2.2.2.2.2.2.2.2.2.2.2.2.2.2.2.2.2.2.2.2.2.2.2.2.2.2.2.2.1, u.2.2.2.2.2.2.2.2.2.2.2.2.2.2.2.2.2.2.2.2.2.2.2.2.2.2.2.2.2.2.2.2.2.2.1, u.2.2.2.2.2.2.2.2.2.2.2.2.2.2.2.2.2.2.2.2.2.2.2.2.2.2.2.2.2.2.2.2.2.2.2.1, u.2.2.2.2.2.2.2.2.2.2.2.2.2.2.2.2.2.2.2.2.2.2.2.2.2.2.2.2.2.2.2.2.2.2.2.2.1, u.2.2.2.2.2.2.2.2.2.2.2.2.2.2.2.2.2.2.2.2.2.2.2.2.2.2.2.2.2.2.2.2.2.2.2.2.2.1, u.2.2.2.2.2.2.2.2.2.2.2.2.2.2.2.2.2.2.2.2.2.2.2.2.2.2.2.2.2.2.2.2.2.2.2.2.2.2)
def qs_fresh (u : SX) (x_fresh : Nat → Int32) : SX := (u.1, u.2.1, u.2.2.1, u.2.2.2.1, u.2.2.2.2.1, u.2.2.2.2.2.1, u.2.2.2.2.2.2.1, u.2.2.2.2.2.2.2.1, u.2.2.2.2.2.2.2.2.1, u.2.2.2.2.2.2.2.2.2.1, u.2.2.2.2.2.2.2.2.2.2.1, u.2.2.2.2.2.2.2.2.2.2.2.1, u.2.2.2.2.2.2.2.2.2.2.2.2.1, u.2.2.2.2.2.2.2.2.2.2.2.2.2.1, u.2.2.2.2.2.2.2.2.2.2.2.2.2.2.1, u.2.2.2.2.2.2.2.2.2.2.2.2.2.2.2.1, u.2.2.2.2.2.2.2.2.2.2.2.2.2.2.2.2.1, u.2.2.2.2.2.2.2.2.2.2.2.2.2.2.2.2.2.1, u.2.2.2.2.2.2.2.2.2.2.2.2.2.2.2.2.2.2.1, u.2.2.2.2.2.2.2.2.2.2.2.2.2.2.2.2.2.2.2.1, u.2.2.2.2.2.2.2.2.2.2.2.2.2.2.2.2.2.2.2.2.1, u.2.2.2.2.2.2.2.2.2.2.2.2.2.2.2.2.2.2.2.2.2.1, u.2.2.2.2.2.2.2.2.2.2.2.2.2.2.2.2.2.2.2.2.2.2.1, u.2.2.2.2.2.2.2.2.2.2.2.2.2.2.2.2.2.2.2.2.2.2.2.1, u.2.2.2.2.2.2.2.2.2.2.2.2.2.2.2.2.2.2.2.2.2.2.2.2.1, u.2.2.2.2.2.2.2.2.2.2.2.2.2.2.2.2.2.2.2.2.2.2.2.2.2.1, u.2.2.2.2.2.2.2.2.2.2.2.2.2.2.2.2.2.2.2.2.2.2.2.2.2.2.1, u.2.2.2.2.2.2.2.2.2.2.2.2.2.2.2.2.2.2.2.2.2.2.2.2.2.2.2.1, u.2.2.2.2.2.2.2.2.2.2.2.2.2.2.2.2.2.2.2.2.2.2.2.2.2.2.2.2.1, x_fresh, u.2.2.2.2.2.2.2.2.2.2.2.2.2.2.2.2.2.2.2.2.2.2.2.2.2.2.2.2.2.2.1, u.2.2.2.2.2.2.2.2.2.2.2.2.2.2.2.2.2.2.2.2.2.2.2.2.2.2.2.2.2.2.2.1, u.2.2.2.2.2.2.2.2.2.2.2.2.2.2.2.2.2.2.2.2.2.2.2.2.2.2.2.2.2.2.2.2.1, u.2.2.2.2.2.2.2.2.2.2.2.2.2.2.2.2.2.2.2.2.2.2.2.2.2.2.2.2.2.2.2.2.2.1, u.2.2.2.2.2.2.2.2.2.2.2.2.2.2.2.2.2.2.2.2.2.2.2.2.2.2.2.2.2.2.2.2.2.2.1, u.2.2.2.2.2.2.2.2.2.2.2.2.2.2.2.2.2.2.2.2.2.2.2.2.2.2.2.2.2.2.2.2.2.2.2.1, u.2.2.2.2.2.2.2.2.2.2.2.2.2.2.2.2.2.2.2.2.2.2.2.2.2.2.2.2.2.2.2.2.2.2.2.2.1, u.2.2.2.2.2.2.2.2.2.2.2.2.2.2.2.2.2.2.2.2.2.2.2.2.2.2.2.2.2.2.2.2.2.2.2.2.2.1, u.2.2.2.2.2.2.2.2.2.2.2.2.2.2.2.2.2.2.2.2.2.2.2.2.2.2.2.2.2.2.2.2.2.2.2.2.2.2)
def qs_hashHead (u : SX) (x_hashHead : Nat → Int32) : SX := (u.1, u.2.1, u.2.2.1, u.2.2.2.1, u.2.2.2.2.1, u.2.2.2.2.2.1, u.2.2.2.2.2.2.1, u.2.2.2.2.2.2.2.1, u.2.2.2.2.2.2.2.2.1, u.2.2.2.2.2.2.2.2.2.1, u.2.2.2.2.2.2.2.2.2.2.1, u.2.2.2.2.2.2.2.2.2.2.2.1, u.2.2.2.2.2.2.2.2.2.2.2.2.1, u.2.2.2.2.2.2.2.2.2.2.2.2.2.1, u.2.2.2.2.2.2.2.2.2.2.2.2.2.2.1, u.2.2.2.2.2.2.2.2.2.2.2.2.2.2.2.1, u.2.2.2.2.2.2.2.2.2.2.2.2.2.2.2.2.1, u.2.2.2.2.2.2.2.2.2.2.2.2.2.2.2.2.2.1, u.2.2.2.2.2.2.2.2.2.2.2.2.2.2.2.2.2.2.1, u.2.2.2.2.2.2.2.2.2.2.2.2.2.2.2.2.2.2.2.1, u.2.2.2.2.2.2.2.2.2.2.2.2.2.2.2.2.2.2.2.2.1, u.2.2.2.2.2.2.2.2.2.2.2.2.2.2.2.2.2.2.2.2.2.1, u.2.2.2.2.2.2.2.2.2.2.2.2.2.2.2.2.2.2.2.2.2.2.1, u.2.2.2.2.2.2.2.2.2.2.2.2.2.2.2.2.2.2.2.2.2.2.2.1, u.2.2.2.2.2.2.2.2.2.2.2.2.2.2.2.2.2.2.2.2.2.2.2.2.1, u.2.2.2.2.2.2.2.2.2.2.2.2.2.2.2.2.2.2.2.2.2.2.2.2.2.1, u.2.2.2.2.2.2.2.2.2.2.2.2.2.2.2.2.2.2.2.2.2.2.2.2.2.2.1, u.2.2.2.2.2.2.2.2.2.2.2.2.2.2.2.2.2.2.2.2.2.2.2.2.2.2.2.1, u.2.2.2.2.2.2.2.2.2.2.2.2.2.2.2.2.2.2.2.2.2.2.2.2.2.2.2.2.1, u.2.2.2.2.2.2.2.2.2.2.2.2.2.2.2.2.2.2.2.2.2.2.2.2.2.2.2.2.2.1, x_hashHead, u.2.2.2.2.2.2.2.2.2.2.2.2.2.2.2.2.2.2.2.2.2.2.2.2.2.2.2.2.2.2.2.1, u.2.2.2.2.2.2.2.2.2.2.2.2.2.2.2.2.2.2.2.2.2.2.2.2.2.2.2.2.2.2.2.2.1, u.2.2.2.2.2.2.2.2.2.2.2.2.2.2.2.2.2.2.2.2.2.2.2.2.2.2.2.2.2.2.2.2.2.1, u.2.2.2.2.2.2.2.2.2.2.2.2.2.2.2.2.2.2.2.2.2.2.2.2.2.2.2.2.2.2.2.2.2.2.1, u.2.2.2.2.2.2.2.2.2.2.2.2.2.2.2.2.2.2.2.2.2.2.2.2.2.2.2.2.2.2.2.2.2.2.2.1, u.2.2.2.2.2.2.2.2.2.2.2.2.2.2.2.2.2.2.2.2.2.2.2.2.2.2.2.2.2.2.2.2.2.2.2.2.1, u.2.2.2.2.2.2.2.2.2.2.2.2.2.2.2.2.2.2.2.2.2.2.2.2.2.2.2.2.2.2.2.2.2.2.2.2.2.1, u.2.2.2.2.2.2.2.2.2.2.2.2.2.2.2.2.2.2.2.2.2.2.2.2.2.2.2.2.2.2.2.2.2.2.2.2.2.2)
def qs_hashNext (u : SX) (x_hashNext : Nat → Int32) : SX := (u.1, u.2.1, u.2.2.1, u.2.2.2.1, u.2.2.2.2.1, u.2.2.2.2.2.1, u.2.2.2.2.2.2.1, u.2.2.2.2.2.2.2.1, u.2.2.2.2.2.2.2.2.1, u.2.2.2.2.2.2.2.2.2.1, u.2.2.2.2.2.2.2.2.2.2.1, u.2.2.2.2.2.2.2.2.2.2.2.1, u.2.2.2.2.2.2.2.2.2.2.2.2.1, u.2.2.2.2.2.2.2.2.2.2.2.2.2.1, u.2.2.2.2.2.2.2.2.2.2.2.2.2.2.1, u.2.2.2.2.2.2.2.2.2.2.2.2.2.2.2.1, u.2.2.2.2.2.2.2.2.2.2.2.2.2.2.2.2.1, u.2.2.2.2.2.2.2.2.2.2.2.2.2.2.2.2.2.1, u.2.2.2.2.2.2.2.2.2.2.2.2.2.2.2.2.2.2.1, u.2.2.2.2.2.2.2.2.2.2.2.2.2.2.2.2.2.2.2.1, u.2.2.2.2.2.2.2.2.2.2.2.2.2.2.2.2.2.2.2.2.1, u.2.2.2.2.2.2.2.2.2.2.2.2.2.2.2.2.2.2.2.2.2.1, u.2.2.2.2.2.2.2.2.2.2.2.2.2.2.2.2.2.2.2.2.2.2.1, u.2.2.2.2.2.2.2.2.2.2.2.2.2.2.2.2.2.2.2.2.2.2.2.1, u.2.2.2.2.2.2.2.2.2.2.2.2.2.2.2.2.2.2.2.2.2.2.2.2.1, u.2.2.2.2.2.2.2.2.2.2.2.2.2.2.2.2.2.2.2.2.2.2.2.2.2.1, u.2.2.2.2.2.2.2.2.2.2.2.2.2.2.2.2.2.2.2.2.2.2.2.2.2.2.1, u.2.2.2.2.2.2.2.2.2.2.2.2.2.2.2.2.2.2.2.2.2.2.2.2.2.2.2.1, u.2.2.2.2.2.2.2.2.2.2.2.2.2.2.2.2.2.2.2.2.2.2.2.2.2.2.2.2.1, u.2.2.2.2.2.2.2.2.2.2.2.2.2.2.2.2.2.2.2.2.2.2.2.2.2.2.2.2.2.1, u.2.2.2.2.2.2.2.2.2.2.2.2.2.2.2.2.2.2.2.2.2.2.2.2.2.2.2.2.2.2.1, x_hashNext, u.2.2.2.2.2.2.2.2.2.2.2.2.2.2.2.2.2.2.2.2.2.2.2.2.2.2.2.2.2.2.2.2.1, u.2.2.2.2.2.2.2.2.2.2.2.2.2.2.2.2.2.2.2.2.2.2.2.2.2.2.2.2.2.2.2.2.2.1, u.2.2.2.2.2.2.2.2.2.2.2.2.2.2.2.2.2.2.2.2.2.2.2.2.2.2.2.2.2.2.2.2.2.2.1, u.2.2.2.2.2.2.2.2.2.2.2.2.2.2.2.2.2.2.2.2.2.2.2.2.2.2.2.2.2.2.2.2.2.2.2.1, u.2.2.2.2.2.2.2.2.2.2.2.2.2.2.2.2.2.2.2.2.2.2.2.2.2.2.2.2.2.2.2.2.2.2.2.2.1, u.2.2.2.2.2.2.2.2.2.2.2.2.2.2.2.2.2.2.2.2.2.2.2.2.2.2.2.2.2.2.2.2.2.2.2.2.2.1, u.2.2.2.2.2.2.2.2.2.2.2.2.2.2.2.2.2.2.2.2.2.2.2.2.2.2.2.2.2.2.2.2.2.2.2.2.2.2)
def qs_wire (u : SX) (x_wire : Nat → Int32) : SX := (u.1, u.2.1, u.2.2.1, u.2.2.2.1, u.2.2.2.2.1, u.2.2.2.2.2.1, u.2.2.2.2.2.2.1, u.2.2.2.2.2.2.2.1, u.2.2.2.2.2.2.2.2.1, u.2.2.2.2.2.2.2.2.2.1, u.2.2.2.2.2.2.2.2.2.2.1, u.2.2.2.2.2.2.2.2.2.2.2.1, u.2.2.2.2.2.2.2.2.2.2.2.2.1, u.2.2.2.2.2.2.2.2.2.2.2.2.2.1, u.2.2.2.2.2.2.2.2.2.2.2.2.2.2.1, u.2.2.2.2.2.2.2.2.2.2.2.2.2.2.2.1, u.2.2.2.2.2.2.2.2.2.2.2.2.2.2.2.2.1, u.2.2.2.2.2.2.2.2.2.2.2.2.2.2.2.2.2.1, u.2.2.2.2.2.2.2.2.2.2.2.2.2.2.2.2.2.2.1, u.2.2.2.2.2.2.2.2.2.2.2.2.2.2.2.2.2.2.2.1, u.2.2.2.2.2.2.2.2.2.2.2.2.2.2.2.2.2.2.2.2.1, u.2.2.2.2.2.2.2.2.2.2.2.2.2.2.2.2.2.2.2.2.2.1, u.2.2.2.2.2.2.2.2.2.2.2.2.2.2.2.2.2.2.2.2.2.2.1, u.2.2.2.2.2.2.2.2.2.2.2.2.2.2.2.2.2.2.2.2.2.2.2.1, u.2.2.2.2.2.2.2.2.2.2.2.2.2.2.2.2.2.2.2.2.2.2.2.2.1, u.2.2.2.2.2.2.2.2.2.2.2.2.2.2.2.2.2.2.2.2.2.2.2.2.2.1, u.2.2.2.2.2.2.2.2.2.2.2.2.2.2.2.2.2.2.2.2.2.2.2.2.2.2.1, u.2.2.2.2.2.2.2.2.2.2.2.2.2.2.2.2.2.2.2.2.2.2.2.2.2.2.2.1, u.2.2.2.2.2.2.2.2.2.2.2.2.2.2.2.2.2.2.2.2.2.2.2.2.2.2.2.2.1, u.2.2.2.2.2.2.2.2.2.2.2.2.2.2.2.2.2.2.2.2.2.2.2.2.2.2.2.2.2.1, u.2.2.2.2.2.2.2.2.2.2.2.2.2.2.2.2.2.2.2.2.2.2.2.2.2.2.2.2.2.2.1, u.2.2.2.2.2.2.2.2.2.2.2.2.2.2.2.2.2.2.2.2.2.2.2.2.2.2.2.2.2.2.2.1, x_wire, u.2.2.2.2.2.2.2.2.2.2.2.2.2.2.2.2.2.2.2.2.2.2.2.2.2.2.2.2.2.2.2.2.2.1, u.2.2.2.2.2.2.2.2.2.2.2.2.2.2.2.2.2.2.2.2.2.2.2.2.2.2.2.2.2.2.2.2.2.2.1, u.2.2.2.2.2.2.2.2.2.2.2.2.2.2.2.2.2.2.2.2.2.2.2.2.2.2.2.2.2.2.2.2.2.2.2.1, u.2.2.2.2.2.2.2.2.2.2.2.2.2.2.2.2.2.2.2.2.2.2.2.2.2.2.2.2.2.2.2.2.2.2.2.2.1, u.2.2.2.2.2.2.2.2.2.2.2.2.2.2.2.2.2.2.2.2.2.2.2.2.2.2.2.2.2.2.2.2.2.2.2.2.2.1, u.2.2.2.2.2.2.2.2.2.2.2.2.2.2.2.2.2.2.2.2.2.2.2.2.2.2.2.2.2.2.2.2.2.2.2.2.2.2)
def qs_fanHead (u : SX) (x_fanHead : Nat → Int32) : SX := (u.1, u.2.1, u.2.2.1, u.2.2.2.1, u.2.2.2.2.1, u.2.2.2.2.2.1, u.2.2.2.2.2.2.1, u.2.2.2.2.2.2.2.1, u.2.2.2.2.2.2.2.2.1, u.2.2.2.2.2.2.2.2.2.1, u.2.2.2.2.2.2.2.2.2.2.1, u.2.2.2.2.2.2.2.2.2.2.2.1, u.2.2.2.2.2.2.2.2.2.2.2.2.1, u.2.2.2.2.2.2.2.2.2.2.2.2.2.1, u.2.2.2.2.2.2.2.2.2.2.2.2.2.2.1, u.2.2.2.2.2.2.2.2.2.2.2.2.2.2.2.1, u.2.2.2.2.2.2.2.2.2.2.2.2.2.2.2.2.1, u.2.2.2.2.2.2.2.2.2.2.2.2.2.2.2.2.2.1, u.2.2.2.2.2.2.2.2.2.2.2.2.2.2.2.2.2.2.1, u.2.2.2.2.2.2.2.2.2.2.2.2.2.2.2.2.2.2.2.1, u.2.2.2.2.2.2.2.2.2.2.2.2.2.2.2.2.2.2.2.2.1, u.2.2.2.2.2.2.2.2.2.2.2.2.2.2.2.2.2.2.2.2.2.1, u.2.2.2.2.2.2.2.2.2.2.2.2.2.2.2.2.2.2.2.2.2.2.1, u.2.2.2.2.2.2.2.2.2.2.2.2.2.2.2.2.2.2.2.2.2.2.2.1, u.2.2.2.2.2.2.2.2.2.2.2.2.2.2.2.2.2.2.2.2.2.2.2.2.1, u.2.2.2.2.2.2.2.2.2.2.2.2.2.2.2.2.2.2.2.2.2.2.2.2.2.1, u.2.2.2.2.2.2.2.2.2.2.2.2.2.2.2.2.2.2.2.2.2.2.2.2.2.2.1, u.2.2.2.2.2.2.2.2.2.2.2.2.2.2.2.2.2.2.2.2.2.2.2.2.2.2.2.1, u.2.2.2.2.2.2.2.2.2.2.2.2.2.2.2.2.2.2.2.2.2.2.2.2.2.2.2.2.1, u.2.2.2.2.2.2.2.2.2.2.2.2.2.2.2.2.2.2.2.2.2.2.2.2.2.2.2.2.2.1, u.2.2.2.2.2.2.2.2.2.2.2.2.2.2.2.2.2.2.2.2.2.2.2.2.2.2.2.2.2.2.1, u.2.2.2.2.2.2.2.2.2.2.2.2.2.2.2.2.2.2.2.2.2.2.2.2.2.2.2.2.2.2.2.1, u.2.2.2.2.2.2.2.2.2.2.2.2.2.2.2.2.2.2.2.2.2.2.2.2.2.2.2.2.2.2.2.2.1, x_fanHead, u.2.2.2.2.2.2.2.2.2.2.2.2.2.2.2.2.2.2.2.2.2.2.2.2.2.2.2.2.2.2.2.2.2.2.1, u.2.2.2.2.2.2.2.2.2.2.2.2.2.2.2.2.2.2.2.2.2.2.2.2.2.2.2.2.2.2.2.2.2.2.2.1, u.2.2.2.2.2.2.2.2.2.2.2.2.2.2.2.2.2.2.2.2.2.2.2.2.2.2.2.2.2.2.2.2.2.2.2.2.1, u.2.2.2.2.2.2.2.2.2.2.2.2.2.2.2.2.2.2.2.2.2.2.2.2.2.2.2.2.2.2.2.2.2.2.2.2.2.1, u.2.2.2.2.2.2.2.2.2.2.2.2.2.2.2.2.2.2.2.2.2.2.2.2.2.2.2.2.2.2.2.2.2.2.2.2.2.2)
def qs_fanNext (u : SX) (x_fanNext : Nat → Int32) : SX := (u.1, u.2.1, u.2.2.1, u.2.2.2.1, u.2.2.2.2.1, u.2.2.2.2.2.1, u.2.2.2.2.2.2.1, u.2.2.2.2.2.2.2.1, u.2.2.2.2.2.2.2.2.1, u.2.2.2.2.2.2.2.2.2.1, u.2.2.2.2.2.2.2.2.2.2.1, u.2.2.2.2.2.2.2.2.2.2.2.1, u.2.2.2.2.2.2.2.2.2.2.2.2.1, u.2.2.2.2.2.2.2.2.2.2.2.2.2.1, u.2.2.2.2.2.2.2.2.2.2.2.2.2.2.1, u.2.2.2.2.2.2.2.2.2.2.2.2.2.2.2.1, u.2.2.2.2.2.2.2.2.2.2.2.2.2.2.2.2.1, u.2.2.2.2.2.2.2.2.2.2.2.2.2.2.2.2.2.1, u.2.2.2.2.2.2.2.2.2.2.2.2.2.2.2.2.2.2.1, u.2.2.2.2.2.2.2.2.2.2.2.2.2.2.2.2.2.2.2.1, u.2.2.2.2.2.2.2.2.2.2.2.2.2.2.2.2.2.2.2.2.1, u.2.2.2.2.2.2.2.2.2.2.2.2.2.2.2.2.2.2.2.2.2.1, u.2.2.2.2.2.2.2.2.2.2.2.2.2.2.2.2.2.2.2.2.2.2.1, u.2.2.2.2.2.2.2.2.2.2.2.2.2.2.2.2.2.2.2.2.2.2.2.1, u.2.2.2.2.2.2.2.2.2.2.2.2.2.2.2.2.2.2.2.2.2.2.2.2.1, u.2.2.2.2.2.2.2.2.2.2.2.2.2.2.2.2.2.2.2.2.2.2.2.2.2.1, u.2.2.2.2.2.2.2.2.2.2.2.2.2.2.2.2.2.2.2.2.2.2.2.2.2.2.1, u.2.2.2.2.2.2.2.2.2.2.2.2.2.2.2.2.2.2.2.2.2.2.2.2.2.2.2.1, u.2.2.2.2.2.2.2.2.2.2.2.2.2.2.2.2.2.2.2.2.2.2.2.2.2.2.2.2.1, u.2.2.2.2.2.2.2.2.2.2.2.2.2.2.2.2.2.2.2.2.2.2.2.2.2.2.2.2.2.1, u.2.2.2.2.2.2.2.2.2.2.2.2.2.2.2.2.2.2.2.2.2.2.2.2.2.2.2.2.2.2.1, u.2.2.2.2.2.2.2.2.2.2.2.2.2.2.2.2.2.2.2.2.2.2.2.2.2.2.2.2.2.2.2.1, u.2.2.2.2.2.2.2.2.2.2.2.2.2.2.2.2.2.2.2.2.2.2.2.2.2.2.2.2.2.2.2.2.1, u.2.2.2.2.2.2.2.2.2.2.2.2.2.2.2.2.2.2.2.2.2.2.2.2.2.2.2.2.2.2.2.2.2.1, x_fanNext, u.2.2.2.2.2.2.2.2.2.2.2.2.2.2.2.2.2.2.2.2.2.2.2.2.2.2.2.2.2.2.2.2.2.2.2.1, u.2.2.2.2.2.2.2.2.2.2.2.2.2.2.2.2.2.2.2.2.2.2.2.2.2.2.2.2.2.2.2.2.2.2.2.2.1, u.2.2.2.2.2.2.2.2.2.2.2.2.2.2.2.2.2.2.2.2.2.2.2.2.2.2.2.2.2.2.2.2.2.2.2.2.2.1, u.2.2.2.2.2.2.2.2.2.2.2.2.2.2.2.2.2.2.2.2.2.2.2.2.2.2.2.2.2.2.2.2.2.2.2.2.2.2)
def qs_fanGate (u : SX) (x_fanGate : Nat → Int32) : SX := (u.1, u.2.1, u.2.2.1, u.2.2.2.1, u.2.2.2.2.1, u.2.2.2.2.2.1, u.2.2.2.2.2.2.1, u.2.2.2.2.2.2.2.1, u.2.2.2.2.2.2.2.2.1, u.2.2.2.2.2.2.2.2.2.1, u.2.2.2.2.2.2.2.2.2.2.1, u.2.2.2.2.2.2.2.2.2.2.2.1, u.2.2.2.2.2.2.2.2.2.2.2.2.1, u.2.2.2.2.2.2.2.2.2.2.2.2.2.1, u.2.2.2.2.2.2.2.2.2.2.2.2.2.2.1, u.2.2.2.2.2.2.2.2.2.2.2.2.2.2.2.1, u.2.2.2.2.2.2.2.2.2.2.2.2.2.2.2.2.1, u.2.2.2.2.2.2.2.2.2.2.2.2.2.2.2.2.2.1, u.2.2.2.2.2.2.2.2.2.2.2.2.2.2.2.2.2.2.1, u.2.2.2.2.2.2.2.2.2.2.2.2.2.2.2.2.2.2.2.1, u.2.2.2.2.2.2.2.2.2.2.2.2.2.2.2.2.2.2.2.2.1, u.2.2.2.2.2.2.2.2.2.2.2.2.2.2.2.2.2.2.2.2.2.1, u.2.2.2.2.2.2.2.2.2.2.2.2.2.2.2.2.2.2.2.2.2.2.1, u.2.2.2.2.2.2.2.2.2.2.2.2.2.2.2.2.2.2.2.2.2.2.2.1, u.2.2.2.2.2.2.2.2.2.2.2.2.2.2.2.2.2.2.2.2.2.2.2.2.1, u.2.2.2.2.2.2.2.2.2.2.2.2.2.2.2.2.2.2.2.2.2.2.2.2.2.1, u.2.2.2.2.2.2.2.2.2.2.2.2.2.2.2.2.2.2.2.2.2.2.2.2.2.2.1, u.2.2.2.2.2.2.2.2.2.2.2.2.2.2.2.2.2.2.2.2.2.2.2.2.2.2.2.1, u.2.2.2.2.2.2.2.2.2.2.2.2.2.2.2.2.2.2.2.2.2.2.2.2.2.2.2.2.1, u.2.2.2.2.2.2.2.2.2.2.2.2.2.2.2.2.2.2.2.2.2.2.2.2.2.2.2.2.2.1, u.2.2.2.2.2.2.2.2.2.2.2.2.2.2.2.2.2.2.2.2.2.2.2.2.2.2.2.2.2.2.1, u.2.2.2.2.2.2.2.2.2.2.2.2.2.2.2.2.2.2.2.2.2.2.2.2.2.2.2.2.2.2.2.1, u.2.2.2.2.2.2.2.2.2.2.2.2.2.2.2.2.2.2.2.2.2.2.2.2.2.2.2.2.2.2.2.2.1, u.2.2.2.2.2.2.2.2.2.2.2.2.2.2.2.2.2.2.2.2.2.2.2.2.2.2.2.2.2.2.2.2.2.1, u.2.2.2.2.2.2.2.2.2.2.2.2.2.2.2.2.2.2.2.2.2.2.2.2.2.2.2.2.2.2.2.2.2.2.1, x_fanGate, u.2.2.2.2.2.2.2.2.2.2.2.2.2.2.2.2.2.2.2.2.2.2.2.2.2.2.2.2.2.2.2.2.2.2.2.2.1, u.2.2.2.2.2.2.2.2.2.2.2.2.2.2.2.2.2.2.2.2.2.2.2.2.2.2.2.2.2.2.2.2.2.2.2.2.2.1, u.2.2.2.2.2.2.2.2.2.2.2.2.2.2.2.2.2.2.2.2.2.2.2.2.2.2.2.2.2.2.2.2.2.2.2.2.2.2)
def qs_waitHead (u : SX) (x_waitHead : Nat → Int32) : SX := (u.1, u.2.1, u.2.2.1, u.2.2.2.1, u.2.2.2.2.1, u.2.2.2.2.2.1, u.2.2.2.2.2.2.1, u.2.2.2.2.2.2.2.1, u.2.2.2.2.2.2.2.2.1, u.2.2.2.2.2.2.2.2.2.1, u.2.2.2.2.2.2.2.2.2.2.1, u.2.2.2.2.2.2.2.2.2.2.2.1, u.2.2.2.2.2.2.2.2.2.2.2.2.1, u.2.2.2.2.2.2.2.2.2.2.2.2.2.1, u.2.2.2.2.2.2.2.2.2.2.2.2.2.2.1, u.2.2.2.2.2.2.2.2.2.2.2.2.2.2.2.1, u.2.2.2.2.2.2.2.2.2.2.2.2.2.2.2.2.1, u.2.2.2.2.2.2.2.2.2.2.2.2.2.2.2.2.2.1, u.2.2.2.2.2.2.2.2.2.2.2.2.2.2.2.2.2.2.1, u.2.2.2.2.2.2.2.2.2.2.2.2.2.2.2.2.2.2.2.1, u.2.2.2.2.2.2.2.2.2.2.2.2.2.2.2.2.2.2.2.2.1, u.2.2.2.2.2.2.2.2.2.2.2.2.2.2.2.2.2.2.2.2.2.1, u.2.2.2.2.2.2.2.2.2.2.2.2.2.2.2.2.2.2.2.2.2.2.1, u.2.2.2.2.2.2.2.2.2.2.2.2.2.2.2.2.2.2.2.2.2.2.2.1, u.2.2.2.2.2.2.2.2.2.2.2.2.2.2.2.2.2.2.2.2.2.2.2.2.1, u.2.2.2.2.2.2.2.2.2.2.2.2.2.2.2.2.2.2.2.2.2.2.2.2.2.1, u.2.2.2.2.2.2.2.2.2.2.2.2.2.2.2.2.2.2.2.2.2.2.2.2.2.2.1, u.2.2.2.2.2.2.2.2.2.2.2.2.2.2.2.2.2.2.2.2.2.2.2.2.2.2.2.1, u.2.2.2.2.2.2.2.2.2.2.2.2.2.2.2.2.2.2.2.2.2.2.2.2.2.2.2.2.1, u.2.2.2.2.2.2.2.2.2.2.2.2.2.2.2.2.2.2.2.2.2.2.2.2.2.2.2.2.2.1, u.2.2.2.2.2.2.2.2.2.2.2.2.2.2.2.2.2.2.2.2.2.2.2.2.2.2.2.2.2.2.1, u.2.2.2.2.2.2.2.2.2.2.2.2.2.2.2.2.2.2.2.2.2.2.2.2.2.2.2.2.2.2.2.1, u.2.2.2.2.2.2.2.2.2.2.2.2.2.2.2.2.2.2.2.2.2.2.2.2.2.2.2.2.2.2.2.2.1, u.2.2.2.2.2.2.2.2.2.2.2.2.2.2.2.2.2.2.2.2.2.2.2.2.2.2.2.2.2.2.2.2.2.1, u.2.2.2.2.2.2.2.2.2.2.2.2.2.2.2.2.2.2.2.2.2.2.2.2.2.2.2.2.2.2.2.2.2.2.1, u.2.2.2.2.2.2.2.2.2.2.2.2.2.2.2.2.2.2.2.2.2.2.2.2.2.2.2.2.2.2.2.2.2.2.2.1, x_waitHead, u.2.2.2.2.2.2.2.2.2.2.2.2.2.2.2.2.2.2.2.2.2.2.2.2.2.2.2.2.2.2.2.2.2.2.2.2.2.1, u.2.2.2.2.2.2.2.2.2.2.2.2.2.2.2.2.2.2.2.2.2.2.2.2.2.2.2.2.2.2.2.2.2.2.2.2.2.2)
def qs_waitNext (u : SX) (x_waitNext : Nat → Int32) : SX := (u.1, u.2.1, u.2.2.1, u.2.2.2.1, u.2.2.2.2.1, u.2.2.2.2.2.1, u.2.2.2.2.2.2.1, u.2.2.2.2.2.2.2.1, u.2.2.2.2.2.2.2.2.1, u.2.2.2.2.2.2.2.2.2.1, u.2.2.2.2.2.2.2.2.2.2.1, u.2.2.2.2.2.2.2.2.2.2.2.1, u.2.2.2.2.2.2.2.2.2.2.2.2.1, u.2.2.2.2.2.2.2.2.2.2.2.2.2.1, u.2.2.2.2.2.2.2.2.2.2.2.2.2.2.1, u.2.2.2.2.2.2.2.2.2.2.2.2.2.2.2.1, u.2.2.2.2.2.2.2.2.2.2.2.2.2.2.2.2.1, u.2.2.2.2.2.2.2.2.2.2.2.2.2.2.2.2.2.1, u.2.2.2.2.2.2.2.2.2.2.2.2.2.2.2.2.2.2.1, u.2.2.2.2.2.2.2.2.2.2.2.2.2.2.2.2.2.2.2.1, u.2.2.2.2.2.2.2.2.2.2.2.2.2.2.2.2.2.2.2.2.1, u.2.2.2.2.2.2.2.2.2.2.2.2.2.2.2.2.2.2.2.2.2.1, u.2.2.2.2.2.2.2.2.2.2.2.2.2.2.2.2.2.2.2.2.2.2.1, u.2.2.2.2.2.2.2.2.2.2.2.2.2.2.2.2.2.2.2.2.2.2.2.1, u.2.2.2.2.2.2.2.2.2.2.2.2.2.2.2.2.2.2.2.2.2.2.2.2.1, u.2.2.2.2.2.2.2.2.2.2.2.2.2.2.2.2.2.2.2.2.2.2.2.2.2.1, u.2.2.2.2.2.2.2.2.2.2.2.2.2.2.2.2.2.2.2.2.2.2.2.2.2.2.1, u.2.2.2.2.2.2.2.2.2.2.2.2.2.2.2.2.2.2.2.2.2.2.2.2.2.2.2.1, u.2.2.2.2.2.2.2.2.2.2.2.2.2.2.2.2.2.2.2.2.2.2.2.2.2.2.2.2.1, u.2.2.2.2.2.2.2.2.2.2.2.2.2.2.2.2.2.2.2.2.2.2.2.2.2.2.2.2.2.1, u.2.2.2.2.2.2.2.2.2.2.2.2.2.2.2.2.2.2.2.2.2.2.2.2.2.2.2.2.2.2.1, u.2.2.2.2.2.2.2.2.2.2.2.2.2.2.2.2.2.2.2.2.2.2.2.2.2.2.2.2.2.2.2.1, u.2.2.2.2.2.2.2.2.2.2.2.2.2.2.2.2.2.2.2.2.2.2.2.2.2.2.2.2.2.2.2.2.1, u.2.2.2.2.2.2.2.2.2.2.2.2.2.2.2.2.2.2.2.2.2.2.2.2.2.2.2.2.2.2.2.2.2.1, u.2.2.2.2.2.2.2.2.2.2.2.2.2.2.2.2.2.2.2.2.2.2.2.2.2.2.2.2.2.2.2.2.2.2.1, u.2.2.2.2.2.2.2.2.2.2.2.2.2.2.2.2.2.2.2.2.2.2.2.2.2.2.2.2.2.2.2.2.2.2.2.1, u.2.2.2.2.2.2.2.2.2.2.2.2.2.2.2.2.2.2.2.2.2.2.2.2.2.2.2.2.2.2.2.2.2.2.2.2.1, x_waitNext, u.2.2.2.2.2.2.2.2.2.2.2.2.2.2.2.2.2.2.2.2.2.2.2.2.2.2.2.2.2.2.2.2.2.2.2.2.2.2)
def qs_waits (u : SX) (x_waits : Nat → Int32) : SX := (u.1, u.2.1, u.2.2.1, u.2.2.2.1, u.2.2.2.2.1, u.2.2.2.2.2.1, u.2.2.2.2.2.2.1, u.2.2.2.2.2.2.2.1, u.2.2.2.2.2.2.2.2.1, u.2.2.2.2.2.2.2.2.2.1, u.2.2.2.2.2.2.2.2.2.2.1, u.2.2.2.2.2.2.2.2.2.2.2.1, u.2.2.2.2.2.2.2.2.2.2.2.2.1, u.2.2.2.2.2.2.2.2.2.2.2.2.2.1, u.2.2.2.2.2.2.2.2.2.2.2.2.2.2.1, u.2.2.2.2.2.2.2.2.2.2.2.2.2.2.2.1, u.2.2.2.2.2.2.2.2.2.2.2.2.2.2.2.2.1, u.2.2.2.2.2.2.2.2.2.2.2.2.2.2.2.2.2.1, u.2.2.2.2.2.2.2.2.2.2.2.2.2.2.2.2.2.2.1, u.2.2.2.2.2.2.2.2.2.2.2.2.2.2.2.2.2.2.2.1, u.2.2.2.2.2.2.2.2.2.2.2.2.2.2.2.2.2.2.2.2.1, u.2.2.2.2.2.2.2.2.2.2.2.2.2.2.2.2.2.2.2.2.2.1, u.2.2.2.2.2.2.2.2.2.2.2.2.2.2.2.2.2.2.2.2.2.2.1, u.2.2.2.2.2.2.2.2.2.2.2.2.2.2.2.2.2.2.2.2.2.2.2.1, u.2.2.2.2.2.2.2.2.2.2.2.2.2.2.2.2.2.2.2.2.2.2.2.2.1, u.2.2.2.2.2.2.2.2.2.2.2.2.2.2.2.2.2.2.2.2.2.2.2.2.2.1, u.2.2.2.2.2.2.2.2.2.2.2.2.2.2.2.2.2.2.2.2.2.2.2.2.2.2.1, u.2.2.2.2.2.2.2.2.2.2.2.2.2.2.2.2.2.2.2.2.2.2.2.2.2.2.2.1, u.2.2.2.2.2.2.2.2.2.2.2.2.2.2.2.2.2.2.2.2.2.2.2.2.2.2.2.2.1, u.2.2.2.2.2.2.2.2.2.2.2.2.2.2.2.2.2.2.2.2.2.2.2.2.2.2.2.2.2.1, u.2.2.2.2.2.2.2.2.2.2.2.2.2.2.2.2.2.2.2.2.2.2.2.2.2.2.2.2.2.2.1, u.2.2.2.2.2.2.2.2.2.2.2.2.2.2.2.2.2.2.2.2.2.2.2.2.2.2.2.2.2.2.2.1, u.2.2.2.2.2.2.2.2.2.2.2.2.2.2.2.2.2.2.2.2.2.2.2.2.2.2.2.2.2.2.2.2.1, u.2.2.2.2.2.2.2.2.2.2.2.2.2.2.2.2.2.2.2.2.2.2.2.2.2.2.2.2.2.2.2.2.2.1, u.2.2.2.2.2.2.2.2.2.2.2.2.2.2.2.2.2.2.2.2.2.2.2.2.2.2.2.2.2.2.2.2.2.2.1, u.2.2.2.2.2.2.2.2.2.2.2.2.2.2.2.2.2.2.2.2.2.2.2.2.2.2.2.2.2.2.2.2.2.2.2.1, u.2.2.2.2.2.2.2.2.2.2.2.2.2.2.2.2.2.2.2.2.2.2.2.2.2.2.2.2.2.2.2.2.2.2.2.2.1, u.2.2.2.2.2.2.2.2.2.2.2.2.2.2.2.2.2.2.2.2.2.2.2.2.2.2.2.2.2.2.2.2.2.2.2.2.2.1, x_waits)
def qs_wires_counts (u : SX) (x_wires : Int32) (x_counts : Nat → Int32) : SX := (u.1, u.2.1, u.2.2.1, x_wires, u.2.2.2.2.1, u.2.2.2.2.2.1, u.2.2.2.2.2.2.1, u.2.2.2.2.2.2.2.1, u.2.2.2.2.2.2.2.2.1, u.2.2.2.2.2.2.2.2.2.1, u.2.2.2.2.2.2.2.2.2.2.1, u.2.2.2.2.2.2.2.2.2.2.2.1, u.2.2.2.2.2.2.2.2.2.2.2.2.1, u.2.2.2.2.2.2.2.2.2.2.2.2.2.1, u.2.2.2.2.2.2.2.2.2.2.2.2.2.2.1, u.2.2.2.2.2.2.2.2.2.2.2.2.2.2.2.1, u.2.2.2.2.2.2.2.2.2.2.2.2.2.2.2.2.1, u.2.2.2.2.2.2.2.2.2.2.2.2.2.2.2.2.2.1, u.2.2.2.2.2.2.2.2.2.2.2.2.2.2.2.2.2.2.1, u.2.2.2.2.2.2.2.2.2.2.2.2.2.2.2.2.2.2.2.1, u.2.2.2.2.2.2.2.2.2.2.2.2.2.2.2.2.2.2.2.2.1, x_counts, u.2.2.2.2.2.2.2.2.2.2.2.2.2.2.2.2.2.2.2.2.2.2.1, u.2.2.2.2.2.2.2.2.2.2.2.2.2.2.2.2.2.2.2.2.2.2.2.1, u.2.2.2.2.2.2.2.2.2.2.2.2.2.2.2.2.2.2.2.2.2.2.2.2.1, u.2.2.2.2.2.2.2.2.2.2.2.2.2.2.2.2.2.2.2.2.2.2.2.2.2.1, u.2.2.2.2.2.2.2.2.2.2.2.2.2.2.2.2.2.2.2.2.2.2.2.2.2.2.1, u.2.2.2.2.2.2.2.2.2.2.2.2.2.2.2.2.2.2.2.2.2.2.2.2.2.2.2.1, u.2.2.2.2.2.2.2.2.2.2.2.2.2.2.2.2.2.2.2.2.2.2.2.2.2.2.2.2.1, u.2.2.2.2.2.2.2.2.2.2.2.2.2.2.2.2.2.2.2.2.2.2.2.2.2.2.2.2.2.1, u.2.2.2.2.2.2.2.2.2.2.2.2.2.2.2.2.2.2.2.2.2.2.2.2.2.2.2.2.2.2.1, u.2.2.2.2.2.2.2.2.2.2.2.2.2.2.2.2.2.2.2.2.2.2.2.2.2.2.2.2.2.2.2.1, u.2.2.2.2.2.2.2.2.2.2.2.2.2.2.2.2.2.2.2.2.2.2.2.2.2.2.2.2.2.2.2.2.1, u.2.2.2.2.2.2.2.2.2.2.2.2.2.2.2.2.2.2.2.2.2.2.2.2.2.2.2.2.2.2.2.2.2.1, u.2.2.2.2.2.2.2.2.2.2.2.2.2.2.2.2.2.2.2.2.2.2.2.2.2.2.2.2.2.2.2.2.2.2.1, u.2.2.2.2.2.2.2.2.2.2.2.2.2.2.2.2.2.2.2.2.2.2.2.2.2.2.2.2.2.2.2.2.2.2.2.1, u.2.2.2.2.2.2.2.2.2.2.2.2.2.2.2.2.2.2.2.2.2.2.2.2.2.2.2.2.2.2.2.2.2.2.2.2.1, u.2.2.2.2.2.2.2.2.2.2.2.2.2.2.2.2.2.2.2.2.2.2.2.2.2.2.2.2.2.2.2.2.2.2.2.2.2.1, u.2.2.2.2.2.2.2.2.2.2.2.2.2.2.2.2.2.2.2.2.2.2.2.2.2.2.2.2.2.2.2.2.2.2.2.2.2.2)
def qs_joinedMakes_joinedLets (u : SX) (x_joinedMakes : Int32) (x_joinedLets : Int32) : SX := (u.1, u.2.1, u.2.2.1, u.2.2.2.1, u.2.2.2.2.1, x_joinedMakes, x_joinedLets, u.2.2.2.2.2.2.2.1, u.2.2.2.2.2.2.2.2.1, u.2.2.2.2.2.2.2.2.2.1, u.2.2.2.2.2.2.2.2.2.2.1, u.2.2.2.2.2.2.2.2.2.2.2.1, u.2.2.2.2.2.2.2.2.2.2.2.2.1, u.2.2.2.2.2.2.2.2.2.2.2.2.2.1, u.2.2.2.2.2.2.2.2.2.2.2.2.2.2.1, u.2.2.2.2.2.2.2.2.2.2.2.2.2.2.2.1, u.2.2.2.2.2.2.2.2.2.2.2.2.2.2.2.2.1, u.2.2.2.2.2.2.2.2.2.2.2.2.2.2.2.2.2.1, u.2.2.2.2.2.2.2.2.2.2.2.2.2.2.2.2.2.2.1, u.2.2.2.2.2.2.2.2.2.2.2.2.2.2.2.2.2.2.2.1, u.2.2.2.2.2.2.2.2.2.2.2.2.2.2.2.2.2.2.2.2.1, u.2.2.2.2.2.2.2.2.2.2.2.2.2.2.2.2.2.2.2.2.2.1, u.2.2.2.2.2.2.2.2.2.2.2.2.2.2.2.2.2.2.2.2.2.2.1, u.2.2.2.2.2.2.2.2.2.2.2.2.2.2.2.2.2.2.2.2.2.2.2.1, u.2.2.2.2.2.2.2.2.2.2.2.2.2.2.2.2.2.2.2.2.2.2.2.2.1, u.2.2.2.2.2.2.2.2.2.2.2.2.2.2.2.2.2.2.2.2.2.2.2.2.2.1, u.2.2.2.2.2.2.2.2.2.2.2.2.2.2.2.2.2.2.2.2.2.2.2.2.2.2.1, u.2.2.2.2.2.2.2.2.2.2.2.2.2.2.2.2.2.2.2.2.2.2.2.2.2.2.2.1, u.2.2.2.2.2.2.2.2.2.2.2.2.2.2.2.2.2.2.2.2.2.2.2.2.2.2.2.2.1, u.2.2.2.2.2.2.2.2.2.2.2.2.2.2.2.2.2.2.2.2.2.2.2.2.2.2.2.2.2.1, u.2.2.2.2.2.2.2.2.2.2.2.2.2.2.2.2.2.2.2.2.2.2.2.2.2.2.2.2.2.2.1, u.2.2.2.2.2.2.2.2.2.2.2.2.2.2.2.2.2.2.2.2.2.2.2.2.2.2.2.2.2.2.2.1, u.2.2.2.2.2.2.2.2.2.2.2.2.2.2.2.2.2.2.2.2.2.2.2.2.2.2.2.2.2.2.2.2.1, u.2.2.2.2.2.2.2.2.2.2.2.2.2.2.2.2.2.2.2.2.2.2.2.2.2.2.2.2.2.2.2.2.2.1, u.2.2.2.2.2.2.2.2.2.2.2.2.2.2.2.2.2.2.2.2.2.2.2.2.2.2.2.2.2.2.2.2.2.2.1, u.2.2.2.2.2.2.2.2.2.2.2.2.2.2.2.2.2.2.2.2.2.2.2.2.2.2.2.2.2.2.2.2.2.2.2.1, u.2.2.2.2.2.2.2.2.2.2.2.2.2.2.2.2.2.2.2.2.2.2.2.2.2.2.2.2.2.2.2.2.2.2.2.2.1, u.2.2.2.2.2.2.2.2.2.2.2.2.2.2.2.2.2.2.2.2.2.2.2.2.2.2.2.2.2.2.2.2.2.2.2.2.2.1, u.2.2.2.2.2.2.2.2.2.2.2.2.2.2.2.2.2.2.2.2.2.2.2.2.2.2.2.2.2.2.2.2.2.2.2.2.2.2)
def qs_value_waits (u : SX) (x_value : Nat → Int32) (x_waits : Nat → Int32) : SX := (u.1, u.2.1, u.2.2.1, u.2.2.2.1, u.2.2.2.2.1, u.2.2.2.2.2.1, u.2.2.2.2.2.2.1, u.2.2.2.2.2.2.2.1, u.2.2.2.2.2.2.2.2.1, u.2.2.2.2.2.2.2.2.2.1, u.2.2.2.2.2.2.2.2.2.2.1, u.2.2.2.2.2.2.2.2.2.2.2.1, u.2.2.2.2.2.2.2.2.2.2.2.2.1, u.2.2.2.2.2.2.2.2.2.2.2.2.2.1, u.2.2.2.2.2.2.2.2.2.2.2.2.2.2.1, u.2.2.2.2.2.2.2.2.2.2.2.2.2.2.2.1, u.2.2.2.2.2.2.2.2.2.2.2.2.2.2.2.2.1, u.2.2.2.2.2.2.2.2.2.2.2.2.2.2.2.2.2.1, u.2.2.2.2.2.2.2.2.2.2.2.2.2.2.2.2.2.2.1, u.2.2.2.2.2.2.2.2.2.2.2.2.2.2.2.2.2.2.2.1, u.2.2.2.2.2.2.2.2.2.2.2.2.2.2.2.2.2.2.2.2.1, u.2.2.2.2.2.2.2.2.2.2.2.2.2.2.2.2.2.2.2.2.2.1, u.2.2.2.2.2.2.2.2.2.2.2.2.2.2.2.2.2.2.2.2.2.2.1, u.2.2.2.2.2.2.2.2.2.2.2.2.2.2.2.2.2.2.2.2.2.2.2.1, u.2.2.2.2.2.2.2.2.2.2.2.2.2.2.2.2.2.2.2.2.2.2.2.2.1, u.2.2.2.2.2.2.2.2.2.2.2.2.2.2.2.2.2.2.2.2.2.2.2.2.2.1, u.2.2.2.2.2.2.2.2.2.2.2.2.2.2.2.2.2.2.2.2.2.2.2.2.2.2.1, u.2.2.2.2.2.2.2.2.2.2.2.2.2.2.2.2.2.2.2.2.2.2.2.2.2.2.2.1, x_value, u.2.2.2.2.2.2.2.2.2.2.2.2.2.2.2.2.2.2.2.2.2.2.2.2.2.2.2.2.2.1, u.2.2.2.2.2.2.2.2.2.2.2.2.2.2.2.2.2.2.2.2.2.2.2.2.2.2.2.2.2.2.1, u.2.2.2.2.2.2.2.2.2.2.2.2.2.2.2.2.2.2.2.2.2.2.2.2.2.2.2.2.2.2.2.1, u.2.2.2.2.2.2.2.2.2.2.2.2.2.2.2.2.2.2.2.2.2.2.2.2.2.2.2.2.2.2.2.2.1, u.2.2.2.2.2.2.2.2.2.2.2.2.2.2.2.2.2.2.2.2.2.2.2.2.2.2.2.2.2.2.2.2.2.1, u.2.2.2.2.2.2.2.2.2.2.2.2.2.2.2.2.2.2.2.2.2.2.2.2.2.2.2.2.2.2.2.2.2.2.1, u.2.2.2.2.2.2.2.2.2.2.2.2.2.2.2.2.2.2.2.2.2.2.2.2.2.2.2.2.2.2.2.2.2.2.2.1, u.2.2.2.2.2.2.2.2.2.2.2.2.2.2.2.2.2.2.2.2.2.2.2.2.2.2.2.2.2.2.2.2.2.2.2.2.1, u.2.2.2.2.2.2.2.2.2.2.2.2.2.2.2.2.2.2.2.2.2.2.2.2.2.2.2.2.2.2.2.2.2.2.2.2.2.1, x_waits)
def qs_hashHead_hashNext (u : SX) (x_hashHead : Nat → Int32) (x_hashNext : Nat → Int32) : SX := (u.1, u.2.1, u.2.2.1, u.2.2.2.1, u.2.2.2.2.1, u.2.2.2.2.2.1, u.2.2.2.2.2.2.1, u.2.2.2.2.2.2.2.1, u.2.2.2.2.2.2.2.2.1, u.2.2.2.2.2.2.2.2.2.1, u.2.2.2.2.2.2.2.2.2.2.1, u.2.2.2.2.2.2.2.2.2.2.2.1, u.2.2.2.2.2.2.2.2.2.2.2.2.1, u.2.2.2.2.2.2.2.2.2.2.2.2.2.1, u.2.2.2.2.2.2.2.2.2.2.2.2.2.2.1, u.2.2.2.2.2.2.2.2.2.2.2.2.2.2.2.1, u.2.2.2.2.2.2.2.2.2.2.2.2.2.2.2.2.1, u.2.2.2.2.2.2.2.2.2.2.2.2.2.2.2.2.2.1, u.2.2.2.2.2.2.2.2.2.2.2.2.2.2.2.2.2.2.1, u.2.2.2.2.2.2.2.2.2.2.2.2.2.2.2.2.2.2.2.1, u.2.2.2.2.2.2.2.2.2.2.2.2.2.2.2.2.2.2.2.2.1, u.2.2.2.2.2.2.2.2.2.2.2.2.2.2.2.2.2.2.2.2.2.1, u.2.2.2.2.2.2.2.2.2.2.2.2.2.2.2.2.2.2.2.2.2.2.1, u.2.2.2.2.2.2.2.2.2.2.2.2.2.2.2.2.2.2.2.2.2.2.2.1, u.2.2.2.2.2.2.2.2.2.2.2.2.2.2.2.2.2.2.2.2.2.2.2.2.1, u.2.2.2.2.2.2.2.2.2.2.2.2.2.2.2.2.2.2.2.2.2.2.2.2.2.1, u.2.2.2.2.2.2.2.2.2.2.2.2.2.2.2.2.2.2.2.2.2.2.2.2.2.2.1, u.2.2.2.2.2.2.2.2.2.2.2.2.2.2.2.2.2.2.2.2.2.2.2.2.2.2.2.1, u.2.2.2.2.2.2.2.2.2.2.2.2.2.2.2.2.2.2.2.2.2.2.2.2.2.2.2.2.1, u.2.2.2.2.2.2.2.2.2.2.2.2.2.2.2.2.2.2.2.2.2.2.2.2.2.2.2.2.2.1, x_hashHead, x_hashNext, u.2.2.2.2.2.2.2.2.2.2.2.2.2.2.2.2.2.2.2.2.2.2.2.2.2.2.2.2.2.2.2.2.1, u.2.2.2.2.2.2.2.2.2.2.2.2.2.2.2.2.2.2.2.2.2.2.2.2.2.2.2.2.2.2.2.2.2.1, u.2.2.2.2.2.2.2.2.2.2.2.2.2.2.2.2.2.2.2.2.2.2.2.2.2.2.2.2.2.2.2.2.2.2.1, u.2.2.2.2.2.2.2.2.2.2.2.2.2.2.2.2.2.2.2.2.2.2.2.2.2.2.2.2.2.2.2.2.2.2.2.1, u.2.2.2.2.2.2.2.2.2.2.2.2.2.2.2.2.2.2.2.2.2.2.2.2.2.2.2.2.2.2.2.2.2.2.2.2.1, u.2.2.2.2.2.2.2.2.2.2.2.2.2.2.2.2.2.2.2.2.2.2.2.2.2.2.2.2.2.2.2.2.2.2.2.2.2.1, u.2.2.2.2.2.2.2.2.2.2.2.2.2.2.2.2.2.2.2.2.2.2.2.2.2.2.2.2.2.2.2.2.2.2.2.2.2.2)
def qs_wordD_wordS_wordM (u : SX) (x_wordD : Int32) (x_wordS : Int32) (x_wordM : Int32) : SX := (u.1, u.2.1, u.2.2.1, u.2.2.2.1, u.2.2.2.2.1, u.2.2.2.2.2.1, u.2.2.2.2.2.2.1, u.2.2.2.2.2.2.2.1, u.2.2.2.2.2.2.2.2.1, u.2.2.2.2.2.2.2.2.2.1, x_wordD, x_wordS, x_wordM, u.2.2.2.2.2.2.2.2.2.2.2.2.2.1, u.2.2.2.2.2.2.2.2.2.2.2.2.2.2.1, u.2.2.2.2.2.2.2.2.2.2.2.2.2.2.2.1, u.2.2.2.2.2.2.2.2.2.2.2.2.2.2.2.2.1, u.2.2.2.2.2.2.2.2.2.2.2.2.2.2.2.2.2.1, u.2.2.2.2.2.2.2.2.2.2.2.2.2.2.2.2.2.2.1, u.2.2.2.2.2.2.2.2.2.2.2.2.2.2.2.2.2.2.2.1, u.2.2.2.2.2.2.2.2.2.2.2.2.2.2.2.2.2.2.2.2.1, u.2.2.2.2.2.2.2.2.2.2.2.2.2.2.2.2.2.2.2.2.2.1, u.2.2.2.2.2.2.2.2.2.2.2.2.2.2.2.2.2.2.2.2.2.2.1, u.2.2.2.2.2.2.2.2.2.2.2.2.2.2.2.2.2.2.2.2.2.2.2.1, u.2.2.2.2.2.2.2.2.2.2.2.2.2.2.2.2.2.2.2.2.2.2.2.2.1, u.2.2.2.2.2.2.2.2.2.2.2.2.2.2.2.2.2.2.2.2.2.2.2.2.2.1, u.2.2.2.2.2.2.2.2.2.2.2.2.2.2.2.2.2.2.2.2.2.2.2.2.2.2.1, u.2.2.2.2.2.2.2.2.2.2.2.2.2.2.2.2.2.2.2.2.2.2.2.2.2.2.2.1, u.2.2.2.2.2.2.2.2.2.2.2.2.2.2.2.2.2.2.2.2.2.2.2.2.2.2.2.2.1, u.2.2.2.2.2.2.2.2.2.2.2.2.2.2.2.2.2.2.2.2.2.2.2.2.2.2.2.2.2.1, u.2.2.2.2.2.2.2.2.2.2.2.2.2.2.2.2.2.2.2.2.2.2.2.2.2.2.2.2.2.2.1, u.2.2.2.2.2.2.2.2.2.2.2.2.2.2.2.2.2.2.2.2.2.2.2.2.2.2.2.2.2.2.2.1, u.2.2.2.2.2.2.2.2.2.2.2.2.2.2.2.2.2.2.2.2.2.2.2.2.2.2.2.2.2.2.2.2.1, u.2.2.2.2.2.2.2.2.2.2.2.2.2.2.2.2.2.2.2.2.2.2.2.2.2.2.2.2.2.2.2.2.2.1, u.2.2.2.2.2.2.2.2.2.2.2.2.2.2.2.2.2.2.2.2.2.2.2.2.2.2.2.2.2.2.2.2.2.2.1, u.2.2.2.2.2.2.2.2.2.2.2.2.2.2.2.2.2.2.2.2.2.2.2.2.2.2.2.2.2.2.2.2.2.2.2.1, u.2.2.2.2.2.2.2.2.2.2.2.2.2.2.2.2.2.2.2.2.2.2.2.2.2.2.2.2.2.2.2.2.2.2.2.2.1, u.2.2.2.2.2.2.2.2.2.2.2.2.2.2.2.2.2.2.2.2.2.2.2.2.2.2.2.2.2.2.2.2.2.2.2.2.2.1, u.2.2.2.2.2.2.2.2.2.2.2.2.2.2.2.2.2.2.2.2.2.2.2.2.2.2.2.2.2.2.2.2.2.2.2.2.2.2)
def qs_waitHead_waitNext_waits (u : SX) (x_waitHead : Nat → Int32) (x_waitNext : Nat → Int32) (x_waits : Nat → Int32) : SX := (u.1, u.2.1, u.2.2.1, u.2.2.2.1, u.2.2.2.2.1, u.2.2.2.2.2.1, u.2.2.2.2.2.2.1, u.2.2.2.2.2.2.2.1, u.2.2.2.2.2.2.2.2.1, u.2.2.2.2.2.2.2.2.2.1, u.2.2.2.2.2.2.2.2.2.2.1, u.2.2.2.2.2.2.2.2.2.2.2.1, u.2.2.2.2.2.2.2.2.2.2.2.2.1, u.2.2.2.2.2.2.2.2.2.2.2.2.2.1, u.2.2.2.2.2.2.2.2.2.2.2.2.2.2.1, u.2.2.2.2.2.2.2.2.2.2.2.2.2.2.2.1, u.2.2.2.2.2.2.2.2.2.2.2.2.2.2.2.2.1, u.2.2.2.2.2.2.2.2.2.2.2.2.2.2.2.2.2.1, u.2.2.2.2.2.2.2.2.2.2.2.2.2.2.2.2.2.2.1, u.2.2.2.2.2.2.2.2.2.2.2.2.2.2.2.2.2.2.2.1, u.2.2.2.2.2.2.2.2.2.2.2.2.2.2.2.2.2.2.2.2.1, u.2.2.2.2.2.2.2.2.2.2.2.2.2.2.2.2.2.2.2.2.2.1, u.2.2.2.2.2.2.2.2.2.2.2.2.2.2.2.2.2.2.2.2.2.2.1, u.2.2.2.2.2.2.2.2.2.2.2.2.2.2.2.2.2.2.2.2.2.2.2.1, u.2.2.2.2.2.2.2.2.2.2.2.2.2.2.2.2.2.2.2.2.2.2.2.2.1, u.2.2.2.2.2.2.2.2.2.2.2.2.2.2.2.2.2.2.2.2.2.2.2.2.2.1, u.2.2.2.2.2.2.2.2.2.2.2.2.2.2.2.2.2.2.2.2.2.2.2.2.2.2.1, u.2.2.2.2.2.2.2.2.2.2.2.2.2.2.2.2.2.2.2.2.2.2.2.2.2.2.2.1, u.2.2.2.2.2.2.2.2.2.2.2.2.2.2.2.2.2.2.2.2.2.2.2.2.2.2.2.2.1, u.2.2.2.2.2.2.2.2.2.2.2.2.2.2.2.2.2.2.2.2.2.2.2.2.2.2.2.2.2.1, u.2.2.2.2.2.2.2.2.2.2.2.2.2.2.2.2.2.2.2.2.2.2.2.2.2.2.2.2.2.2.1, u.2.2.2.2.2.2.2.2.2.2.2.2.2.2.2.2.2.2.2.2.2.2.2.2.2.2.2.2.2.2.2.1, u.2.2.2.2.2.2.2.2.2.2.2.2.2.2.2.2.2.2.2.2.2.2.2.2.2.2.2.2.2.2.2.2.1, u.2.2.2.2.2.2.2.2.2.2.2.2.2.2.2.2.2.2.2.2.2.2.2.2.2.2.2.2.2.2.2.2.2.1, u.2.2.2.2.2.2.2.2.2.2.2.2.2.2.2.2.2.2.2.2.2.2.2.2.2.2.2.2.2.2.2.2.2.2.1, u.2.2.2.2.2.2.2.2.2.2.2.2.2.2.2.2.2.2.2.2.2.2.2.2.2.2.2.2.2.2.2.2.2.2.2.1, x_waitHead, x_waitNext, x_waits)
def qs_fans_fanHead_fanNext_fanGate (u : SX) (x_fans : Int32) (x_fanHead : Nat → Int32) (x_fanNext : Nat → Int32) (x_fanGate : Nat → Int32) : SX := (u.1, u.2.1, u.2.2.1, u.2.2.2.1, x_fans, u.2.2.2.2.2.1, u.2.2.2.2.2.2.1, u.2.2.2.2.2.2.2.1, u.2.2.2.2.2.2.2.2.1, u.2.2.2.2.2.2.2.2.2.1, u.2.2.2.2.2.2.2.2.2.2.1, u.2.2.2.2.2.2.2.2.2.2.2.1, u.2.2.2.2.2.2.2.2.2.2.2.2.1, u.2.2.2.2.2.2.2.2.2.2.2.2.2.1, u.2.2.2.2.2.2.2.2.2.2.2.2.2.2.1, u.2.2.2.2.2.2.2.2.2.2.2.2.2.2.2.1, u.2.2.2.2.2.2.2.2.2.2.2.2.2.2.2.2.1, u.2.2.2.2.2.2.2.2.2.2.2.2.2.2.2.2.2.1, u.2.2.2.2.2.2.2.2.2.2.2.2.2.2.2.2.2.2.1, u.2.2.2.2.2.2.2.2.2.2.2.2.2.2.2.2.2.2.2.1, u.2.2.2.2.2.2.2.2.2.2.2.2.2.2.2.2.2.2.2.2.1, u.2.2.2.2.2.2.2.2.2.2.2.2.2.2.2.2.2.2.2.2.2.1, u.2.2.2.2.2.2.2.2.2.2.2.2.2.2.2.2.2.2.2.2.2.2.1, u.2.2.2.2.2.2.2.2.2.2.2.2.2.2.2.2.2.2.2.2.2.2.2.1, u.2.2.2.2.2.2.2.2.2.2.2.2.2.2.2.2.2.2.2.2.2.2.2.2.1, u.2.2.2.2.2.2.2.2.2.2.2.2.2.2.2.2.2.2.2.2.2.2.2.2.2.1, u.2.2.2.2.2.2.2.2.2.2.2.2.2.2.2.2.2.2.2.2.2.2.2.2.2.2.1, u.2.2.2.2.2.2.2.2.2.2.2.2.2.2.2.2.2.2.2.2.2.2.2.2.2.2.2.1, u.2.2.2.2.2.2.2.2.2.2.2.2.2.2.2.2.2.2.2.2.2.2.2.2.2.2.2.2.1, u.2.2.2.2.2.2.2.2.2.2.2.2.2.2.2.2.2.2.2.2.2.2.2.2.2.2.2.2.2.1, u.2.2.2.2.2.2.2.2.2.2.2.2.2.2.2.2.2.2.2.2.2.2.2.2.2.2.2.2.2.2.1, u.2.2.2.2.2.2.2.2.2.2.2.2.2.2.2.2.2.2.2.2.2.2.2.2.2.2.2.2.2.2.2.1, u.2.2.2.2.2.2.2.2.2.2.2.2.2.2.2.2.2.2.2.2.2.2.2.2.2.2.2.2.2.2.2.2.1, x_fanHead, x_fanNext, x_fanGate, u.2.2.2.2.2.2.2.2.2.2.2.2.2.2.2.2.2.2.2.2.2.2.2.2.2.2.2.2.2.2.2.2.2.2.2.2.1, u.2.2.2.2.2.2.2.2.2.2.2.2.2.2.2.2.2.2.2.2.2.2.2.2.2.2.2.2.2.2.2.2.2.2.2.2.2.1, u.2.2.2.2.2.2.2.2.2.2.2.2.2.2.2.2.2.2.2.2.2.2.2.2.2.2.2.2.2.2.2.2.2.2.2.2.2.2)
def qs_counts_kind_inA_inB_inC (u : SX) (x_counts : Nat → Int32) (x_kind : Nat → Int32) (x_inA : Nat → Int32) (x_inB : Nat → Int32) (x_inC : Nat → Int32) : SX := (u.1, u.2.1, u.2.2.1, u.2.2.2.1, u.2.2.2.2.1, u.2.2.2.2.2.1, u.2.2.2.2.2.2.1, u.2.2.2.2.2.2.2.1, u.2.2.2.2.2.2.2.2.1, u.2.2.2.2.2.2.2.2.2.1, u.2.2.2.2.2.2.2.2.2.2.1, u.2.2.2.2.2.2.2.2.2.2.2.1, u.2.2.2.2.2.2.2.2.2.2.2.2.1, u.2.2.2.2.2.2.2.2.2.2.2.2.2.1, u.2.2.2.2.2.2.2.2.2.2.2.2.2.2.1, u.2.2.2.2.2.2.2.2.2.2.2.2.2.2.2.1, u.2.2.2.2.2.2.2.2.2.2.2.2.2.2.2.2.1, u.2.2.2.2.2.2.2.2.2.2.2.2.2.2.2.2.2.1, u.2.2.2.2.2.2.2.2.2.2.2.2.2.2.2.2.2.2.1, u.2.2.2.2.2.2.2.2.2.2.2.2.2.2.2.2.2.2.2.1, u.2.2.2.2.2.2.2.2.2.2.2.2.2.2.2.2.2.2.2.2.1, x_counts, x_kind, x_inA, x_inB, x_inC, u.2.2.2.2.2.2.2.2.2.2.2.2.2.2.2.2.2.2.2.2.2.2.2.2.2.2.1, u.2.2.2.2.2.2.2.2.2.2.2.2.2.2.2.2.2.2.2.2.2.2.2.2.2.2.2.1, u.2.2.2.2.2.2.2.2.2.2.2.2.2.2.2.2.2.2.2.2.2.2.2.2.2.2.2.2.1, u.2.2.2.2.2.2.2.2.2.2.2.2.2.2.2.2.2.2.2.2.2.2.2.2.2.2.2.2.2.1, u.2.2.2.2.2.2.2.2.2.2.2.2.2.2.2.2.2.2.2.2.2.2.2.2.2.2.2.2.2.2.1, u.2.2.2.2.2.2.2.2.2.2.2.2.2.2.2.2.2.2.2.2.2.2.2.2.2.2.2.2.2.2.2.1, u.2.2.2.2.2.2.2.2.2.2.2.2.2.2.2.2.2.2.2.2.2.2.2.2.2.2.2.2.2.2.2.2.1, u.2.2.2.2.2.2.2.2.2.2.2.2.2.2.2.2.2.2.2.2.2.2.2.2.2.2.2.2.2.2.2.2.2.1, u.2.2.2.2.2.2.2.2.2.2.2.2.2.2.2.2.2.2.2.2.2.2.2.2.2.2.2.2.2.2.2.2.2.2.1, u.2.2.2.2.2.2.2.2.2.2.2.2.2.2.2.2.2.2.2.2.2.2.2.2.2.2.2.2.2.2.2.2.2.2.2.1, u.2.2.2.2.2.2.2.2.2.2.2.2.2.2.2.2.2.2.2.2.2.2.2.2.2.2.2.2.2.2.2.2.2.2.2.2.1, u.2.2.2.2.2.2.2.2.2.2.2.2.2.2.2.2.2.2.2.2.2.2.2.2.2.2.2.2.2.2.2.2.2.2.2.2.2.1, u.2.2.2.2.2.2.2.2.2.2.2.2.2.2.2.2.2.2.2.2.2.2.2.2.2.2.2.2.2.2.2.2.2.2.2.2.2.2)
def gc_z : Nat → Int32 := fun _ => 0
def gc_eg (u : SX) : SX := (u.1, u.2.1, u.2.2.1, u.2.2.2.1, u.2.2.2.2.1, u.2.2.2.2.2.1, u.2.2.2.2.2.2.1, u.2.2.2.2.2.2.2.1, u.2.2.2.2.2.2.2.2.1, u.2.2.2.2.2.2.2.2.2.1, u.2.2.2.2.2.2.2.2.2.2.1, u.2.2.2.2.2.2.2.2.2.2.2.1, u.2.2.2.2.2.2.2.2.2.2.2.2.1, u.2.2.2.2.2.2.2.2.2.2.2.2.2.1, u.2.2.2.2.2.2.2.2.2.2.2.2.2.2.1, u.2.2.2.2.2.2.2.2.2.2.2.2.2.2.2.1, u.2.2.2.2.2.2.2.2.2.2.2.2.2.2.2.2.1, u.2.2.2.2.2.2.2.2.2.2.2.2.2.2.2.2.2.1, u.2.2.2.2.2.2.2.2.2.2.2.2.2.2.2.2.2.2.1, u.2.2.2.2.2.2.2.2.2.2.2.2.2.2.2.2.2.2.2.1, u.2.2.2.2.2.2.2.2.2.2.2.2.2.2.2.2.2.2.2.2.1, gc_z, gc_z, gc_z, gc_z, gc_z, u.2.2.2.2.2.2.2.2.2.2.2.2.2.2.2.2.2.2.2.2.2.2.2.2.2.2.1, u.2.2.2.2.2.2.2.2.2.2.2.2.2.2.2.2.2.2.2.2.2.2.2.2.2.2.2.1, u.2.2.2.2.2.2.2.2.2.2.2.2.2.2.2.2.2.2.2.2.2.2.2.2.2.2.2.2.1, u.2.2.2.2.2.2.2.2.2.2.2.2.2.2.2.2.2.2.2.2.2.2.2.2.2.2.2.2.2.1, gc_z, gc_z, u.2.2.2.2.2.2.2.2.2.2.2.2.2.2.2.2.2.2.2.2.2.2.2.2.2.2.2.2.2.2.2.2.1, u.2.2.2.2.2.2.2.2.2.2.2.2.2.2.2.2.2.2.2.2.2.2.2.2.2.2.2.2.2.2.2.2.2.1, u.2.2.2.2.2.2.2.2.2.2.2.2.2.2.2.2.2.2.2.2.2.2.2.2.2.2.2.2.2.2.2.2.2.2.1, u.2.2.2.2.2.2.2.2.2.2.2.2.2.2.2.2.2.2.2.2.2.2.2.2.2.2.2.2.2.2.2.2.2.2.2.1, u.2.2.2.2.2.2.2.2.2.2.2.2.2.2.2.2.2.2.2.2.2.2.2.2.2.2.2.2.2.2.2.2.2.2.2.2.1, u.2.2.2.2.2.2.2.2.2.2.2.2.2.2.2.2.2.2.2.2.2.2.2.2.2.2.2.2.2.2.2.2.2.2.2.2.2.1, u.2.2.2.2.2.2.2.2.2.2.2.2.2.2.2.2.2.2.2.2.2.2.2.2.2.2.2.2.2.2.2.2.2.2.2.2.2.2)
def gc_el (u : SX) : SX := (u.1, u.2.1, u.2.2.1, 0, u.2.2.2.2.1, 0, 0, 0, 0, u.2.2.2.2.2.2.2.2.2.1, u.2.2.2.2.2.2.2.2.2.2.1, u.2.2.2.2.2.2.2.2.2.2.2.1, u.2.2.2.2.2.2.2.2.2.2.2.2.1, u.2.2.2.2.2.2.2.2.2.2.2.2.2.1, u.2.2.2.2.2.2.2.2.2.2.2.2.2.2.1, u.2.2.2.2.2.2.2.2.2.2.2.2.2.2.2.1, u.2.2.2.2.2.2.2.2.2.2.2.2.2.2.2.2.1, u.2.2.2.2.2.2.2.2.2.2.2.2.2.2.2.2.2.1, u.2.2.2.2.2.2.2.2.2.2.2.2.2.2.2.2.2.2.1, u.2.2.2.2.2.2.2.2.2.2.2.2.2.2.2.2.2.2.2.1, u.2.2.2.2.2.2.2.2.2.2.2.2.2.2.2.2.2.2.2.2.1, gc_z, gc_z, gc_z, gc_z, gc_z, u.2.2.2.2.2.2.2.2.2.2.2.2.2.2.2.2.2.2.2.2.2.2.2.2.2.2.1, u.2.2.2.2.2.2.2.2.2.2.2.2.2.2.2.2.2.2.2.2.2.2.2.2.2.2.2.1, u.2.2.2.2.2.2.2.2.2.2.2.2.2.2.2.2.2.2.2.2.2.2.2.2.2.2.2.2.1, u.2.2.2.2.2.2.2.2.2.2.2.2.2.2.2.2.2.2.2.2.2.2.2.2.2.2.2.2.2.1, gc_z, gc_z, gc_z, u.2.2.2.2.2.2.2.2.2.2.2.2.2.2.2.2.2.2.2.2.2.2.2.2.2.2.2.2.2.2.2.2.2.1, u.2.2.2.2.2.2.2.2.2.2.2.2.2.2.2.2.2.2.2.2.2.2.2.2.2.2.2.2.2.2.2.2.2.2.1, u.2.2.2.2.2.2.2.2.2.2.2.2.2.2.2.2.2.2.2.2.2.2.2.2.2.2.2.2.2.2.2.2.2.2.2.1, u.2.2.2.2.2.2.2.2.2.2.2.2.2.2.2.2.2.2.2.2.2.2.2.2.2.2.2.2.2.2.2.2.2.2.2.2.1, u.2.2.2.2.2.2.2.2.2.2.2.2.2.2.2.2.2.2.2.2.2.2.2.2.2.2.2.2.2.2.2.2.2.2.2.2.2.1, u.2.2.2.2.2.2.2.2.2.2.2.2.2.2.2.2.2.2.2.2.2.2.2.2.2.2.2.2.2.2.2.2.2.2.2.2.2.2)
def gc_ef (u : SX) : SX := (u.1, u.2.1, u.2.2.1, 0, u.2.2.2.2.1, 0, 0, 0, 0, 0, 0, 0, 0, 0, 0, 0, 0, 0, 0, u.2.2.2.2.2.2.2.2.2.2.2.2.2.2.2.2.2.2.2.1, u.2.2.2.2.2.2.2.2.2.2.2.2.2.2.2.2.2.2.2.2.1, gc_z, gc_z, gc_z, gc_z, gc_z, u.2.2.2.2.2.2.2.2.2.2.2.2.2.2.2.2.2.2.2.2.2.2.2.2.2.2.1, u.2.2.2.2.2.2.2.2.2.2.2.2.2.2.2.2.2.2.2.2.2.2.2.2.2.2.2.1, u.2.2.2.2.2.2.2.2.2.2.2.2.2.2.2.2.2.2.2.2.2.2.2.2.2.2.2.2.1, u.2.2.2.2.2.2.2.2.2.2.2.2.2.2.2.2.2.2.2.2.2.2.2.2.2.2.2.2.2.1, gc_z, gc_z, gc_z, u.2.2.2.2.2.2.2.2.2.2.2.2.2.2.2.2.2.2.2.2.2.2.2.2.2.2.2.2.2.2.2.2.2.1, u.2.2.2.2.2.2.2.2.2.2.2.2.2.2.2.2.2.2.2.2.2.2.2.2.2.2.2.2.2.2.2.2.2.2.1, u.2.2.2.2.2.2.2.2.2.2.2.2.2.2.2.2.2.2.2.2.2.2.2.2.2.2.2.2.2.2.2.2.2.2.2.1, u.2.2.2.2.2.2.2.2.2.2.2.2.2.2.2.2.2.2.2.2.2.2.2.2.2.2.2.2.2.2.2.2.2.2.2.2.1, u.2.2.2.2.2.2.2.2.2.2.2.2.2.2.2.2.2.2.2.2.2.2.2.2.2.2.2.2.2.2.2.2.2.2.2.2.2.1, u.2.2.2.2.2.2.2.2.2.2.2.2.2.2.2.2.2.2.2.2.2.2.2.2.2.2.2.2.2.2.2.2.2.2.2.2.2.2)
theorem uc_add {post : Int32 → SX → Prop} {u : SX} {p0 : Int32} {p1 : Int32} {p2 : Int32} {p3 : Int32} (h : vp_in (qg_circuit u) 2 ∧ (∀ x5_2 : Int32, x5_2 = (qg_counts u) (qg_circuit u).toNatClampNeg → (∀ x6_3 : Int32, x6_3 = ((qg_circuit u) * 2560) + x5_2 → (vp_in x6_3 5120 ∧ ∀ a_kind_5 : Nat → Int32, a_kind_5 = upd (qg_kind u) x6_3.toNatClampNeg (vp_nar .byte p0.toInt8.toInt32) → (vp_in x6_3 5120 ∧ ∀ a_inA_7 : Nat → Int32, a_inA_7 = upd (qg_inA u) x6_3.toNatClampNeg (vp_nar .short p1.toInt16.toInt32) → (vp_in x6_3 5120 ∧ ∀ a_inB_9 : Nat → Int32, a_inB_9 = upd (qg_inB u) x6_3.toNatClampNeg (vp_nar .short p2.toInt16.toInt32) → (vp_in x6_3 5120 ∧ ∀ a_inC_11 : Nat → Int32, a_inC_11 = upd (qg_inC u) x6_3.toNatClampNeg (vp_nar .short p3.toInt16.toInt32) → (vp_in (qg_circuit u) 2 ∧ (vp_in (qg_circuit u) 2 ∧ ∀ a_counts_14 : Nat → Int32, a_counts_14 = upd (qg_counts u) (qg_circuit u).toNatClampNeg (((qg_counts u) (qg_circuit u).toNatClampNeg) + 1) → (post x5_2 (qs_counts_kind_inA_inB_inC u a_counts_14 a_kind_5 a_inA_7 a_inB_9 a_inC_11))))))))))) : wpX_add post u p0 p1 p2 p3 := h
def ux_begin_96 (post : SX → Prop) (n : Nat) (x1 : Int32) (u : SX) : Prop := wX_begin_96 post n x1 (qg_port u) (qg_circuit u) (qg_tidy u) (qg_wires u) (qg_fans u) (qg_joinedMakes u) (qg_joinedLets u) (qg_threeSum u) (qg_threeCarry u) (qg_opLines u) (qg_wordD u) (qg_wordS u) (qg_wordM u) (qg_left u) (qg_right u) (qg_runs u) (qg_result u) (qg_carryOut u) (qg_address u) (qg_words u) (qg_state u) (qg_counts u) (qg_kind u) (qg_inA u) (qg_inB u) (qg_inC u) (qg_live u) (qg_level u) (qg_value u) (qg_fresh u) (qg_hashHead u) (qg_hashNext u) (qg_wire u) (qg_fanHead u) (qg_fanNext u) (qg_fanGate u) (qg_waitHead u) (qg_waitNext u) (qg_waits u)
theorem uc_begin_96 {post : SX → Prop} {n : Nat} {x1 : Int32} {u : SX} (h : ((189 ≤ x1 → (post u)) ∧ (¬ 189 ≤ x1 → (wpX_add (fun r_88 u89 => (∀ x1_128 : Int32, x1_128 = x1 + 1 → (ux_begin_96 post n x1_128 u89))) u 2 0 0 0)))) : ux_begin_96 post (n + 1) x1 u := h
def ux_begin_73 (post : SX → Prop) (n : Nat) (x1 : Int32) (u : SX) : Prop := wX_begin_73 post n x1 (qg_port u) (qg_circuit u) (qg_tidy u) (qg_wires u) (qg_fans u) (qg_joinedMakes u) (qg_joinedLets u) (qg_threeSum u) (qg_threeCarry u) (qg_opLines u) (qg_wordD u) (qg_wordS u) (qg_wordM u) (qg_left u) (qg_right u) (qg_runs u) (qg_result u) (qg_carryOut u) (qg_address u) (qg_words u) (qg_state u) (qg_counts u) (qg_kind u) (qg_inA u) (qg_inB u) (qg_inC u) (qg_live u) (qg_level u) (qg_value u) (qg_fresh u) (qg_hashHead u) (qg_hashNext u) (qg_wire u) (qg_fanHead u) (qg_fanNext u) (qg_fanGate u) (qg_waitHead u) (qg_waitNext u) (qg_waits u)
theorem uc_begin_73 {post : SX → Prop} {n : Nat} {x1 : Int32} {u : SX} (h : ((26 ≤ x1 → (∃ n96 : Nat, ux_begin_96 post n96 0 u)) ∧ (¬ 26 ≤ x1 → (wpX_add (fun r_129 u130 => (∀ x1_169 : Int32, x1_169 = x1 + 1 → (ux_begin_73 post n x1_169 u130))) u 1 0 0 0)))) : ux_begin_73 post (n + 1) x1 u := h
def ux_begin_17 (post : SX → Prop) (n : Nat) (x1 : Int32) (u : SX) : Prop := wX_begin_17 post (qg_port u) (qg_circuit u) (qg_tidy u) (qg_wires u) (qg_fans u) (qg_joinedMakes u) (qg_joinedLets u) (qg_threeSum u) (qg_threeCarry u) (qg_opLines u) (qg_wordD u) (qg_wordS u) (qg_wordM u) (qg_left u) (qg_right u) (qg_runs u) (qg_result u) (qg_carryOut u) (qg_address u) n x1 (qg_words u) (qg_state u) (qg_counts u) (qg_kind u) (qg_inA u) (qg_inB u) (qg_inC u) (qg_live u) (qg_level u) (qg_value u) (qg_fresh u) (qg_hashHead u) (qg_hashNext u) (qg_wire u) (qg_fanHead u) (qg_fanNext u) (qg_fanGate u) (qg_waitHead u) (qg_waitNext u) (qg_waits u)
theorem uc_begin_17 {post : SX → Prop} {n : Nat} {x1 : Int32} {u : SX} (h : ((1024 ≤ x1 → (wpX_add (fun r_4 u5 => (wpX_add (fun r_44 u45 => (vp_in (((qg_circuit u45) * 2560) + 1) 5120 ∧ ∀ a_value_85 : Nat → Int32, a_value_85 = upd (qg_value u45) (((qg_circuit u45) * 2560) + 1).toNatClampNeg (vp_nar .byte 1) → (∃ n73 : Nat, ux_begin_73 post n73 2 (qs_value u45 a_value_85)))) u5 0 0 0 0)) u 0 0 0 0)) ∧ (¬ 1024 ≤ x1 → (vp_in x1 1024 ∧ ∀ a_hashHead_171 : Nat → Int32, a_hashHead_171 = upd (qg_hashHead u) x1.toNatClampNeg (vp_nar .short (-1)) → (∀ x1_172 : Int32, x1_172 = x1 + 1 → (ux_begin_17 post n x1_172 (qs_hashHead u a_hashHead_171))))))) : ux_begin_17 post (n + 1) x1 u := h
theorem uc_begin {post : SX → Prop} {u : SX} (h : vp_in (qg_circuit u) 2 ∧ ∀ a_counts_2 : Nat → Int32, a_counts_2 = upd (qg_counts u) (qg_circuit u).toNatClampNeg 0 → (∃ n17 : Nat, ux_begin_17 post n17 0 (qs_wires_counts u 0 a_counts_2))) : wpX_begin post u := h
theorem uc_bundle {post : Int32 → SX → Prop} {u : SX} {p0 : Int32} (h : ∀ f_wires_1 : Int32, f_wires_1 = (qg_wires u) + p0 → (post (qg_wires u) (qs_wires u f_wires_1))) : wpX_bundle post u p0 := h
def ux_bundleFrom_9 (post : Int32 → SX → Prop) (x1 : Int32) (x2 : Int32) (x3 : Int32) (n : Nat) (x4 : Int32) (u : SX) : Prop := wX_bundleFrom_9 post x1 x2 x3 (qg_port u) (qg_circuit u) (qg_tidy u) (qg_wires u) (qg_fans u) (qg_joinedMakes u) (qg_joinedLets u) (qg_threeSum u) (qg_threeCarry u) (qg_opLines u) (qg_wordD u) (qg_wordS u) (qg_wordM u) (qg_left u) (qg_right u) (qg_runs u) (qg_result u) (qg_carryOut u) (qg_address u) n x4 (qg_words u) (qg_state u) (qg_counts u) (qg_kind u) (qg_inA u) (qg_inB u) (qg_inC u) (qg_live u) (qg_level u) (qg_value u) (qg_fresh u) (qg_hashHead u) (qg_hashNext u) (qg_wire u) (qg_fanHead u) (qg_fanNext u) (qg_fanGate u) (qg_waitHead u) (qg_waitNext u) (qg_waits u)
theorem uc_bundleFrom_9 {post : Int32 → SX → Prop} {x1 : Int32} {x2 : Int32} {x3 : Int32} {n : Nat} {x4 : Int32} {u : SX} (h : ((x2 ≤ x4 → (post x3 u)) ∧ (¬ x2 ≤ x4 → (vp_in (x3 + x4) 8192 ∧ ∀ a_wire_43 : Nat → Int32, a_wire_43 = upd (qg_wire u) (x3 + x4).toNatClampNeg (vp_nar .short ((x1 + x4).toInt16.toInt32)) → (∀ x4_44 : Int32, x4_44 = x4 + 1 → (ux_bundleFrom_9 post x1 x2 x3 n x4_44 (qs_wire u a_wire_43))))))) : ux_bundleFrom_9 post x1 x2 x3 (n + 1) x4 u := h
theorem uc_bundleFrom {post : Int32 → SX → Prop} {u : SX} {p0 : Int32} {p1 : Int32} (h : wpX_bundle (fun r_1 u2 => (∃ n9 : Nat, ux_bundleFrom_9 post p0 p1 r_1 n9 0 u2)) u p1) : wpX_bundleFrom post u p0 p1 := h
theorem uc_isNot {post : Int32 → Prop} {u : SX} {p0 : Int32} (h : vp_in (((qg_circuit u) * 2560) + p0) 5120 ∧ (((((qg_kind u) (((qg_circuit u) * 2560) + p0).toNatClampNeg) = 3 → (post 1)) ∧ (¬ ((qg_kind u) (((qg_circuit u) * 2560) + p0).toNatClampNeg) = 3 → (post 0))))) : wpX_isNot post u p0 := h
theorem uc_markFor {post : Int32 → Prop} {p0 : Int32} {p1 : Int32} {p2 : Int32} {p3 : Int32} (h : post (((((p0 * 31) + (p1 * 7)) + (p2 * 101)) + (p3 * 577)) &&& 1023)) : wpX_markFor post p0 p1 p2 p3 := h
def ux_gate_36 (post : Int32 → SX → Prop) (x1 : Int32) (x2 : Int32) (x3 : Int32) (x4 : Int32) (x5 : Int32) (n : Nat) (x6 : Int32) (u : SX) : Prop := wX_gate_36 post x1 x2 x3 x4 x5 (qg_port u) (qg_circuit u) (qg_tidy u) (qg_wires u) (qg_fans u) (qg_joinedMakes u) (qg_joinedLets u) (qg_threeSum u) (qg_threeCarry u) (qg_opLines u) (qg_wordD u) (qg_wordS u) (qg_wordM u) (qg_left u) (qg_right u) (qg_runs u) (qg_result u) (qg_carryOut u) (qg_address u) (qg_words u) (qg_state u) (qg_counts u) (qg_kind u) (qg_inA u) (qg_inB u) (qg_inC u) (qg_live u) (qg_level u) (qg_value u) (qg_fresh u) (qg_hashHead u) (qg_hashNext u) (qg_wire u) (qg_fanHead u) (qg_fanNext u) (qg_fanGate u) (qg_waitHead u) (qg_waitNext u) (qg_waits u) n x6
theorem uc_gate_36 {post : Int32 → SX → Prop} {x1 : Int32} {x2 : Int32} {x3 : Int32} {x4 : Int32} {x5 : Int32} {n : Nat} {x6 : Int32} {u : SX} (h : ((x6 < 0 → (wpX_add (fun r_6 u7 => (vp_in x5 1024 ∧ (vp_in r_6 2560 ∧ ∀ a_hashNext_48 : Nat → Int32, a_hashNext_48 = upd (qg_hashNext u7) r_6.toNatClampNeg (vp_nar .short ((qg_hashHead u7) x5.toNatClampNeg)) → (vp_in x5 1024 ∧ ∀ a_hashHead_50 : Nat → Int32, a_hashHead_50 = upd (qg_hashHead u7) x5.toNatClampNeg (vp_nar .short r_6.toInt16.toInt32) → (post r_6 (qs_hashHead_hashNext u7 a_hashHead_50 a_hashNext_48)))))) u x1 x2 x3 x4)) ∧ (¬ x6 < 0 → (∀ x7_51 : Int32, x7_51 = 2560 + x6 → (vp_in x7_51 5120 ∧ (((((qg_kind u) x7_51.toNatClampNeg) = x1 → (vp_in x7_51 5120 ∧ (((((qg_inA u) x7_51.toNatClampNeg) = x2 → (vp_in x7_51 5120 ∧ (((((qg_inB u) x7_51.toNatClampNeg) = x3 → (vp_in x7_51 5120 ∧ (((((qg_inC u) x7_51.toNatClampNeg) = x4 → (post x6 u)) ∧ (¬ ((qg_inC u) x7_51.toNatClampNeg) = x4 → (vp_in x6 2560 ∧ (∀ x6_67 : Int32, x6_67 = (qg_hashNext u) x6.toNatClampNeg → (ux_gate_36 post x1 x2 x3 x4 x5 n x6_67 u)))))))) ∧ (¬ ((qg_inB u) x7_51.toNatClampNeg) = x3 → (vp_in x6 2560 ∧ (∀ x6_63 : Int32, x6_63 = (qg_hashNext u) x6.toNatClampNeg → (ux_gate_36 post x1 x2 x3 x4 x5 n x6_63 u)))))))) ∧ (¬ ((qg_inA u) x7_51.toNatClampNeg) = x2 → (vp_in x6 2560 ∧ (∀ x6_59 : Int32, x6_59 = (qg_hashNext u) x6.toNatClampNeg → (ux_gate_36 post x1 x2 x3 x4 x5 n x6_59 u)))))))) ∧ (¬ ((qg_kind u) x7_51.toNatClampNeg) = x1 → (vp_in x6 2560 ∧ (∀ x6_55 : Int32, x6_55 = (qg_hashNext u) x6.toNatClampNeg → (ux_gate_36 post x1 x2 x3 x4 x5 n x6_55 u))))))))))) : ux_gate_36 post x1 x2 x3 x4 x5 (n + 1) x6 u := h
theorem uc_gate {post : Int32 → SX → Prop} {u : SX} {p0 : Int32} {p1 : Int32} {p2 : Int32} {p3 : Int32} (h : (((qg_tidy u) = 0 → (wpX_add (fun r_68 u69 => (post r_68 u69)) u p0 p1 p2 p3)) ∧ (¬ (qg_tidy u) = 0 → (wpX_markFor (fun r_2 => (vp_in r_2 1024 ∧ (∀ x6_4 : Int32, x6_4 = (qg_hashHead u) r_2.toNatClampNeg → (∃ n36 : Nat, ux_gate_36 post p0 p1 p2 p3 r_2 n36 x6_4 u)))) p0 p1 p2 p3)))) : wpX_gate post u p0 p1 p2 p3 := h
def ux_not_47 (post : Int32 → SX → Prop) (x1 : Int32) (u : SX) : Prop := wX_not_47 post x1 (qg_port u) (qg_circuit u) (qg_tidy u) (qg_wires u) (qg_fans u) (qg_joinedMakes u) (qg_joinedLets u) (qg_threeSum u) (qg_threeCarry u) (qg_opLines u) (qg_wordD u) (qg_wordS u) (qg_wordM u) (qg_left u) (qg_right u) (qg_runs u) (qg_result u) (qg_carryOut u) (qg_address u) (qg_words u) (qg_state u) (qg_counts u) (qg_kind u) (qg_inA u) (qg_inB u) (qg_inC u) (qg_live u) (qg_level u) (qg_value u) (qg_fresh u) (qg_hashHead u) (qg_hashNext u) (qg_wire u) (qg_fanHead u) (qg_fanNext u) (qg_fanGate u) (qg_waitHead u) (qg_waitNext u) (qg_waits u)
theorem uc_not_47 {post : Int32 → SX → Prop} {x1 : Int32} {u : SX} (h : wpX_gate (fun r_3 u4 => (post r_3 u4)) u 3 x1 0 0) : ux_not_47 post x1 u := h
def ux_not_16 (post : Int32 → SX → Prop) (x1 : Int32) (u : SX) : Prop := wX_not_16 post x1 (qg_port u) (qg_circuit u) (qg_tidy u) (qg_wires u) (qg_fans u) (qg_joinedMakes u) (qg_joinedLets u) (qg_threeSum u) (qg_threeCarry u) (qg_opLines u) (qg_wordD u) (qg_wordS u) (qg_wordM u) (qg_left u) (qg_right u) (qg_runs u) (qg_result u) (qg_carryOut u) (qg_address u) (qg_words u) (qg_state u) (qg_counts u) (qg_kind u) (qg_inA u) (qg_inB u) (qg_inC u) (qg_live u) (qg_level u) (qg_value u) (qg_fresh u) (qg_hashHead u) (qg_hashNext u) (qg_wire u) (qg_fanHead u) (qg_fanNext u) (qg_fanGate u) (qg_waitHead u) (qg_waitNext u) (qg_waits u)
theorem uc_not_16 {post : Int32 → SX → Prop} {x1 : Int32} {u : SX} (h : (((qg_tidy u) = 0 → (ux_not_47 post x1 u)) ∧ (¬ (qg_tidy u) = 0 → (wpX_isNot (fun r_43 => (((r_43 = 0 → (ux_not_47 post x1 u)) ∧ (¬ r_43 = 0 → (vp_in (((qg_circuit u) * 2560) + x1) 5120 ∧ (post ((qg_inA u) (((qg_circuit u) * 2560) + x1).toNatClampNeg) u)))))) u x1)))) : ux_not_16 post x1 u := h
theorem uc_not {post : Int32 → SX → Prop} {u : SX} {p0 : Int32} (h : (((qg_tidy u) = 0 → (ux_not_16 post p0 u)) ∧ (¬ (qg_tidy u) = 0 → (((1 < p0 → (ux_not_16 post p0 u)) ∧ (¬ 1 < p0 → (post (1 - p0) u))))))) : wpX_not post u p0 := h
def ux_areOpposite_32 (post : Int32 → Prop) (x1 : Int32) (x2 : Int32) (z0 : Int32) (u : SX) : Prop := wX_areOpposite_32 post x1 x2 z0 (qg_port u) (qg_circuit u) (qg_tidy u) (qg_wires u) (qg_fans u) (qg_joinedMakes u) (qg_joinedLets u) (qg_threeSum u) (qg_threeCarry u) (qg_opLines u) (qg_wordD u) (qg_wordS u) (qg_wordM u) (qg_left u) (qg_right u) (qg_runs u) (qg_result u) (qg_carryOut u) (qg_address u) (qg_words u) (qg_state u) (qg_counts u) (qg_kind u) (qg_inA u) (qg_inB u) (qg_inC u) (qg_live u) (qg_level u) (qg_value u) (qg_fresh u) (qg_hashHead u) (qg_hashNext u) (qg_wire u) (qg_fanHead u) (qg_fanNext u) (qg_fanGate u) (qg_waitHead u) (qg_waitNext u) (qg_waits u)
theorem uc_areOpposite_32 {post : Int32 → Prop} {x1 : Int32} {x2 : Int32} {z0 : Int32} {u : SX} (h : ((z0 = 0 → (wpX_isNot (fun r_43 => (((r_43 = 0 → (post 0)) ∧ (¬ r_43 = 0 → (vp_in (((qg_circuit u) * 2560) + x2) 5120 ∧ (((((qg_inA u) (((qg_circuit u) * 2560) + x2).toNatClampNeg) = x1 → (post 1)) ∧ (¬ ((qg_inA u) (((qg_circuit u) * 2560) + x2).toNatClampNeg) = x1 → (post 0))))))))) u x2)) ∧ (¬ z0 = 0 → (post 1)))) : ux_areOpposite_32 post x1 x2 z0 u := h
def ux_areOpposite_31 (post : Int32 → Prop) (x1 : Int32) (x2 : Int32) (u : SX) : Prop := wX_areOpposite_31 post x1 x2 (qg_port u) (qg_circuit u) (qg_tidy u) (qg_wires u) (qg_fans u) (qg_joinedMakes u) (qg_joinedLets u) (qg_threeSum u) (qg_threeCarry u) (qg_opLines u) (qg_wordD u) (qg_wordS u) (qg_wordM u) (qg_left u) (qg_right u) (qg_runs u) (qg_result u) (qg_carryOut u) (qg_address u) (qg_words u) (qg_state u) (qg_counts u) (qg_kind u) (qg_inA u) (qg_inB u) (qg_inC u) (qg_live u) (qg_level u) (qg_value u) (qg_fresh u) (qg_hashHead u) (qg_hashNext u) (qg_wire u) (qg_fanHead u) (qg_fanNext u) (qg_fanGate u) (qg_waitHead u) (qg_waitNext u) (qg_waits u)
theorem uc_areOpposite_31 {post : Int32 → Prop} {x1 : Int32} {x2 : Int32} {u : SX} (h : ux_areOpposite_32 post x1 x2 0 u) : ux_areOpposite_31 post x1 x2 u := h
theorem uc_areOpposite {post : Int32 → Prop} {u : SX} {p0 : Int32} {p1 : Int32} (h : wpX_isNot (fun r_1 => (((r_1 = 0 → (ux_areOpposite_31 post p0 p1 u)) ∧ (¬ r_1 = 0 → (vp_in (((qg_circuit u) * 2560) + p0) 5120 ∧ (((((qg_inA u) (((qg_circuit u) * 2560) + p0).toNatClampNeg) = p1 → (ux_areOpposite_32 post p0 p1 1 u)) ∧ (¬ ((qg_inA u) (((qg_circuit u) * 2560) + p0).toNatClampNeg) = p1 → (ux_areOpposite_31 post p0 p1 u))))))))) u p0) : wpX_areOpposite post u p0 p1 := h
def ux_and_60 (post : Int32 → SX → Prop) (x3 : Int32) (x4 : Int32) (u : SX) : Prop := wX_and_60 post x3 x4 (qg_port u) (qg_circuit u) (qg_tidy u) (qg_wires u) (qg_fans u) (qg_joinedMakes u) (qg_joinedLets u) (qg_threeSum u) (qg_threeCarry u) (qg_opLines u) (qg_wordD u) (qg_wordS u) (qg_wordM u) (qg_left u) (qg_right u) (qg_runs u) (qg_result u) (qg_carryOut u) (qg_address u) (qg_words u) (qg_state u) (qg_counts u) (qg_kind u) (qg_inA u) (qg_inB u) (qg_inC u) (qg_live u) (qg_level u) (qg_value u) (qg_fresh u) (qg_hashHead u) (qg_hashNext u) (qg_wire u) (qg_fanHead u) (qg_fanNext u) (qg_fanGate u) (qg_waitHead u) (qg_waitNext u) (qg_waits u)
theorem uc_and_60 {post : Int32 → SX → Prop} {x3 : Int32} {x4 : Int32} {u : SX} (h : wpX_gate (fun r_4 u5 => (post r_4 u5)) u 4 x3 x4 0) : ux_and_60 post x3 x4 u := h
def ux_and_21 (post : Int32 → SX → Prop) (x3 : Int32) (z0 : Int32) (u : SX) : Prop := wX_and_21 post x3 z0 (qg_port u) (qg_circuit u) (qg_tidy u) (qg_wires u) (qg_fans u) (qg_joinedMakes u) (qg_joinedLets u) (qg_threeSum u) (qg_threeCarry u) (qg_opLines u) (qg_wordD u) (qg_wordS u) (qg_wordM u) (qg_left u) (qg_right u) (qg_runs u) (qg_result u) (qg_carryOut u) (qg_address u) (qg_words u) (qg_state u) (qg_counts u) (qg_kind u) (qg_inA u) (qg_inB u) (qg_inC u) (qg_live u) (qg_level u) (qg_value u) (qg_fresh u) (qg_hashHead u) (qg_hashNext u) (qg_wire u) (qg_fanHead u) (qg_fanNext u) (qg_fanGate u) (qg_waitHead u) (qg_waitNext u) (qg_waits u)
theorem uc_and_21 {post : Int32 → SX → Prop} {x3 : Int32} {z0 : Int32} {u : SX} (h : (((qg_tidy u) = 0 → (ux_and_60 post x3 z0 u)) ∧ (¬ (qg_tidy u) = 0 → (((x3 = 0 → (post 0 u)) ∧ (¬ x3 = 0 → (wpX_areOpposite (fun r_45 => (((r_45 = 0 → (((x3 = 1 → (post z0 u)) ∧ (¬ x3 = 1 → (((x3 = z0 → (post z0 u)) ∧ (¬ x3 = z0 → (ux_and_60 post x3 z0 u)))))))) ∧ (¬ r_45 = 0 → (post 0 u))))) u x3 z0))))))) : ux_and_21 post x3 z0 u := h
def ux_and_10 (post : Int32 → SX → Prop) (x1 : Int32) (x2 : Int32) (z0 : Int32) (u : SX) : Prop := wX_and_10 post x1 x2 z0 (qg_port u) (qg_circuit u) (qg_tidy u) (qg_wires u) (qg_fans u) (qg_joinedMakes u) (qg_joinedLets u) (qg_threeSum u) (qg_threeCarry u) (qg_opLines u) (qg_wordD u) (qg_wordS u) (qg_wordM u) (qg_left u) (qg_right u) (qg_runs u) (qg_result u) (qg_carryOut u) (qg_address u) (qg_words u) (qg_state u) (qg_counts u) (qg_kind u) (qg_inA u) (qg_inB u) (qg_inC u) (qg_live u) (qg_level u) (qg_value u) (qg_fresh u) (qg_hashHead u) (qg_hashNext u) (qg_wire u) (qg_fanHead u) (qg_fanNext u) (qg_fanGate u) (qg_waitHead u) (qg_waitNext u) (qg_waits u)
theorem uc_and_10 {post : Int32 → SX → Prop} {x1 : Int32} {x2 : Int32} {z0 : Int32} {u : SX} (h : ((x2 ≤ x1 → (ux_and_21 post z0 x1 u)) ∧ (¬ x2 ≤ x1 → (ux_and_21 post z0 x2 u)))) : ux_and_10 post x1 x2 z0 u := h
theorem uc_and {post : Int32 → SX → Prop} {u : SX} {p0 : Int32} {p1 : Int32} (h : ((p1 ≤ p0 → (ux_and_10 post p0 p1 p1 u)) ∧ (¬ p1 ≤ p0 → (ux_and_10 post p0 p1 p0 u)))) : wpX_and post u p0 p1 := h
def ux_isNumber_43 (post : Int32 → SX → Prop) (J6 : Int32 → Int32 → SX → Prop) (x1 : Int32) (x2 : Int32) (x3 : Int32) (x4 : Int32) (x5 : Int32) (z0 : Int32) (u : SX) : Prop := wX_isNumber_43 post (fun j0 j1 f_port f_circuit f_tidy f_wires f_fans f_joinedMakes f_joinedLets f_threeSum f_threeCarry f_opLines f_wordD f_wordS f_wordM f_left f_right f_runs f_result f_carryOut f_address a_words a_state a_counts a_kind a_inA a_inB a_inC a_live a_level a_value a_fresh a_hashHead a_hashNext a_wire a_fanHead a_fanNext a_fanGate a_waitHead a_waitNext a_waits => J6 j0 j1 (f_port, f_circuit, f_tidy, f_wires, f_fans, f_joinedMakes, f_joinedLets, f_threeSum, f_threeCarry, f_opLines, f_wordD, f_wordS, f_wordM, f_left, f_right, f_runs, f_result, f_carryOut, f_address, a_words, a_state, a_counts, a_kind, a_inA, a_inB, a_inC, a_live, a_level, a_value, a_fresh, a_hashHead, a_hashNext, a_wire, a_fanHead, a_fanNext, a_fanGate, a_waitHead, a_waitNext, a_waits)) x1 x2 x3 x4 x5 z0 (qg_port u) (qg_circuit u) (qg_tidy u) (qg_wires u) (qg_fans u) (qg_joinedMakes u) (qg_joinedLets u) (qg_threeSum u) (qg_threeCarry u) (qg_opLines u) (qg_wordD u) (qg_wordS u) (qg_wordM u) (qg_left u) (qg_right u) (qg_runs u) (qg_result u) (qg_carryOut u) (qg_address u) (qg_words u) (qg_state u) (qg_counts u) (qg_kind u) (qg_inA u) (qg_inB u) (qg_inC u) (qg_live u) (qg_level u) (qg_value u) (qg_fresh u) (qg_hashHead u) (qg_hashNext u) (qg_wire u) (qg_fanHead u) (qg_fanNext u) (qg_fanGate u) (qg_waitHead u) (qg_waitNext u) (qg_waits u)
theorem uc_isNumber_43 {post : Int32 → SX → Prop} {J6 : Int32 → Int32 → SX → Prop} {x1 : Int32} {x2 : Int32} {x3 : Int32} {x4 : Int32} {x5 : Int32} {z0 : Int32} {u : SX} (h : ((x5 = 0 → (∀ x5_87 : Int32, x5_87 = x5 + 1 → (J6 z0 x5_87 u))) ∧ (¬ x5 = 0 → (wpX_and (fun r_46 u47 => (∀ x5_86 : Int32, x5_86 = x5 + 1 → (J6 r_46 x5_86 u47))) u x4 z0)))) : ux_isNumber_43 post J6 x1 x2 x3 x4 x5 z0 u := h
def ux_isNumber_6 (post : Int32 → SX → Prop) (x1 : Int32) (x2 : Int32) (x3 : Int32) (n : Nat) (x4 : Int32) (x5 : Int32) (u : SX) : Prop := wX_isNumber_6 post x1 x2 x3 n x4 x5 (qg_port u) (qg_circuit u) (qg_tidy u) (qg_wires u) (qg_fans u) (qg_joinedMakes u) (qg_joinedLets u) (qg_threeSum u) (qg_threeCarry u) (qg_opLines u) (qg_wordD u) (qg_wordS u) (qg_wordM u) (qg_left u) (qg_right u) (qg_runs u) (qg_result u) (qg_carryOut u) (qg_address u) (qg_words u) (qg_state u) (qg_counts u) (qg_kind u) (qg_inA u) (qg_inB u) (qg_inC u) (qg_live u) (qg_level u) (qg_value u) (qg_fresh u) (qg_hashHead u) (qg_hashNext u) (qg_wire u) (qg_fanHead u) (qg_fanNext u) (qg_fanGate u) (qg_waitHead u) (qg_waitNext u) (qg_waits u)
theorem uc_isNumber_6 {post : Int32 → SX → Prop} {x1 : Int32} {x2 : Int32} {x3 : Int32} {n : Nat} {x4 : Int32} {x5 : Int32} {u : SX} (h : ((x2 ≤ x5 → (post x4 u)) ∧ (¬ x2 ≤ x5 → (vp_in (x1 + x5) 8192 ∧ (∀ x6_3 : Int32, x6_3 = (qg_wire u) (x1 + x5).toNatClampNeg → (((((x3 >>> (x5 &&& 31)) &&& 1) = 0 → (wpX_not (fun r_5 u6 => (ux_isNumber_43 post (ux_isNumber_6 post x1 x2 x3 n) x1 x2 x3 x4 x5 r_5 u6)) u x6_3)) ∧ (¬ ((x3 >>> (x5 &&& 31)) &&& 1) = 0 → (ux_isNumber_43 post (ux_isNumber_6 post x1 x2 x3 n) x1 x2 x3 x4 x5 x6_3 u))))))))) : ux_isNumber_6 post x1 x2 x3 (n + 1) x4 x5 u := h
theorem uc_isNumber {post : Int32 → SX → Prop} {u : SX} {p0 : Int32} {p1 : Int32} {p2 : Int32} (h : ∃ n6 : Nat, ux_isNumber_6 post p0 p1 p2 n6 1 0 u) : wpX_isNumber post u p0 p1 p2 := h
def ux_or_66 (post : Int32 → SX → Prop) (x3 : Int32) (x4 : Int32) (u : SX) : Prop := wX_or_66 post x3 x4 (qg_port u) (qg_circuit u) (qg_tidy u) (qg_wires u) (qg_fans u) (qg_joinedMakes u) (qg_joinedLets u) (qg_threeSum u) (qg_threeCarry u) (qg_opLines u) (qg_wordD u) (qg_wordS u) (qg_wordM u) (qg_left u) (qg_right u) (qg_runs u) (qg_result u) (qg_carryOut u) (qg_address u) (qg_words u) (qg_state u) (qg_counts u) (qg_kind u) (qg_inA u) (qg_inB u) (qg_inC u) (qg_live u) (qg_level u) (qg_value u) (qg_fresh u) (qg_hashHead u) (qg_hashNext u) (qg_wire u) (qg_fanHead u) (qg_fanNext u) (qg_fanGate u) (qg_waitHead u) (qg_waitNext u) (qg_waits u)
theorem uc_or_66 {post : Int32 → SX → Prop} {x3 : Int32} {x4 : Int32} {u : SX} (h : wpX_gate (fun r_4 u5 => (post r_4 u5)) u 5 x3 x4 0) : ux_or_66 post x3 x4 u := h
def ux_or_21 (post : Int32 → SX → Prop) (x3 : Int32) (z0 : Int32) (u : SX) : Prop := wX_or_21 post x3 z0 (qg_port u) (qg_circuit u) (qg_tidy u) (qg_wires u) (qg_fans u) (qg_joinedMakes u) (qg_joinedLets u) (qg_threeSum u) (qg_threeCarry u) (qg_opLines u) (qg_wordD u) (qg_wordS u) (qg_wordM u) (qg_left u) (qg_right u) (qg_runs u) (qg_result u) (qg_carryOut u) (qg_address u) (qg_words u) (qg_state u) (qg_counts u) (qg_kind u) (qg_inA u) (qg_inB u) (qg_inC u) (qg_live u) (qg_level u) (qg_value u) (qg_fresh u) (qg_hashHead u) (qg_hashNext u) (qg_wire u) (qg_fanHead u) (qg_fanNext u) (qg_fanGate u) (qg_waitHead u) (qg_waitNext u) (qg_waits u)
theorem uc_or_21 {post : Int32 → SX → Prop} {x3 : Int32} {z0 : Int32} {u : SX} (h : (((qg_tidy u) = 0 → (ux_or_66 post x3 z0 u)) ∧ (¬ (qg_tidy u) = 0 → (((x3 = 1 → (post 1 u)) ∧ (¬ x3 = 1 → (((z0 = 1 → (post 1 u)) ∧ (¬ z0 = 1 → (wpX_areOpposite (fun r_46 => (((r_46 = 0 → (((x3 = 0 → (post z0 u)) ∧ (¬ x3 = 0 → (((x3 = z0 → (post z0 u)) ∧ (¬ x3 = z0 → (ux_or_66 post x3 z0 u)))))))) ∧ (¬ r_46 = 0 → (post 1 u))))) u x3 z0)))))))))) : ux_or_21 post x3 z0 u := h
def ux_or_10 (post : Int32 → SX → Prop) (x1 : Int32) (x2 : Int32) (z0 : Int32) (u : SX) : Prop := wX_or_10 post x1 x2 z0 (qg_port u) (qg_circuit u) (qg_tidy u) (qg_wires u) (qg_fans u) (qg_joinedMakes u) (qg_joinedLets u) (qg_threeSum u) (qg_threeCarry u) (qg_opLines u) (qg_wordD u) (qg_wordS u) (qg_wordM u) (qg_left u) (qg_right u) (qg_runs u) (qg_result u) (qg_carryOut u) (qg_address u) (qg_words u) (qg_state u) (qg_counts u) (qg_kind u) (qg_inA u) (qg_inB u) (qg_inC u) (qg_live u) (qg_level u) (qg_value u) (qg_fresh u) (qg_hashHead u) (qg_hashNext u) (qg_wire u) (qg_fanHead u) (qg_fanNext u) (qg_fanGate u) (qg_waitHead u) (qg_waitNext u) (qg_waits u)
theorem uc_or_10 {post : Int32 → SX → Prop} {x1 : Int32} {x2 : Int32} {z0 : Int32} {u : SX} (h : ((x2 ≤ x1 → (ux_or_21 post z0 x1 u)) ∧ (¬ x2 ≤ x1 → (ux_or_21 post z0 x2 u)))) : ux_or_10 post x1 x2 z0 u := h
theorem uc_or {post : Int32 → SX → Prop} {u : SX} {p0 : Int32} {p1 : Int32} (h : ((p1 ≤ p0 → (ux_or_10 post p0 p1 p1 u)) ∧ (¬ p1 ≤ p0 → (ux_or_10 post p0 p1 p0 u)))) : wpX_or post u p0 p1 := h
def ux_choiceOf_69 (post : Int32 → SX → Prop) (x1 : Int32) (x2 : Int32) (x3 : Int32) (u : SX) : Prop := wX_choiceOf_69 post x1 x2 x3 (qg_port u) (qg_circuit u) (qg_tidy u) (qg_wires u) (qg_fans u) (qg_joinedMakes u) (qg_joinedLets u) (qg_threeSum u) (qg_threeCarry u) (qg_opLines u) (qg_wordD u) (qg_wordS u) (qg_wordM u) (qg_left u) (qg_right u) (qg_runs u) (qg_result u) (qg_carryOut u) (qg_address u) (qg_words u) (qg_state u) (qg_counts u) (qg_kind u) (qg_inA u) (qg_inB u) (qg_inC u) (qg_live u) (qg_level u) (qg_value u) (qg_fresh u) (qg_hashHead u) (qg_hashNext u) (qg_wire u) (qg_fanHead u) (qg_fanNext u) (qg_fanGate u) (qg_waitHead u) (qg_waitNext u) (qg_waits u)
theorem uc_choiceOf_69 {post : Int32 → SX → Prop} {x1 : Int32} {x2 : Int32} {x3 : Int32} {u : SX} (h : wpX_gate (fun r_4 u5 => (post r_4 u5)) u 7 x1 x2 x3) : ux_choiceOf_69 post x1 x2 x3 u := h
def ux_choiceOf_50 (post : Int32 → SX → Prop) (x1 : Int32) (x2 : Int32) (x3 : Int32) (u : SX) : Prop := wX_choiceOf_50 post x1 x2 x3 (qg_port u) (qg_circuit u) (qg_tidy u) (qg_wires u) (qg_fans u) (qg_joinedMakes u) (qg_joinedLets u) (qg_threeSum u) (qg_threeCarry u) (qg_opLines u) (qg_wordD u) (qg_wordS u) (qg_wordM u) (qg_left u) (qg_right u) (qg_runs u) (qg_result u) (qg_carryOut u) (qg_address u) (qg_words u) (qg_state u) (qg_counts u) (qg_kind u) (qg_inA u) (qg_inB u) (qg_inC u) (qg_live u) (qg_level u) (qg_value u) (qg_fresh u) (qg_hashHead u) (qg_hashNext u) (qg_wire u) (qg_fanHead u) (qg_fanNext u) (qg_fanGate u) (qg_waitHead u) (qg_waitNext u) (qg_waits u)
theorem uc_choiceOf_50 {post : Int32 → SX → Prop} {x1 : Int32} {x2 : Int32} {x3 : Int32} {u : SX} (h : (((qg_tidy u) = 0 → (ux_choiceOf_69 post x1 x2 x3 u)) ∧ (¬ (qg_tidy u) = 0 → (((x2 = 1 → (wpX_or (fun r_45 u46 => (post r_45 u46)) u x1 x3)) ∧ (¬ x2 = 1 → (ux_choiceOf_69 post x1 x2 x3 u))))))) : ux_choiceOf_50 post x1 x2 x3 u := h
def ux_choiceOf_32 (post : Int32 → SX → Prop) (x1 : Int32) (x2 : Int32) (x3 : Int32) (u : SX) : Prop := wX_choiceOf_32 post x1 x2 x3 (qg_port u) (qg_circuit u) (qg_tidy u) (qg_wires u) (qg_fans u) (qg_joinedMakes u) (qg_joinedLets u) (qg_threeSum u) (qg_threeCarry u) (qg_opLines u) (qg_wordD u) (qg_wordS u) (qg_wordM u) (qg_left u) (qg_right u) (qg_runs u) (qg_result u) (qg_carryOut u) (qg_address u) (qg_words u) (qg_state u) (qg_counts u) (qg_kind u) (qg_inA u) (qg_inB u) (qg_inC u) (qg_live u) (qg_level u) (qg_value u) (qg_fresh u) (qg_hashHead u) (qg_hashNext u) (qg_wire u) (qg_fanHead u) (qg_fanNext u) (qg_fanGate u) (qg_waitHead u) (qg_waitNext u) (qg_waits u)
theorem uc_choiceOf_32 {post : Int32 → SX → Prop} {x1 : Int32} {x2 : Int32} {x3 : Int32} {u : SX} (h : (((qg_tidy u) = 0 → (ux_choiceOf_50 post x1 x2 x3 u)) ∧ (¬ (qg_tidy u) = 0 → (((x3 = 0 → (wpX_and (fun r_86 u87 => (post r_86 u87)) u x1 x2)) ∧ (¬ x3 = 0 → (ux_choiceOf_50 post x1 x2 x3 u))))))) : ux_choiceOf_32 post x1 x2 x3 u := h
theorem uc_choiceOf {post : Int32 → SX → Prop} {u : SX} {p0 : Int32} {p1 : Int32} {p2 : Int32} (h : (((qg_tidy u) = 0 → (ux_choiceOf_32 post p0 p1 p2 u)) ∧ (¬ (qg_tidy u) = 0 → (((1 < p1 → (ux_choiceOf_32 post p0 p1 p2 u)) ∧ (¬ 1 < p1 → (((1 < p2 → (ux_choiceOf_32 post p0 p1 p2 u)) ∧ (¬ 1 < p2 → (((p1 = 1 → (post p0 u)) ∧ (¬ p1 = 1 → (wpX_not (fun r_129 u130 => (post r_129 u130)) u p0))))))))))))) : wpX_choiceOf post u p0 p1 p2 := h
def ux_choice_59 (post : Int32 → SX → Prop) (x1 : Int32) (x2 : Int32) (x3 : Int32) (u : SX) : Prop := wX_choice_59 post x1 x2 x3 (qg_port u) (qg_circuit u) (qg_tidy u) (qg_wires u) (qg_fans u) (qg_joinedMakes u) (qg_joinedLets u) (qg_threeSum u) (qg_threeCarry u) (qg_opLines u) (qg_wordD u) (qg_wordS u) (qg_wordM u) (qg_left u) (qg_right u) (qg_runs u) (qg_result u) (qg_carryOut u) (qg_address u) (qg_words u) (qg_state u) (qg_counts u) (qg_kind u) (qg_inA u) (qg_inB u) (qg_inC u) (qg_live u) (qg_level u) (qg_value u) (qg_fresh u) (qg_hashHead u) (qg_hashNext u) (qg_wire u) (qg_fanHead u) (qg_fanNext u) (qg_fanGate u) (qg_waitHead u) (qg_waitNext u) (qg_waits u)
theorem uc_choice_59 {post : Int32 → SX → Prop} {x1 : Int32} {x2 : Int32} {x3 : Int32} {u : SX} (h : wpX_choiceOf (fun r_2 u3 => (post r_2 u3)) u x1 x2 x3) : ux_choice_59 post x1 x2 x3 u := h
theorem uc_choice {post : Int32 → SX → Prop} {u : SX} {p0 : Int32} {p1 : Int32} {p2 : Int32} (h : (((qg_tidy u) = 0 → (ux_choice_59 post p0 p1 p2 u)) ∧ (¬ (qg_tidy u) = 0 → (((p0 = 1 → (post p1 u)) ∧ (¬ p0 = 1 → (((p1 = p2 → (post p1 u)) ∧ (¬ p1 = p2 → (((p0 = 0 → (post p2 u)) ∧ (¬ p0 = 0 → (wpX_isNot (fun r_45 => (((r_45 = 0 → (ux_choice_59 post p0 p1 p2 u)) ∧ (¬ r_45 = 0 → (vp_in (((qg_circuit u) * 2560) + p0) 5120 ∧ (∀ x4_87 : Int32, x4_87 = (qg_inA u) (((qg_circuit u) * 2560) + p0).toNatClampNeg → (wpX_choiceOf (fun r_88 u89 => (post r_88 u89)) u x4_87 p2 p1))))))) u p0))))))))))))) : wpX_choice post u p0 p1 p2 := h
def ux_lookUp_41 (post : Int32 → SX → Prop) (J19 : Int32 → Int32 → Int32 → SX → Prop) (x2 : Int32) (x3 : Int32) (x4 : Int32) (x5 : Int32) (x6 : Int32) (x7 : Int32) (n : Nat) (x8 : Int32) (u : SX) : Prop := wX_lookUp_41 post (fun j0 j1 j2 f_port f_circuit f_tidy f_wires f_fans f_joinedMakes f_joinedLets f_threeSum f_threeCarry f_opLines f_wordD f_wordS f_wordM f_left f_right f_runs f_result f_carryOut f_address a_words a_state a_counts a_kind a_inA a_inB a_inC a_live a_level a_value a_fresh a_hashHead a_hashNext a_wire a_fanHead a_fanNext a_fanGate a_waitHead a_waitNext a_waits => J19 j0 j1 j2 (f_port, f_circuit, f_tidy, f_wires, f_fans, f_joinedMakes, f_joinedLets, f_threeSum, f_threeCarry, f_opLines, f_wordD, f_wordS, f_wordM, f_left, f_right, f_runs, f_result, f_carryOut, f_address, a_words, a_state, a_counts, a_kind, a_inA, a_inB, a_inC, a_live, a_level, a_value, a_fresh, a_hashHead, a_hashNext, a_wire, a_fanHead, a_fanNext, a_fanGate, a_waitHead, a_waitNext, a_waits)) x2 x3 x4 x5 x6 x7 n x8 (qg_port u) (qg_circuit u) (qg_tidy u) (qg_wires u) (qg_fans u) (qg_joinedMakes u) (qg_joinedLets u) (qg_threeSum u) (qg_threeCarry u) (qg_opLines u) (qg_wordD u) (qg_wordS u) (qg_wordM u) (qg_left u) (qg_right u) (qg_runs u) (qg_result u) (qg_carryOut u) (qg_address u) (qg_words u) (qg_state u) (qg_counts u) (qg_kind u) (qg_inA u) (qg_inB u) (qg_inC u) (qg_live u) (qg_level u) (qg_value u) (qg_fresh u) (qg_hashHead u) (qg_hashNext u) (qg_wire u) (qg_fanHead u) (qg_fanNext u) (qg_fanGate u) (qg_waitHead u) (qg_waitNext u) (qg_waits u)
theorem uc_lookUp_41 {post : Int32 → SX → Prop} {J19 : Int32 → Int32 → Int32 → SX → Prop} {x2 : Int32} {x3 : Int32} {x4 : Int32} {x5 : Int32} {x6 : Int32} {x7 : Int32} {n : Nat} {x8 : Int32} {u : SX} (h : ¬ (2 : Int32) = 0 ∧ (((((8 * x5) / 2) ≤ x8 → (¬ (2 : Int32) = 0 ∧ (∀ x5_87 : Int32, x5_87 = x5 / 2 → (∀ x6_88 : Int32, x6_88 = x6 + 1 → (J19 x7 x5_87 x6_88 u))))) ∧ (¬ ((8 * x5) / 2) ≤ x8 → (¬ (8 : Int32) = 0 ∧ (¬ (8 : Int32) = 0 ∧ (∀ x9_91 : Int32, x9_91 = (((x8 / 8) * 2) * 8) + (x8 - x8 / 8 * 8) → (vp_in (x2 + x6) 8192 ∧ (vp_in ((x4 + x9_91) + 8) 8192 ∧ (vp_in (x4 + x9_91) 8192 ∧ (wpX_choice (fun r_95 u96 => (vp_in (x7 + x8) 8192 ∧ ∀ a_wire_136 : Nat → Int32, a_wire_136 = upd (qg_wire u96) (x7 + x8).toNatClampNeg (vp_nar .short r_95.toInt16.toInt32) → (∀ x8_137 : Int32, x8_137 = x8 + 1 → (ux_lookUp_41 post J19 x2 x3 x4 x5 x6 x7 n x8_137 (qs_wire u96 a_wire_136))))) u ((qg_wire u) (x2 + x6).toNatClampNeg) ((qg_wire u) ((x4 + x9_91) + 8).toNatClampNeg) ((qg_wire u) (x4 + x9_91).toNatClampNeg)))))))))))) : ux_lookUp_41 post J19 x2 x3 x4 x5 x6 x7 (n + 1) x8 u := h
def ux_lookUp_19 (post : Int32 → SX → Prop) (x2 : Int32) (x3 : Int32) (n : Nat) (x4 : Int32) (x5 : Int32) (x6 : Int32) (u : SX) : Prop := wX_lookUp_19 post x2 x3 n x4 x5 x6 (qg_port u) (qg_circuit u) (qg_tidy u) (qg_wires u) (qg_fans u) (qg_joinedMakes u) (qg_joinedLets u) (qg_threeSum u) (qg_threeCarry u) (qg_opLines u) (qg_wordD u) (qg_wordS u) (qg_wordM u) (qg_left u) (qg_right u) (qg_runs u) (qg_result u) (qg_carryOut u) (qg_address u) (qg_words u) (qg_state u) (qg_counts u) (qg_kind u) (qg_inA u) (qg_inB u) (qg_inC u) (qg_live u) (qg_level u) (qg_value u) (qg_fresh u) (qg_hashHead u) (qg_hashNext u) (qg_wire u) (qg_fanHead u) (qg_fanNext u) (qg_fanGate u) (qg_waitHead u) (qg_waitNext u) (qg_waits u)
theorem uc_lookUp_19 {post : Int32 → SX → Prop} {x2 : Int32} {x3 : Int32} {n : Nat} {x4 : Int32} {x5 : Int32} {x6 : Int32} {u : SX} (h : ((x3 ≤ x6 → (post x4 u)) ∧ (¬ x3 ≤ x6 → (¬ (2 : Int32) = 0 ∧ (wpX_bundle (fun r_44 u45 => (∃ n41 : Nat, ux_lookUp_41 post (ux_lookUp_19 post x2 x3 n) x2 x3 x4 x5 x6 r_44 n41 0 u45)) u ((8 * x5) / 2)))))) : ux_lookUp_19 post x2 x3 (n + 1) x4 x5 x6 u := h
theorem uc_lookUp {post : Int32 → SX → Prop} {u : SX} {p0 : Int32} {p1 : Int32} {p2 : Int32} (h : wpX_bundleFrom (fun r_1 u2 => (∀ x5_41 : Int32, x5_41 = (1 : Int32) <<< (p2 &&& 31) → (∃ n19 : Nat, ux_lookUp_19 post p1 p2 n19 r_1 x5_41 0 u2))) u p0 ((8 : Int32) <<< (p2 &&& 31))) : wpX_lookUp post u p0 p1 p2 := h
def ux_xor_69 (post : Int32 → SX → Prop) (x3 : Int32) (x4 : Int32) (u : SX) : Prop := wX_xor_69 post x3 x4 (qg_port u) (qg_circuit u) (qg_tidy u) (qg_wires u) (qg_fans u) (qg_joinedMakes u) (qg_joinedLets u) (qg_threeSum u) (qg_threeCarry u) (qg_opLines u) (qg_wordD u) (qg_wordS u) (qg_wordM u) (qg_left u) (qg_right u) (qg_runs u) (qg_result u) (qg_carryOut u) (qg_address u) (qg_words u) (qg_state u) (qg_counts u) (qg_kind u) (qg_inA u) (qg_inB u) (qg_inC u) (qg_live u) (qg_level u) (qg_value u) (qg_fresh u) (qg_hashHead u) (qg_hashNext u) (qg_wire u) (qg_fanHead u) (qg_fanNext u) (qg_fanGate u) (qg_waitHead u) (qg_waitNext u) (qg_waits u)
theorem uc_xor_69 {post : Int32 → SX → Prop} {x3 : Int32} {x4 : Int32} {u : SX} (h : wpX_gate (fun r_4 u5 => (post r_4 u5)) u 6 x3 x4 0) : ux_xor_69 post x3 x4 u := h
def ux_xor_21 (post : Int32 → SX → Prop) (x3 : Int32) (z0 : Int32) (u : SX) : Prop := wX_xor_21 post x3 z0 (qg_port u) (qg_circuit u) (qg_tidy u) (qg_wires u) (qg_fans u) (qg_joinedMakes u) (qg_joinedLets u) (qg_threeSum u) (qg_threeCarry u) (qg_opLines u) (qg_wordD u) (qg_wordS u) (qg_wordM u) (qg_left u) (qg_right u) (qg_runs u) (qg_result u) (qg_carryOut u) (qg_address u) (qg_words u) (qg_state u) (qg_counts u) (qg_kind u) (qg_inA u) (qg_inB u) (qg_inC u) (qg_live u) (qg_level u) (qg_value u) (qg_fresh u) (qg_hashHead u) (qg_hashNext u) (qg_wire u) (qg_fanHead u) (qg_fanNext u) (qg_fanGate u) (qg_waitHead u) (qg_waitNext u) (qg_waits u)
theorem uc_xor_21 {post : Int32 → SX → Prop} {x3 : Int32} {z0 : Int32} {u : SX} (h : (((qg_tidy u) = 0 → (ux_xor_69 post x3 z0 u)) ∧ (¬ (qg_tidy u) = 0 → (((x3 = 0 → (post z0 u)) ∧ (¬ x3 = 0 → (((x3 = 1 → (wpX_not (fun r_88 u89 => (post r_88 u89)) u z0)) ∧ (¬ x3 = 1 → (((x3 = z0 → (post 0 u)) ∧ (¬ x3 = z0 → (wpX_areOpposite (fun r_47 => (((r_47 = 0 → (ux_xor_69 post x3 z0 u)) ∧ (¬ r_47 = 0 → (post 1 u))))) u x3 z0))))))))))))) : ux_xor_21 post x3 z0 u := h
def ux_xor_10 (post : Int32 → SX → Prop) (x1 : Int32) (x2 : Int32) (z0 : Int32) (u : SX) : Prop := wX_xor_10 post x1 x2 z0 (qg_port u) (qg_circuit u) (qg_tidy u) (qg_wires u) (qg_fans u) (qg_joinedMakes u) (qg_joinedLets u) (qg_threeSum u) (qg_threeCarry u) (qg_opLines u) (qg_wordD u) (qg_wordS u) (qg_wordM u) (qg_left u) (qg_right u) (qg_runs u) (qg_result u) (qg_carryOut u) (qg_address u) (qg_words u) (qg_state u) (qg_counts u) (qg_kind u) (qg_inA u) (qg_inB u) (qg_inC u) (qg_live u) (qg_level u) (qg_value u) (qg_fresh u) (qg_hashHead u) (qg_hashNext u) (qg_wire u) (qg_fanHead u) (qg_fanNext u) (qg_fanGate u) (qg_waitHead u) (qg_waitNext u) (qg_waits u)
theorem uc_xor_10 {post : Int32 → SX → Prop} {x1 : Int32} {x2 : Int32} {z0 : Int32} {u : SX} (h : ((x2 ≤ x1 → (ux_xor_21 post z0 x1 u)) ∧ (¬ x2 ≤ x1 → (ux_xor_21 post z0 x2 u)))) : ux_xor_10 post x1 x2 z0 u := h
theorem uc_xor {post : Int32 → SX → Prop} {u : SX} {p0 : Int32} {p1 : Int32} (h : ((p1 ≤ p0 → (ux_xor_10 post p0 p1 p1 u)) ∧ (¬ p1 ≤ p0 → (ux_xor_10 post p0 p1 p0 u)))) : wpX_xor post u p0 p1 := h
theorem uc_joinRows {post : SX → Prop} {u : SX} {p0 : Int32} {p1 : Int32} {p2 : Int32} {p3 : Int32} (h : vp_in (p0 + p2) 8192 ∧ (∀ f_joinedMakes_2 : Int32, f_joinedMakes_2 = (qg_wire u) (p0 + p2).toNatClampNeg → (vp_in (p1 + p2) 8192 ∧ (∀ f_joinedLets_4 : Int32, f_joinedLets_4 = (qg_wire u) (p1 + p2).toNatClampNeg → (((p2 < p3 → (post (qs_joinedMakes_joinedLets u f_joinedMakes_2 f_joinedLets_4))) ∧ (¬ p2 < p3 → (vp_in ((p0 + p2) - p3) 8192 ∧ (wpX_and (fun r_7 u8 => (wpX_or (fun r_47 u48 => (vp_in ((p1 + p2) - p3) 8192 ∧ (wpX_and (fun r_88 u89 => (post (qs_joinedLets u89 r_88))) (qs_joinedMakes u48 r_47) (qg_joinedLets u48) ((qg_wire u48) ((p1 + p2) - p3).toNatClampNeg)))) u8 (qg_joinedMakes u8) r_7)) (qs_joinedMakes_joinedLets u f_joinedMakes_2 f_joinedLets_4) f_joinedLets_4 ((qg_wire u) ((p0 + p2) - p3).toNatClampNeg)))))))))) : wpX_joinRows post u p0 p1 p2 p3 := h
def ux_addQuickly_254 (post : Int32 → SX → Prop) (x3 : Int32) (x4 : Int32) (x5 : Int32) (x6 : Int32) (x7 : Int32) (x8 : Int32) (n : Nat) (x9 : Int32) (u : SX) : Prop := wX_addQuickly_254 post x3 x4 x5 x6 x7 x8 n x9 (qg_port u) (qg_circuit u) (qg_tidy u) (qg_wires u) (qg_fans u) (qg_joinedMakes u) (qg_joinedLets u) (qg_threeSum u) (qg_threeCarry u) (qg_opLines u) (qg_wordD u) (qg_wordS u) (qg_wordM u) (qg_left u) (qg_right u) (qg_runs u) (qg_result u) (qg_carryOut u) (qg_address u) (qg_words u) (qg_state u) (qg_counts u) (qg_kind u) (qg_inA u) (qg_inB u) (qg_inC u) (qg_live u) (qg_level u) (qg_value u) (qg_fresh u) (qg_hashHead u) (qg_hashNext u) (qg_wire u) (qg_fanHead u) (qg_fanNext u) (qg_fanGate u) (qg_waitHead u) (qg_waitNext u) (qg_waits u)
theorem uc_addQuickly_254 {post : Int32 → SX → Prop} {x3 : Int32} {x4 : Int32} {x5 : Int32} {x6 : Int32} {x7 : Int32} {x8 : Int32} {n : Nat} {x9 : Int32} {u : SX} (h : ((x4 ≤ x9 → (post x8 u)) ∧ (¬ x4 ≤ x9 → (vp_in (x7 + x9) 8192 ∧ (wpX_and (fun r_208 u209 => (vp_in (x6 + x9) 8192 ∧ (wpX_or (fun r_249 u250 => (((x9 = (x4 - 1) → (vp_in ((x8 + x9) + 1) 8192 ∧ ∀ a_wire_335 : Nat → Int32, a_wire_335 = upd (qg_wire u250) ((x8 + x9) + 1).toNatClampNeg (vp_nar .short r_249.toInt16.toInt32) → (∀ x9_336 : Int32, x9_336 = x9 + 1 → (ux_addQuickly_254 post x3 x4 x5 x6 x7 x8 n x9_336 (qs_wire u250 a_wire_335))))) ∧ (¬ x9 = (x4 - 1) → (vp_in ((x5 + x9) + 1) 8192 ∧ (wpX_xor (fun r_291 u292 => (vp_in ((x8 + x9) + 1) 8192 ∧ ∀ a_wire_332 : Nat → Int32, a_wire_332 = upd (qg_wire u292) ((x8 + x9) + 1).toNatClampNeg (vp_nar .short r_291.toInt16.toInt32) → (∀ x9_333 : Int32, x9_333 = x9 + 1 → (ux_addQuickly_254 post x3 x4 x5 x6 x7 x8 n x9_333 (qs_wire u292 a_wire_332))))) u250 ((qg_wire u250) ((x5 + x9) + 1).toNatClampNeg) r_249)))))) u209 ((qg_wire u209) (x6 + x9).toNatClampNeg) r_208))) u ((qg_wire u) (x7 + x9).toNatClampNeg) x3))))) : ux_addQuickly_254 post x3 x4 x5 x6 x7 x8 (n + 1) x9 u := h
def ux_addQuickly_149 (post : Int32 → SX → Prop) (J123 : Int32 → Int32 → Int32 → SX → Prop) (x3 : Int32) (x4 : Int32) (x5 : Int32) (x6 : Int32) (x7 : Int32) (x8 : Int32) (x9 : Int32) (x10 : Int32) (n : Nat) (x11 : Int32) (u : SX) : Prop := wX_addQuickly_149 post (fun j0 j1 j2 f_port f_circuit f_tidy f_wires f_fans f_joinedMakes f_joinedLets f_threeSum f_threeCarry f_opLines f_wordD f_wordS f_wordM f_left f_right f_runs f_result f_carryOut f_address a_words a_state a_counts a_kind a_inA a_inB a_inC a_live a_level a_value a_fresh a_hashHead a_hashNext a_wire a_fanHead a_fanNext a_fanGate a_waitHead a_waitNext a_waits => J123 j0 j1 j2 (f_port, f_circuit, f_tidy, f_wires, f_fans, f_joinedMakes, f_joinedLets, f_threeSum, f_threeCarry, f_opLines, f_wordD, f_wordS, f_wordM, f_left, f_right, f_runs, f_result, f_carryOut, f_address, a_words, a_state, a_counts, a_kind, a_inA, a_inB, a_inC, a_live, a_level, a_value, a_fresh, a_hashHead, a_hashNext, a_wire, a_fanHead, a_fanNext, a_fanGate, a_waitHead, a_waitNext, a_waits)) x3 x4 x5 x6 x7 x8 x9 x10 n x11 (qg_port u) (qg_circuit u) (qg_tidy u) (qg_wires u) (qg_fans u) (qg_joinedMakes u) (qg_joinedLets u) (qg_threeSum u) (qg_threeCarry u) (qg_opLines u) (qg_wordD u) (qg_wordS u) (qg_wordM u) (qg_left u) (qg_right u) (qg_runs u) (qg_result u) (qg_carryOut u) (qg_address u) (qg_words u) (qg_state u) (qg_counts u) (qg_kind u) (qg_inA u) (qg_inB u) (qg_inC u) (qg_live u) (qg_level u) (qg_value u) (qg_fresh u) (qg_hashHead u) (qg_hashNext u) (qg_wire u) (qg_fanHead u) (qg_fanNext u) (qg_fanGate u) (qg_waitHead u) (qg_waitNext u) (qg_waits u)
theorem uc_addQuickly_149 {post : Int32 → SX → Prop} {J123 : Int32 → Int32 → Int32 → SX → Prop} {x3 : Int32} {x4 : Int32} {x5 : Int32} {x6 : Int32} {x7 : Int32} {x8 : Int32} {x9 : Int32} {x10 : Int32} {n : Nat} {x11 : Int32} {u : SX} (h : ((x4 ≤ x11 → (∀ x8_418 : Int32, x8_418 = x8 * 2 → (J123 x9 x10 x8_418 u))) ∧ (¬ x4 ≤ x11 → (wpX_joinRows (fun u420 => (vp_in (x9 + x11) 8192 ∧ ∀ a_wire_460 : Nat → Int32, a_wire_460 = upd (qg_wire u420) (x9 + x11).toNatClampNeg (vp_nar .short (qg_joinedMakes u420).toInt16.toInt32) → (vp_in (x10 + x11) 8192 ∧ ∀ a_wire_462 : Nat → Int32, a_wire_462 = upd a_wire_460 (x10 + x11).toNatClampNeg (vp_nar .short (qg_joinedLets u420).toInt16.toInt32) → (∀ x11_463 : Int32, x11_463 = x11 + 1 → (ux_addQuickly_149 post J123 x3 x4 x5 x6 x7 x8 x9 x10 n x11_463 (qs_wire u420 a_wire_462)))))) u x6 x7 x11 x8)))) : ux_addQuickly_149 post J123 x3 x4 x5 x6 x7 x8 x9 x10 (n + 1) x11 u := h
def ux_addQuickly_123 (post : Int32 → SX → Prop) (x3 : Int32) (x4 : Int32) (x5 : Int32) (n : Nat) (x6 : Int32) (x7 : Int32) (x8 : Int32) (u : SX) : Prop := wX_addQuickly_123 post x3 x4 x5 n x6 x7 x8 (qg_port u) (qg_circuit u) (qg_tidy u) (qg_wires u) (qg_fans u) (qg_joinedMakes u) (qg_joinedLets u) (qg_threeSum u) (qg_threeCarry u) (qg_opLines u) (qg_wordD u) (qg_wordS u) (qg_wordM u) (qg_left u) (qg_right u) (qg_runs u) (qg_result u) (qg_carryOut u) (qg_address u) (qg_words u) (qg_state u) (qg_counts u) (qg_kind u) (qg_inA u) (qg_inB u) (qg_inC u) (qg_live u) (qg_level u) (qg_value u) (qg_fresh u) (qg_hashHead u) (qg_hashNext u) (qg_wire u) (qg_fanHead u) (qg_fanNext u) (qg_fanGate u) (qg_waitHead u) (qg_waitNext u) (qg_waits u)
theorem uc_addQuickly_123 {post : Int32 → SX → Prop} {x3 : Int32} {x4 : Int32} {x5 : Int32} {n : Nat} {x6 : Int32} {x7 : Int32} {x8 : Int32} {u : SX} (h : ((x4 ≤ x8 → (wpX_bundle (fun r_123 u124 => (vp_in x5 8192 ∧ (wpX_xor (fun r_164 u165 => (vp_in r_123 8192 ∧ ∀ a_wire_205 : Nat → Int32, a_wire_205 = upd (qg_wire u165) r_123.toNatClampNeg (vp_nar .short r_164.toInt16.toInt32) → (∃ n254 : Nat, ux_addQuickly_254 post x3 x4 x5 x6 x7 r_123 n254 0 (qs_wire u165 a_wire_205)))) u124 ((qg_wire u124) x5.toNatClampNeg) x3))) u (x4 + 1))) ∧ (¬ x4 ≤ x8 → (wpX_bundle (fun r_337 u338 => (wpX_bundle (fun r_377 u378 => (∃ n149 : Nat, ux_addQuickly_149 post (ux_addQuickly_123 post x3 x4 x5 n) x3 x4 x5 x6 x7 x8 r_337 r_377 n149 0 u378)) u338 x4)) u x4)))) : ux_addQuickly_123 post x3 x4 x5 (n + 1) x6 x7 x8 u := h
def ux_addQuickly_27 (post : Int32 → SX → Prop) (x1 : Int32) (x2 : Int32) (x3 : Int32) (x4 : Int32) (x5 : Int32) (x6 : Int32) (x7 : Int32) (n : Nat) (x8 : Int32) (u : SX) : Prop := wX_addQuickly_27 post x1 x2 x3 x4 x5 x6 x7 n x8 (qg_port u) (qg_circuit u) (qg_tidy u) (qg_wires u) (qg_fans u) (qg_joinedMakes u) (qg_joinedLets u) (qg_threeSum u) (qg_threeCarry u) (qg_opLines u) (qg_wordD u) (qg_wordS u) (qg_wordM u) (qg_left u) (qg_right u) (qg_runs u) (qg_result u) (qg_carryOut u) (qg_address u) (qg_words u) (qg_state u) (qg_counts u) (qg_kind u) (qg_inA u) (qg_inB u) (qg_inC u) (qg_live u) (qg_level u) (qg_value u) (qg_fresh u) (qg_hashHead u) (qg_hashNext u) (qg_wire u) (qg_fanHead u) (qg_fanNext u) (qg_fanGate u) (qg_waitHead u) (qg_waitNext u) (qg_waits u)
theorem uc_addQuickly_27 {post : Int32 → SX → Prop} {x1 : Int32} {x2 : Int32} {x3 : Int32} {x4 : Int32} {x5 : Int32} {x6 : Int32} {x7 : Int32} {n : Nat} {x8 : Int32} {u : SX} (h : ((x4 ≤ x8 → (∃ n123 : Nat, ux_addQuickly_123 post x3 x4 x5 n123 x6 x7 1 u)) ∧ (¬ x4 ≤ x8 → (vp_in (x1 + x8) 8192 ∧ (∀ x9_465 : Int32, x9_465 = (qg_wire u) (x1 + x8).toNatClampNeg → (vp_in (x2 + x8) 8192 ∧ (∀ x10_467 : Int32, x10_467 = (qg_wire u) (x2 + x8).toNatClampNeg → (wpX_xor (fun r_468 u469 => (vp_in (x5 + x8) 8192 ∧ ∀ a_wire_509 : Nat → Int32, a_wire_509 = upd (qg_wire u469) (x5 + x8).toNatClampNeg (vp_nar .short r_468.toInt16.toInt32) → (wpX_and (fun r_510 u511 => (vp_in (x6 + x8) 8192 ∧ ∀ a_wire_551 : Nat → Int32, a_wire_551 = upd (qg_wire u511) (x6 + x8).toNatClampNeg (vp_nar .short r_510.toInt16.toInt32) → (vp_in (x5 + x8) 8192 ∧ (vp_in (x7 + x8) 8192 ∧ ∀ a_wire_554 : Nat → Int32, a_wire_554 = upd a_wire_551 (x7 + x8).toNatClampNeg (vp_nar .short (a_wire_551 (x5 + x8).toNatClampNeg)) → (∀ x8_555 : Int32, x8_555 = x8 + 1 → (ux_addQuickly_27 post x1 x2 x3 x4 x5 x6 x7 n x8_555 (qs_wire u511 a_wire_554))))))) (qs_wire u469 a_wire_509) x9_465 x10_467))) u x9_465 x10_467)))))))) : ux_addQuickly_27 post x1 x2 x3 x4 x5 x6 x7 (n + 1) x8 u := h
theorem uc_addQuickly {post : Int32 → SX → Prop} {u : SX} {p0 : Int32} {p1 : Int32} {p2 : Int32} {p3 : Int32} (h : wpX_bundle (fun r_1 u2 => (wpX_bundle (fun r_41 u42 => (wpX_bundle (fun r_81 u82 => (∃ n27 : Nat, ux_addQuickly_27 post p0 p1 p2 p3 r_1 r_41 r_81 n27 0 u82)) u42 p3)) u2 p3)) u p3) : wpX_addQuickly post u p0 p1 p2 p3 := h
def ux_addSlowly_16 (post : Int32 → SX → Prop) (x1 : Int32) (x2 : Int32) (x4 : Int32) (x5 : Int32) (n : Nat) (x6 : Int32) (x7 : Int32) (u : SX) : Prop := wX_addSlowly_16 post x1 x2 x4 x5 n x6 x7 (qg_port u) (qg_circuit u) (qg_tidy u) (qg_wires u) (qg_fans u) (qg_joinedMakes u) (qg_joinedLets u) (qg_threeSum u) (qg_threeCarry u) (qg_opLines u) (qg_wordD u) (qg_wordS u) (qg_wordM u) (qg_left u) (qg_right u) (qg_runs u) (qg_result u) (qg_carryOut u) (qg_address u) (qg_words u) (qg_state u) (qg_counts u) (qg_kind u) (qg_inA u) (qg_inB u) (qg_inC u) (qg_live u) (qg_level u) (qg_value u) (qg_fresh u) (qg_hashHead u) (qg_hashNext u) (qg_wire u) (qg_fanHead u) (qg_fanNext u) (qg_fanGate u) (qg_waitHead u) (qg_waitNext u) (qg_waits u)
theorem uc_addSlowly_16 {post : Int32 → SX → Prop} {x1 : Int32} {x2 : Int32} {x4 : Int32} {x5 : Int32} {n : Nat} {x6 : Int32} {x7 : Int32} {u : SX} (h : ((x4 ≤ x7 → (vp_in (x5 + x4) 8192 ∧ ∀ a_wire_43 : Nat → Int32, a_wire_43 = upd (qg_wire u) (x5 + x4).toNatClampNeg (vp_nar .short x6.toInt16.toInt32) → (post x5 (qs_wire u a_wire_43)))) ∧ (¬ x4 ≤ x7 → (vp_in (x1 + x7) 8192 ∧ (∀ x8_45 : Int32, x8_45 = (qg_wire u) (x1 + x7).toNatClampNeg → (vp_in (x2 + x7) 8192 ∧ (∀ x9_47 : Int32, x9_47 = (qg_wire u) (x2 + x7).toNatClampNeg → (wpX_xor (fun r_48 u49 => (wpX_and (fun r_88 u89 => (wpX_and (fun r_128 u129 => (wpX_xor (fun r_168 u169 => (vp_in (x5 + x7) 8192 ∧ ∀ a_wire_209 : Nat → Int32, a_wire_209 = upd (qg_wire u169) (x5 + x7).toNatClampNeg (vp_nar .short r_168.toInt16.toInt32) → (wpX_or (fun r_210 u211 => (∀ x7_250 : Int32, x7_250 = x7 + 1 → (ux_addSlowly_16 post x1 x2 x4 x5 n r_210 x7_250 u211))) (qs_wire u169 a_wire_209) r_88 r_128))) u129 r_48 x6)) u89 r_48 x6)) u49 x8_45 x9_47)) u x8_45 x9_47)))))))) : ux_addSlowly_16 post x1 x2 x4 x5 (n + 1) x6 x7 u := h
theorem uc_addSlowly {post : Int32 → SX → Prop} {u : SX} {p0 : Int32} {p1 : Int32} {p2 : Int32} {p3 : Int32} (h : wpX_bundle (fun r_1 u2 => (∃ n16 : Nat, ux_addSlowly_16 post p0 p1 p3 r_1 n16 p2 0 u2)) u (p3 + 1)) : wpX_addSlowly post u p0 p1 p2 p3 := h
theorem uc_addBundles {post : Int32 → SX → Prop} {u : SX} {p0 : Int32} {p1 : Int32} {p2 : Int32} {p3 : Int32} (h : (((qg_tidy u) = 0 → (wpX_addSlowly (fun r_2 u3 => (post r_2 u3)) u p0 p1 p2 p3)) ∧ (¬ (qg_tidy u) = 0 → (wpX_addQuickly (fun r_42 u43 => (post r_42 u43)) u p0 p1 p2 p3)))) : wpX_addBundles post u p0 p1 p2 p3 := h
def ux_layOutSum_21 (post : Int32 → SX → Prop) (x1 : Int32) (x2 : Int32) (n : Nat) (x3 : Int32) (u : SX) : Prop := wX_layOutSum_21 post x1 x2 n x3 (qg_port u) (qg_circuit u) (qg_tidy u) (qg_wires u) (qg_fans u) (qg_joinedMakes u) (qg_joinedLets u) (qg_threeSum u) (qg_threeCarry u) (qg_opLines u) (qg_wordD u) (qg_wordS u) (qg_wordM u) (qg_left u) (qg_right u) (qg_runs u) (qg_result u) (qg_carryOut u) (qg_address u) (qg_words u) (qg_state u) (qg_counts u) (qg_kind u) (qg_inA u) (qg_inB u) (qg_inC u) (qg_live u) (qg_level u) (qg_value u) (qg_fresh u) (qg_hashHead u) (qg_hashNext u) (qg_wire u) (qg_fanHead u) (qg_fanNext u) (qg_fanGate u) (qg_waitHead u) (qg_waitNext u) (qg_waits u)
theorem uc_layOutSum_21 {post : Int32 → SX → Prop} {x1 : Int32} {x2 : Int32} {n : Nat} {x3 : Int32} {u : SX} (h : ((8 ≤ x3 → (vp_in ((qg_opLines u) + 4) 8192 ∧ (wpX_and (fun r_45 u46 => (wpX_or (fun r_85 u86 => (wpX_addBundles (fun r_125 u126 => (vp_in (r_125 + 8) 8192 ∧ (wpX_xor (fun r_166 u167 => (post r_125 (qs_carryOut u167 r_166))) u126 ((qg_wire u126) (r_125 + 8).toNatClampNeg) x1))) u86 (qg_left u86) x2 r_85 8)) u46 x1 r_45)) u ((qg_wire u) ((qg_opLines u) + 4).toNatClampNeg) 187))) ∧ (¬ 8 ≤ x3 → (vp_in ((qg_right u) + x3) 8192 ∧ (wpX_xor (fun r_207 u208 => (vp_in (x2 + x3) 8192 ∧ ∀ a_wire_248 : Nat → Int32, a_wire_248 = upd (qg_wire u208) (x2 + x3).toNatClampNeg (vp_nar .short r_207.toInt16.toInt32) → (∀ x3_249 : Int32, x3_249 = x3 + 1 → (ux_layOutSum_21 post x1 x2 n x3_249 (qs_wire u208 a_wire_248))))) u ((qg_wire u) ((qg_right u) + x3).toNatClampNeg) x1))))) : ux_layOutSum_21 post x1 x2 (n + 1) x3 u := h
theorem uc_layOutSum {post : Int32 → SX → Prop} {u : SX} (h : vp_in ((qg_opLines u) + 5) 8192 ∧ (∀ x1_2 : Int32, x1_2 = (qg_wire u) ((qg_opLines u) + 5).toNatClampNeg → (wpX_bundle (fun r_3 u4 => (∃ n21 : Nat, ux_layOutSum_21 post x1_2 r_3 n21 0 u4)) u 8))) : wpX_layOutSum post u := h
def ux_chooseBundle_11 (post : Int32 → SX → Prop) (x1 : Int32) (x2 : Int32) (x3 : Int32) (x4 : Int32) (x5 : Int32) (n : Nat) (x6 : Int32) (u : SX) : Prop := wX_chooseBundle_11 post x1 x2 x3 x4 x5 n x6 (qg_port u) (qg_circuit u) (qg_tidy u) (qg_wires u) (qg_fans u) (qg_joinedMakes u) (qg_joinedLets u) (qg_threeSum u) (qg_threeCarry u) (qg_opLines u) (qg_wordD u) (qg_wordS u) (qg_wordM u) (qg_left u) (qg_right u) (qg_runs u) (qg_result u) (qg_carryOut u) (qg_address u) (qg_words u) (qg_state u) (qg_counts u) (qg_kind u) (qg_inA u) (qg_inB u) (qg_inC u) (qg_live u) (qg_level u) (qg_value u) (qg_fresh u) (qg_hashHead u) (qg_hashNext u) (qg_wire u) (qg_fanHead u) (qg_fanNext u) (qg_fanGate u) (qg_waitHead u) (qg_waitNext u) (qg_waits u)
theorem uc_chooseBundle_11 {post : Int32 → SX → Prop} {x1 : Int32} {x2 : Int32} {x3 : Int32} {x4 : Int32} {x5 : Int32} {n : Nat} {x6 : Int32} {u : SX} (h : ((x4 ≤ x6 → (post x5 u)) ∧ (¬ x4 ≤ x6 → (vp_in (x2 + x6) 8192 ∧ (vp_in (x3 + x6) 8192 ∧ (wpX_choice (fun r_44 u45 => (vp_in (x5 + x6) 8192 ∧ ∀ a_wire_85 : Nat → Int32, a_wire_85 = upd (qg_wire u45) (x5 + x6).toNatClampNeg (vp_nar .short r_44.toInt16.toInt32) → (∀ x6_86 : Int32, x6_86 = x6 + 1 → (ux_chooseBundle_11 post x1 x2 x3 x4 x5 n x6_86 (qs_wire u45 a_wire_85))))) u x1 ((qg_wire u) (x2 + x6).toNatClampNeg) ((qg_wire u) (x3 + x6).toNatClampNeg))))))) : ux_chooseBundle_11 post x1 x2 x3 x4 x5 (n + 1) x6 u := h
theorem uc_chooseBundle {post : Int32 → SX → Prop} {u : SX} {p0 : Int32} {p1 : Int32} {p2 : Int32} {p3 : Int32} (h : wpX_bundle (fun r_1 u2 => (∃ n11 : Nat, ux_chooseBundle_11 post p0 p1 p2 p3 r_1 n11 0 u2)) u p3) : wpX_chooseBundle post u p0 p1 p2 p3 := h
def ux_layOutShift_85 (post : Int32 → SX → Prop) (J47 : Int32 → SX → Prop) (x1 : Int32) (x2 : Int32) (x3 : Int32) (x4 : Int32) (x5 : Int32) (z0 : Int32) (z1 : Int32) (u : SX) : Prop := wX_layOutShift_85 post (fun j0 a_words a_state a_counts a_kind a_inA a_inB a_inC a_live a_level a_value a_fresh a_hashHead a_hashNext a_wire a_fanHead a_fanNext a_fanGate a_waitHead a_waitNext a_waits => J47 j0 (qg_port u, qg_circuit u, qg_tidy u, qg_wires u, qg_fans u, qg_joinedMakes u, qg_joinedLets u, qg_threeSum u, qg_threeCarry u, qg_opLines u, qg_wordD u, qg_wordS u, qg_wordM u, qg_left u, qg_right u, qg_runs u, qg_result u, qg_carryOut u, qg_address u, a_words, a_state, a_counts, a_kind, a_inA, a_inB, a_inC, a_live, a_level, a_value, a_fresh, a_hashHead, a_hashNext, a_wire, a_fanHead, a_fanNext, a_fanGate, a_waitHead, a_waitNext, a_waits)) x1 x2 x3 x4 x5 z0 z1 (qg_port u) (qg_circuit u) (qg_tidy u) (qg_wires u) (qg_fans u) (qg_joinedMakes u) (qg_joinedLets u) (qg_threeSum u) (qg_threeCarry u) (qg_opLines u) (qg_wordD u) (qg_wordS u) (qg_wordM u) (qg_left u) (qg_right u) (qg_runs u) (qg_result u) (qg_carryOut u) (qg_address u) (qg_words u) (qg_state u) (qg_counts u) (qg_kind u) (qg_inA u) (qg_inB u) (qg_inC u) (qg_live u) (qg_level u) (qg_value u) (qg_fresh u) (qg_hashHead u) (qg_hashNext u) (qg_wire u) (qg_fanHead u) (qg_fanNext u) (qg_fanGate u) (qg_waitHead u) (qg_waitNext u) (qg_waits u)
theorem uc_layOutShift_85 {post : Int32 → SX → Prop} {J47 : Int32 → SX → Prop} {x1 : Int32} {x2 : Int32} {x3 : Int32} {x4 : Int32} {x5 : Int32} {z0 : Int32} {z1 : Int32} {u : SX} (h : vp_in z1 8192 ∧ ∀ a_wire_251 : Nat → Int32, a_wire_251 = upd (qg_wire u) z1.toNatClampNeg (vp_nar .short z0.toInt16.toInt32) → (((x5 = 7 → (vp_in (x4 + x5) 8192 ∧ ∀ a_wire_258 : Nat → Int32, a_wire_258 = upd a_wire_251 (x4 + x5).toNatClampNeg (vp_nar .short x2.toInt16.toInt32) → (∀ x5_259 : Int32, x5_259 = x5 + 1 → (J47 x5_259 (qs_wire u a_wire_258))))) ∧ (¬ x5 = 7 → (vp_in (((qg_left u) + x5) + 1) 8192 ∧ (vp_in (x4 + x5) 8192 ∧ ∀ a_wire_255 : Nat → Int32, a_wire_255 = upd a_wire_251 (x4 + x5).toNatClampNeg (vp_nar .short ((a_wire_251 (((qg_left u) + x5) + 1).toNatClampNeg).toInt16.toInt32)) → (∀ x5_256 : Int32, x5_256 = x5 + 1 → (J47 x5_256 (qs_wire u a_wire_255))))))))) : ux_layOutShift_85 post J47 x1 x2 x3 x4 x5 z0 z1 u := h
def ux_layOutShift_47 (post : Int32 → SX → Prop) (x1 : Int32) (x2 : Int32) (x3 : Int32) (x4 : Int32) (n : Nat) (x5 : Int32) (u : SX) : Prop := wX_layOutShift_47 post x1 x2 x3 x4 (qg_port u) (qg_circuit u) (qg_tidy u) (qg_wires u) (qg_fans u) (qg_joinedMakes u) (qg_joinedLets u) (qg_threeSum u) (qg_threeCarry u) (qg_opLines u) (qg_wordD u) (qg_wordS u) (qg_wordM u) (qg_left u) (qg_right u) (qg_runs u) (qg_result u) (qg_carryOut u) (qg_address u) n x5 (qg_words u) (qg_state u) (qg_counts u) (qg_kind u) (qg_inA u) (qg_inB u) (qg_inC u) (qg_live u) (qg_level u) (qg_value u) (qg_fresh u) (qg_hashHead u) (qg_hashNext u) (qg_wire u) (qg_fanHead u) (qg_fanNext u) (qg_fanGate u) (qg_waitHead u) (qg_waitNext u) (qg_waits u)
theorem uc_layOutShift_47 {post : Int32 → SX → Prop} {x1 : Int32} {x2 : Int32} {x3 : Int32} {x4 : Int32} {n : Nat} {x5 : Int32} {u : SX} (h : ((8 ≤ x5 → (vp_in (qg_left u) 8192 ∧ (vp_in (((qg_left u) + 8) - 1) 8192 ∧ (wpX_choice (fun r_127 u128 => (vp_in ((qg_opLines u128) + 9) 8192 ∧ (wpX_choice (fun r_168 u169 => (wpX_chooseBundle (fun r_208 u209 => (post r_208 u209)) (qs_carryOut u169 r_168) x1 x4 x3 8)) u128 ((qg_wire u128) ((qg_opLines u128) + 9).toNatClampNeg) r_127 (qg_carryOut u128)))) u x1 ((qg_wire u) (qg_left u).toNatClampNeg) ((qg_wire u) (((qg_left u) + 8) - 1).toNatClampNeg))))) ∧ (¬ 8 ≤ x5 → (((x5 = 0 → (ux_layOutShift_85 post (ux_layOutShift_47 post x1 x2 x3 x4 n) x1 x2 x3 x4 x5 x2 (x3 + x5) u)) ∧ (¬ x5 = 0 → (vp_in (((qg_left u) + x5) - 1) 8192 ∧ (ux_layOutShift_85 post (ux_layOutShift_47 post x1 x2 x3 x4 n) x1 x2 x3 x4 x5 ((qg_wire u) (((qg_left u) + x5) - 1).toNatClampNeg) (x3 + x5) u)))))))) : ux_layOutShift_47 post x1 x2 x3 x4 (n + 1) x5 u := h
theorem uc_layOutShift {post : Int32 → SX → Prop} {u : SX} (h : vp_in (qg_wordM u) 8192 ∧ (∀ x1_2 : Int32, x1_2 = (qg_wire u) (qg_wordM u).toNatClampNeg → (vp_in ((qg_wordM u) + 1) 8192 ∧ (wpX_and (fun r_4 u5 => (wpX_bundle (fun r_44 u45 => (wpX_bundle (fun r_84 u85 => (∃ n47 : Nat, ux_layOutShift_47 post x1_2 r_4 r_44 r_84 n47 0 u85)) u45 8)) u5 8)) u ((qg_wire u) ((qg_wordM u) + 1).toNatClampNeg) 187)))) : wpX_layOutShift post u := h
theorem uc_addThree {post : SX → Prop} {u : SX} {p0 : Int32} {p1 : Int32} {p2 : Int32} (h : wpX_xor (fun r_1 u2 => (wpX_and (fun r_41 u42 => (wpX_and (fun r_81 u82 => (wpX_xor (fun r_121 u122 => (wpX_or (fun r_161 u162 => (post (qs_threeCarry u162 r_161))) (qs_threeSum u122 r_121) r_41 r_81)) u82 r_1 p2)) u42 r_1 p2)) u2 p0 p1)) u p0 p1) : wpX_addThree post u p0 p1 p2 := h
def ux_multiplyQuickly_154 (post : Int32 → SX → Prop) (J55 : Int32 → Int32 → Int32 → SX → Prop) (J89 : Int32 → SX → Prop) (x1 : Int32) (x2 : Int32) (x3 : Int32) (x4 : Int32) (x5 : Int32) (x6 : Int32) (x7 : Int32) (x8 : Int32) (z0 : Int32) (u : SX) : Prop := wX_multiplyQuickly_154 post (fun j0 j1 j2 f_port f_circuit f_tidy f_wires f_fans f_joinedMakes f_joinedLets f_threeSum f_threeCarry f_opLines f_wordD f_wordS f_wordM f_left f_right f_runs f_result f_carryOut f_address a_words a_state a_counts a_kind a_inA a_inB a_inC a_live a_level a_value a_fresh a_hashHead a_hashNext a_wire a_fanHead a_fanNext a_fanGate a_waitHead a_waitNext a_waits => J55 j0 j1 j2 (f_port, f_circuit, f_tidy, f_wires, f_fans, f_joinedMakes, f_joinedLets, f_threeSum, f_threeCarry, f_opLines, f_wordD, f_wordS, f_wordM, f_left, f_right, f_runs, f_result, f_carryOut, f_address, a_words, a_state, a_counts, a_kind, a_inA, a_inB, a_inC, a_live, a_level, a_value, a_fresh, a_hashHead, a_hashNext, a_wire, a_fanHead, a_fanNext, a_fanGate, a_waitHead, a_waitNext, a_waits)) (fun j0 f_port f_circuit f_tidy f_wires f_fans f_joinedMakes f_joinedLets f_threeSum f_threeCarry f_opLines f_wordD f_wordS f_wordM f_left f_right f_runs f_result f_carryOut f_address a_words a_state a_counts a_kind a_inA a_inB a_inC a_live a_level a_value a_fresh a_hashHead a_hashNext a_wire a_fanHead a_fanNext a_fanGate a_waitHead a_waitNext a_waits => J89 j0 (f_port, f_circuit, f_tidy, f_wires, f_fans, f_joinedMakes, f_joinedLets, f_threeSum, f_threeCarry, f_opLines, f_wordD, f_wordS, f_wordM, f_left, f_right, f_runs, f_result, f_carryOut, f_address, a_words, a_state, a_counts, a_kind, a_inA, a_inB, a_inC, a_live, a_level, a_value, a_fresh, a_hashHead, a_hashNext, a_wire, a_fanHead, a_fanNext, a_fanGate, a_waitHead, a_waitNext, a_waits)) x1 x2 x3 x4 x5 x6 x7 x8 z0 (qg_port u) (qg_circuit u) (qg_tidy u) (qg_wires u) (qg_fans u) (qg_joinedMakes u) (qg_joinedLets u) (qg_threeSum u) (qg_threeCarry u) (qg_opLines u) (qg_wordD u) (qg_wordS u) (qg_wordM u) (qg_left u) (qg_right u) (qg_runs u) (qg_result u) (qg_carryOut u) (qg_address u) (qg_words u) (qg_state u) (qg_counts u) (qg_kind u) (qg_inA u) (qg_inB u) (qg_inC u) (qg_live u) (qg_level u) (qg_value u) (qg_fresh u) (qg_hashHead u) (qg_hashNext u) (qg_wire u) (qg_fanHead u) (qg_fanNext u) (qg_fanGate u) (qg_waitHead u) (qg_waitNext u) (qg_waits u)
theorem uc_multiplyQuickly_154 {post : Int32 → SX → Prop} {J55 : Int32 → Int32 → Int32 → SX → Prop} {J89 : Int32 → SX → Prop} {x1 : Int32} {x2 : Int32} {x3 : Int32} {x4 : Int32} {x5 : Int32} {x6 : Int32} {x7 : Int32} {x8 : Int32} {z0 : Int32} {u : SX} (h : vp_in (x3 + x8) 8192 ∧ (vp_in (x4 + x8) 8192 ∧ (wpX_addThree (fun u212 => (vp_in (x6 + x8) 8192 ∧ ∀ a_wire_252 : Nat → Int32, a_wire_252 = upd (qg_wire u212) (x6 + x8).toNatClampNeg (vp_nar .short (qg_threeSum u212).toInt16.toInt32) → (((16 ≤ (x8 + 1) → (∀ x8_254 : Int32, x8_254 = x8 + 1 → (J89 x8_254 (qs_wire u212 a_wire_252)))) ∧ (¬ 16 ≤ (x8 + 1) → (vp_in ((x7 + x8) + 1) 8192 ∧ ∀ a_wire_256 : Nat → Int32, a_wire_256 = upd a_wire_252 ((x7 + x8) + 1).toNatClampNeg (vp_nar .short (qg_threeCarry u212).toInt16.toInt32) → (∀ x8_257 : Int32, x8_257 = x8 + 1 → (J89 x8_257 (qs_wire u212 a_wire_256))))))))) u ((qg_wire u) (x3 + x8).toNatClampNeg) ((qg_wire u) (x4 + x8).toNatClampNeg) z0))) : ux_multiplyQuickly_154 post J55 J89 x1 x2 x3 x4 x5 x6 x7 x8 z0 u := h
def ux_multiplyQuickly_118 (post : Int32 → SX → Prop) (J55 : Int32 → Int32 → Int32 → SX → Prop) (J89 : Int32 → SX → Prop) (x1 : Int32) (x2 : Int32) (x3 : Int32) (x4 : Int32) (x5 : Int32) (x6 : Int32) (x7 : Int32) (x8 : Int32) (z0 : Int32) (u : SX) : Prop := wX_multiplyQuickly_118 post (fun j0 j1 j2 f_port f_circuit f_tidy f_wires f_fans f_joinedMakes f_joinedLets f_threeSum f_threeCarry f_opLines f_wordD f_wordS f_wordM f_left f_right f_runs f_result f_carryOut f_address a_words a_state a_counts a_kind a_inA a_inB a_inC a_live a_level a_value a_fresh a_hashHead a_hashNext a_wire a_fanHead a_fanNext a_fanGate a_waitHead a_waitNext a_waits => J55 j0 j1 j2 (f_port, f_circuit, f_tidy, f_wires, f_fans, f_joinedMakes, f_joinedLets, f_threeSum, f_threeCarry, f_opLines, f_wordD, f_wordS, f_wordM, f_left, f_right, f_runs, f_result, f_carryOut, f_address, a_words, a_state, a_counts, a_kind, a_inA, a_inB, a_inC, a_live, a_level, a_value, a_fresh, a_hashHead, a_hashNext, a_wire, a_fanHead, a_fanNext, a_fanGate, a_waitHead, a_waitNext, a_waits)) (fun j0 f_port f_circuit f_tidy f_wires f_fans f_joinedMakes f_joinedLets f_threeSum f_threeCarry f_opLines f_wordD f_wordS f_wordM f_left f_right f_runs f_result f_carryOut f_address a_words a_state a_counts a_kind a_inA a_inB a_inC a_live a_level a_value a_fresh a_hashHead a_hashNext a_wire a_fanHead a_fanNext a_fanGate a_waitHead a_waitNext a_waits => J89 j0 (f_port, f_circuit, f_tidy, f_wires, f_fans, f_joinedMakes, f_joinedLets, f_threeSum, f_threeCarry, f_opLines, f_wordD, f_wordS, f_wordM, f_left, f_right, f_runs, f_result, f_carryOut, f_address, a_words, a_state, a_counts, a_kind, a_inA, a_inB, a_inC, a_live, a_level, a_value, a_fresh, a_hashHead, a_hashNext, a_wire, a_fanHead, a_fanNext, a_fanGate, a_waitHead, a_waitNext, a_waits)) x1 x2 x3 x4 x5 x6 x7 x8 z0 (qg_port u) (qg_circuit u) (qg_tidy u) (qg_wires u) (qg_fans u) (qg_joinedMakes u) (qg_joinedLets u) (qg_threeSum u) (qg_threeCarry u) (qg_opLines u) (qg_wordD u) (qg_wordS u) (qg_wordM u) (qg_left u) (qg_right u) (qg_runs u) (qg_result u) (qg_carryOut u) (qg_address u) (qg_words u) (qg_state u) (qg_counts u) (qg_kind u) (qg_inA u) (qg_inB u) (qg_inC u) (qg_live u) (qg_level u) (qg_value u) (qg_fresh u) (qg_hashHead u) (qg_hashNext u) (qg_wire u) (qg_fanHead u) (qg_fanNext u) (qg_fanGate u) (qg_waitHead u) (qg_waitNext u) (qg_waits u)
theorem uc_multiplyQuickly_118 {post : Int32 → SX → Prop} {J55 : Int32 → Int32 → Int32 → SX → Prop} {J89 : Int32 → SX → Prop} {x1 : Int32} {x2 : Int32} {x3 : Int32} {x4 : Int32} {x5 : Int32} {x6 : Int32} {x7 : Int32} {x8 : Int32} {z0 : Int32} {u : SX} (h : ((z0 = 0 → (ux_multiplyQuickly_154 post J55 J89 x1 x2 x3 x4 x5 x6 x7 x8 0 u)) ∧ (¬ z0 = 0 → (vp_in ((x1 + x8) - x5) 8192 ∧ (vp_in (x2 + x5) 8192 ∧ (wpX_and (fun r_260 u261 => (ux_multiplyQuickly_154 post J55 J89 x1 x2 x3 x4 x5 x6 x7 x8 r_260 u261)) u ((qg_wire u) ((x1 + x8) - x5).toNatClampNeg) ((qg_wire u) (x2 + x5).toNatClampNeg))))))) : ux_multiplyQuickly_118 post J55 J89 x1 x2 x3 x4 x5 x6 x7 x8 z0 u := h
def ux_multiplyQuickly_117 (post : Int32 → SX → Prop) (J55 : Int32 → Int32 → Int32 → SX → Prop) (J89 : Int32 → SX → Prop) (x1 : Int32) (x2 : Int32) (x3 : Int32) (x4 : Int32) (x5 : Int32) (x6 : Int32) (x7 : Int32) (x8 : Int32) (u : SX) : Prop := wX_multiplyQuickly_117 post (fun j0 j1 j2 f_port f_circuit f_tidy f_wires f_fans f_joinedMakes f_joinedLets f_threeSum f_threeCarry f_opLines f_wordD f_wordS f_wordM f_left f_right f_runs f_result f_carryOut f_address a_words a_state a_counts a_kind a_inA a_inB a_inC a_live a_level a_value a_fresh a_hashHead a_hashNext a_wire a_fanHead a_fanNext a_fanGate a_waitHead a_waitNext a_waits => J55 j0 j1 j2 (f_port, f_circuit, f_tidy, f_wires, f_fans, f_joinedMakes, f_joinedLets, f_threeSum, f_threeCarry, f_opLines, f_wordD, f_wordS, f_wordM, f_left, f_right, f_runs, f_result, f_carryOut, f_address, a_words, a_state, a_counts, a_kind, a_inA, a_inB, a_inC, a_live, a_level, a_value, a_fresh, a_hashHead, a_hashNext, a_wire, a_fanHead, a_fanNext, a_fanGate, a_waitHead, a_waitNext, a_waits)) (fun j0 f_port f_circuit f_tidy f_wires f_fans f_joinedMakes f_joinedLets f_threeSum f_threeCarry f_opLines f_wordD f_wordS f_wordM f_left f_right f_runs f_result f_carryOut f_address a_words a_state a_counts a_kind a_inA a_inB a_inC a_live a_level a_value a_fresh a_hashHead a_hashNext a_wire a_fanHead a_fanNext a_fanGate a_waitHead a_waitNext a_waits => J89 j0 (f_port, f_circuit, f_tidy, f_wires, f_fans, f_joinedMakes, f_joinedLets, f_threeSum, f_threeCarry, f_opLines, f_wordD, f_wordS, f_wordM, f_left, f_right, f_runs, f_result, f_carryOut, f_address, a_words, a_state, a_counts, a_kind, a_inA, a_inB, a_inC, a_live, a_level, a_value, a_fresh, a_hashHead, a_hashNext, a_wire, a_fanHead, a_fanNext, a_fanGate, a_waitHead, a_waitNext, a_waits)) x1 x2 x3 x4 x5 x6 x7 x8 (qg_port u) (qg_circuit u) (qg_tidy u) (qg_wires u) (qg_fans u) (qg_joinedMakes u) (qg_joinedLets u) (qg_threeSum u) (qg_threeCarry u) (qg_opLines u) (qg_wordD u) (qg_wordS u) (qg_wordM u) (qg_left u) (qg_right u) (qg_runs u) (qg_result u) (qg_carryOut u) (qg_address u) (qg_words u) (qg_state u) (qg_counts u) (qg_kind u) (qg_inA u) (qg_inB u) (qg_inC u) (qg_live u) (qg_level u) (qg_value u) (qg_fresh u) (qg_hashHead u) (qg_hashNext u) (qg_wire u) (qg_fanHead u) (qg_fanNext u) (qg_fanGate u) (qg_waitHead u) (qg_waitNext u) (qg_waits u)
theorem uc_multiplyQuickly_117 {post : Int32 → SX → Prop} {J55 : Int32 → Int32 → Int32 → SX → Prop} {J89 : Int32 → SX → Prop} {x1 : Int32} {x2 : Int32} {x3 : Int32} {x4 : Int32} {x5 : Int32} {x6 : Int32} {x7 : Int32} {x8 : Int32} {u : SX} (h : ux_multiplyQuickly_118 post J55 J89 x1 x2 x3 x4 x5 x6 x7 x8 0 u) : ux_multiplyQuickly_117 post J55 J89 x1 x2 x3 x4 x5 x6 x7 x8 u := h
def ux_multiplyQuickly_89 (post : Int32 → SX → Prop) (J55 : Int32 → Int32 → Int32 → SX → Prop) (x1 : Int32) (x2 : Int32) (x3 : Int32) (x4 : Int32) (x5 : Int32) (x6 : Int32) (x7 : Int32) (n : Nat) (x8 : Int32) (u : SX) : Prop := wX_multiplyQuickly_89 post (fun j0 j1 j2 f_port f_circuit f_tidy f_wires f_fans f_joinedMakes f_joinedLets f_threeSum f_threeCarry f_opLines f_wordD f_wordS f_wordM f_left f_right f_runs f_result f_carryOut f_address a_words a_state a_counts a_kind a_inA a_inB a_inC a_live a_level a_value a_fresh a_hashHead a_hashNext a_wire a_fanHead a_fanNext a_fanGate a_waitHead a_waitNext a_waits => J55 j0 j1 j2 (f_port, f_circuit, f_tidy, f_wires, f_fans, f_joinedMakes, f_joinedLets, f_threeSum, f_threeCarry, f_opLines, f_wordD, f_wordS, f_wordM, f_left, f_right, f_runs, f_result, f_carryOut, f_address, a_words, a_state, a_counts, a_kind, a_inA, a_inB, a_inC, a_live, a_level, a_value, a_fresh, a_hashHead, a_hashNext, a_wire, a_fanHead, a_fanNext, a_fanGate, a_waitHead, a_waitNext, a_waits)) x1 x2 x3 x4 x5 x6 x7 n x8 (qg_port u) (qg_circuit u) (qg_tidy u) (qg_wires u) (qg_fans u) (qg_joinedMakes u) (qg_joinedLets u) (qg_threeSum u) (qg_threeCarry u) (qg_opLines u) (qg_wordD u) (qg_wordS u) (qg_wordM u) (qg_left u) (qg_right u) (qg_runs u) (qg_result u) (qg_carryOut u) (qg_address u) (qg_words u) (qg_state u) (qg_counts u) (qg_kind u) (qg_inA u) (qg_inB u) (qg_inC u) (qg_live u) (qg_level u) (qg_value u) (qg_fresh u) (qg_hashHead u) (qg_hashNext u) (qg_wire u) (qg_fanHead u) (qg_fanNext u) (qg_fanGate u) (qg_waitHead u) (qg_waitNext u) (qg_waits u)
theorem uc_multiplyQuickly_89 {post : Int32 → SX → Prop} {J55 : Int32 → Int32 → Int32 → SX → Prop} {x1 : Int32} {x2 : Int32} {x3 : Int32} {x4 : Int32} {x5 : Int32} {x6 : Int32} {x7 : Int32} {n : Nat} {x8 : Int32} {u : SX} (h : ((16 ≤ x8 → (∀ x5_206 : Int32, x5_206 = x5 + 1 → (J55 x6 x7 x5_206 u))) ∧ (¬ 16 ≤ x8 → (((x8 < x5 → (ux_multiplyQuickly_117 post J55 (ux_multiplyQuickly_89 post J55 x1 x2 x3 x4 x5 x6 x7 n) x1 x2 x3 x4 x5 x6 x7 x8 u)) ∧ (¬ x8 < x5 → ((((x5 + 8) ≤ x8 → (ux_multiplyQuickly_117 post J55 (ux_multiplyQuickly_89 post J55 x1 x2 x3 x4 x5 x6 x7 n) x1 x2 x3 x4 x5 x6 x7 x8 u)) ∧ (¬ (x5 + 8) ≤ x8 → (ux_multiplyQuickly_118 post J55 (ux_multiplyQuickly_89 post J55 x1 x2 x3 x4 x5 x6 x7 n) x1 x2 x3 x4 x5 x6 x7 x8 1 u)))))))))) : ux_multiplyQuickly_89 post J55 x1 x2 x3 x4 x5 x6 x7 (n + 1) x8 u := h
def ux_multiplyQuickly_55 (post : Int32 → SX → Prop) (x1 : Int32) (x2 : Int32) (n : Nat) (x3 : Int32) (x4 : Int32) (x5 : Int32) (u : SX) : Prop := wX_multiplyQuickly_55 post x1 x2 n x3 x4 x5 (qg_port u) (qg_circuit u) (qg_tidy u) (qg_wires u) (qg_fans u) (qg_joinedMakes u) (qg_joinedLets u) (qg_threeSum u) (qg_threeCarry u) (qg_opLines u) (qg_wordD u) (qg_wordS u) (qg_wordM u) (qg_left u) (qg_right u) (qg_runs u) (qg_result u) (qg_carryOut u) (qg_address u) (qg_words u) (qg_state u) (qg_counts u) (qg_kind u) (qg_inA u) (qg_inB u) (qg_inC u) (qg_live u) (qg_level u) (qg_value u) (qg_fresh u) (qg_hashHead u) (qg_hashNext u) (qg_wire u) (qg_fanHead u) (qg_fanNext u) (qg_fanGate u) (qg_waitHead u) (qg_waitNext u) (qg_waits u)
theorem uc_multiplyQuickly_55 {post : Int32 → SX → Prop} {x1 : Int32} {x2 : Int32} {n : Nat} {x3 : Int32} {x4 : Int32} {x5 : Int32} {u : SX} (h : ((8 ≤ x5 → (wpX_addQuickly (fun r_83 u84 => (post r_83 u84)) u x3 x4 0 16)) ∧ (¬ 8 ≤ x5 → (wpX_bundle (fun r_123 u124 => (wpX_bundle (fun r_163 u164 => (vp_in r_163 8192 ∧ ∀ a_wire_204 : Nat → Int32, a_wire_204 = upd (qg_wire u164) r_163.toNatClampNeg (vp_nar .short 0) → (∃ n89 : Nat, ux_multiplyQuickly_89 post (ux_multiplyQuickly_55 post x1 x2 n) x1 x2 x3 x4 x5 r_123 r_163 n89 0 (qs_wire u164 a_wire_204)))) u124 16)) u 16)))) : ux_multiplyQuickly_55 post x1 x2 (n + 1) x3 x4 x5 u := h
def ux_multiplyQuickly_18 (post : Int32 → SX → Prop) (x1 : Int32) (x2 : Int32) (x3 : Int32) (x4 : Int32) (n : Nat) (x5 : Int32) (u : SX) : Prop := wX_multiplyQuickly_18 post x1 x2 x3 x4 (qg_port u) (qg_circuit u) (qg_tidy u) (qg_wires u) (qg_fans u) (qg_joinedMakes u) (qg_joinedLets u) (qg_threeSum u) (qg_threeCarry u) (qg_opLines u) (qg_wordD u) (qg_wordS u) (qg_wordM u) (qg_left u) (qg_right u) (qg_runs u) (qg_result u) (qg_carryOut u) (qg_address u) n x5 (qg_words u) (qg_state u) (qg_counts u) (qg_kind u) (qg_inA u) (qg_inB u) (qg_inC u) (qg_live u) (qg_level u) (qg_value u) (qg_fresh u) (qg_hashHead u) (qg_hashNext u) (qg_wire u) (qg_fanHead u) (qg_fanNext u) (qg_fanGate u) (qg_waitHead u) (qg_waitNext u) (qg_waits u)
theorem uc_multiplyQuickly_18 {post : Int32 → SX → Prop} {x1 : Int32} {x2 : Int32} {x3 : Int32} {x4 : Int32} {n : Nat} {x5 : Int32} {u : SX} (h : ((16 ≤ x5 → (∃ n55 : Nat, ux_multiplyQuickly_55 post x1 x2 n55 x3 x4 0 u)) ∧ (¬ 16 ≤ x5 → (vp_in (x3 + x5) 8192 ∧ ∀ a_wire_302 : Nat → Int32, a_wire_302 = upd (qg_wire u) (x3 + x5).toNatClampNeg (vp_nar .short 0) → (vp_in (x4 + x5) 8192 ∧ ∀ a_wire_304 : Nat → Int32, a_wire_304 = upd a_wire_302 (x4 + x5).toNatClampNeg (vp_nar .short 0) → (∀ x5_305 : Int32, x5_305 = x5 + 1 → (ux_multiplyQuickly_18 post x1 x2 x3 x4 n x5_305 (qs_wire u a_wire_304)))))))) : ux_multiplyQuickly_18 post x1 x2 x3 x4 (n + 1) x5 u := h
theorem uc_multiplyQuickly {post : Int32 → SX → Prop} {u : SX} {p0 : Int32} {p1 : Int32} (h : wpX_bundle (fun r_1 u2 => (wpX_bundle (fun r_41 u42 => (∃ n18 : Nat, ux_multiplyQuickly_18 post p0 p1 r_1 r_41 n18 0 u42)) u2 16)) u 16) : wpX_multiplyQuickly post u p0 p1 := h
def ux_multiplySlowly_153 (post : Int32 → SX → Prop) (x3 : Int32) (x4 : Int32) (n : Nat) (x5 : Int32) (u : SX) : Prop := wX_multiplySlowly_153 post x3 x4 (qg_port u) (qg_circuit u) (qg_tidy u) (qg_wires u) (qg_fans u) (qg_joinedMakes u) (qg_joinedLets u) (qg_threeSum u) (qg_threeCarry u) (qg_opLines u) (qg_wordD u) (qg_wordS u) (qg_wordM u) (qg_left u) (qg_right u) (qg_runs u) (qg_result u) (qg_carryOut u) (qg_address u) n x5 (qg_words u) (qg_state u) (qg_counts u) (qg_kind u) (qg_inA u) (qg_inB u) (qg_inC u) (qg_live u) (qg_level u) (qg_value u) (qg_fresh u) (qg_hashHead u) (qg_hashNext u) (qg_wire u) (qg_fanHead u) (qg_fanNext u) (qg_fanGate u) (qg_waitHead u) (qg_waitNext u) (qg_waits u)
theorem uc_multiplySlowly_153 {post : Int32 → SX → Prop} {x3 : Int32} {x4 : Int32} {n : Nat} {x5 : Int32} {u : SX} (h : ((8 ≤ x5 → (post x3 u)) ∧ (¬ 8 ≤ x5 → (vp_in (x4 + x5) 8192 ∧ (vp_in ((x3 + 8) + x5) 8192 ∧ ∀ a_wire_86 : Nat → Int32, a_wire_86 = upd (qg_wire u) ((x3 + 8) + x5).toNatClampNeg (vp_nar .short ((qg_wire u) (x4 + x5).toNatClampNeg)) → (∀ x5_87 : Int32, x5_87 = x5 + 1 → (ux_multiplySlowly_153 post x3 x4 n x5_87 (qs_wire u a_wire_86)))))))) : ux_multiplySlowly_153 post x3 x4 (n + 1) x5 u := h
def ux_multiplySlowly_63 (post : Int32 → SX → Prop) (J45 : Int32 → Int32 → SX → Prop) (x1 : Int32) (x2 : Int32) (x3 : Int32) (x4 : Int32) (x5 : Int32) (x6 : Int32) (n : Nat) (x7 : Int32) (u : SX) : Prop := wX_multiplySlowly_63 post (fun j0 j1 f_port f_circuit f_tidy f_wires f_fans f_joinedMakes f_joinedLets f_threeSum f_threeCarry f_opLines f_wordD f_wordS f_wordM f_left f_right f_runs f_result f_carryOut f_address a_words a_state a_counts a_kind a_inA a_inB a_inC a_live a_level a_value a_fresh a_hashHead a_hashNext a_wire a_fanHead a_fanNext a_fanGate a_waitHead a_waitNext a_waits => J45 j0 j1 (f_port, f_circuit, f_tidy, f_wires, f_fans, f_joinedMakes, f_joinedLets, f_threeSum, f_threeCarry, f_opLines, f_wordD, f_wordS, f_wordM, f_left, f_right, f_runs, f_result, f_carryOut, f_address, a_words, a_state, a_counts, a_kind, a_inA, a_inB, a_inC, a_live, a_level, a_value, a_fresh, a_hashHead, a_hashNext, a_wire, a_fanHead, a_fanNext, a_fanGate, a_waitHead, a_waitNext, a_waits)) x1 x2 x3 x4 x5 x6 n x7 (qg_port u) (qg_circuit u) (qg_tidy u) (qg_wires u) (qg_fans u) (qg_joinedMakes u) (qg_joinedLets u) (qg_threeSum u) (qg_threeCarry u) (qg_opLines u) (qg_wordD u) (qg_wordS u) (qg_wordM u) (qg_left u) (qg_right u) (qg_runs u) (qg_result u) (qg_carryOut u) (qg_address u) (qg_words u) (qg_state u) (qg_counts u) (qg_kind u) (qg_inA u) (qg_inB u) (qg_inC u) (qg_live u) (qg_level u) (qg_value u) (qg_fresh u) (qg_hashHead u) (qg_hashNext u) (qg_wire u) (qg_fanHead u) (qg_fanNext u) (qg_fanGate u) (qg_waitHead u) (qg_waitNext u) (qg_waits u)
theorem uc_multiplySlowly_63 {post : Int32 → SX → Prop} {J45 : Int32 → Int32 → SX → Prop} {x1 : Int32} {x2 : Int32} {x3 : Int32} {x4 : Int32} {x5 : Int32} {x6 : Int32} {n : Nat} {x7 : Int32} {u : SX} (h : ((8 ≤ x7 → (wpX_addBundles (fun r_129 u130 => (vp_in r_129 8192 ∧ (vp_in (x3 + x5) 8192 ∧ ∀ a_wire_171 : Nat → Int32, a_wire_171 = upd (qg_wire u130) (x3 + x5).toNatClampNeg (vp_nar .short ((qg_wire u130) r_129.toNatClampNeg)) → (∀ x4_172 : Int32, x4_172 = r_129 + 1 → (∀ x5_173 : Int32, x5_173 = x5 + 1 → (J45 x4_172 x5_173 (qs_wire u130 a_wire_171))))))) u x4 x6 0 8)) ∧ (¬ 8 ≤ x7 → (vp_in (x1 + x7) 8192 ∧ (vp_in (x2 + x5) 8192 ∧ (wpX_and (fun r_176 u177 => (vp_in (x6 + x7) 8192 ∧ ∀ a_wire_217 : Nat → Int32, a_wire_217 = upd (qg_wire u177) (x6 + x7).toNatClampNeg (vp_nar .short r_176.toInt16.toInt32) → (∀ x7_218 : Int32, x7_218 = x7 + 1 → (ux_multiplySlowly_63 post J45 x1 x2 x3 x4 x5 x6 n x7_218 (qs_wire u177 a_wire_217))))) u ((qg_wire u) (x1 + x7).toNatClampNeg) ((qg_wire u) (x2 + x5).toNatClampNeg))))))) : ux_multiplySlowly_63 post J45 x1 x2 x3 x4 x5 x6 (n + 1) x7 u := h
def ux_multiplySlowly_45 (post : Int32 → SX → Prop) (x1 : Int32) (x2 : Int32) (x3 : Int32) (n : Nat) (x4 : Int32) (x5 : Int32) (u : SX) : Prop := wX_multiplySlowly_45 post x1 x2 x3 n x4 x5 (qg_port u) (qg_circuit u) (qg_tidy u) (qg_wires u) (qg_fans u) (qg_joinedMakes u) (qg_joinedLets u) (qg_threeSum u) (qg_threeCarry u) (qg_opLines u) (qg_wordD u) (qg_wordS u) (qg_wordM u) (qg_left u) (qg_right u) (qg_runs u) (qg_result u) (qg_carryOut u) (qg_address u) (qg_words u) (qg_state u) (qg_counts u) (qg_kind u) (qg_inA u) (qg_inB u) (qg_inC u) (qg_live u) (qg_level u) (qg_value u) (qg_fresh u) (qg_hashHead u) (qg_hashNext u) (qg_wire u) (qg_fanHead u) (qg_fanNext u) (qg_fanGate u) (qg_waitHead u) (qg_waitNext u) (qg_waits u)
theorem uc_multiplySlowly_45 {post : Int32 → SX → Prop} {x1 : Int32} {x2 : Int32} {x3 : Int32} {n : Nat} {x4 : Int32} {x5 : Int32} {u : SX} (h : ((8 ≤ x5 → (∃ n153 : Nat, ux_multiplySlowly_153 post x3 x4 n153 0 u)) ∧ (¬ 8 ≤ x5 → (wpX_bundle (fun r_88 u89 => (∃ n63 : Nat, ux_multiplySlowly_63 post (ux_multiplySlowly_45 post x1 x2 x3 n) x1 x2 x3 x4 x5 r_88 n63 0 u89)) u 8)))) : ux_multiplySlowly_45 post x1 x2 x3 (n + 1) x4 x5 u := h
def ux_multiplySlowly_18 (post : Int32 → SX → Prop) (x1 : Int32) (x2 : Int32) (x3 : Int32) (x4 : Int32) (n : Nat) (x5 : Int32) (u : SX) : Prop := wX_multiplySlowly_18 post x1 x2 x3 x4 (qg_port u) (qg_circuit u) (qg_tidy u) (qg_wires u) (qg_fans u) (qg_joinedMakes u) (qg_joinedLets u) (qg_threeSum u) (qg_threeCarry u) (qg_opLines u) (qg_wordD u) (qg_wordS u) (qg_wordM u) (qg_left u) (qg_right u) (qg_runs u) (qg_result u) (qg_carryOut u) (qg_address u) n x5 (qg_words u) (qg_state u) (qg_counts u) (qg_kind u) (qg_inA u) (qg_inB u) (qg_inC u) (qg_live u) (qg_level u) (qg_value u) (qg_fresh u) (qg_hashHead u) (qg_hashNext u) (qg_wire u) (qg_fanHead u) (qg_fanNext u) (qg_fanGate u) (qg_waitHead u) (qg_waitNext u) (qg_waits u)
theorem uc_multiplySlowly_18 {post : Int32 → SX → Prop} {x1 : Int32} {x2 : Int32} {x3 : Int32} {x4 : Int32} {n : Nat} {x5 : Int32} {u : SX} (h : ((8 ≤ x5 → (∃ n45 : Nat, ux_multiplySlowly_45 post x1 x2 x3 n45 x4 0 u)) ∧ (¬ 8 ≤ x5 → (vp_in (x4 + x5) 8192 ∧ ∀ a_wire_220 : Nat → Int32, a_wire_220 = upd (qg_wire u) (x4 + x5).toNatClampNeg (vp_nar .short 0) → (∀ x5_221 : Int32, x5_221 = x5 + 1 → (ux_multiplySlowly_18 post x1 x2 x3 x4 n x5_221 (qs_wire u a_wire_220))))))) : ux_multiplySlowly_18 post x1 x2 x3 x4 (n + 1) x5 u := h
theorem uc_multiplySlowly {post : Int32 → SX → Prop} {u : SX} {p0 : Int32} {p1 : Int32} (h : wpX_bundle (fun r_1 u2 => (wpX_bundle (fun r_41 u42 => (∃ n18 : Nat, ux_multiplySlowly_18 post p0 p1 r_1 r_41 n18 0 u42)) u2 8)) u 16) : wpX_multiplySlowly post u p0 p1 := h
theorem uc_multiply {post : Int32 → SX → Prop} {u : SX} {p0 : Int32} {p1 : Int32} (h : (((qg_tidy u) = 0 → (wpX_multiplySlowly (fun r_2 u3 => (post r_2 u3)) u p0 p1)) ∧ (¬ (qg_tidy u) = 0 → (wpX_multiplyQuickly (fun r_42 u43 => (post r_42 u43)) u p0 p1)))) : wpX_multiply post u p0 p1 := h
def ux_layOutMove_22 (post : Int32 → SX → Prop) (x1 : Int32) (x2 : Int32) (n : Nat) (x3 : Int32) (u : SX) : Prop := wX_layOutMove_22 post x1 x2 (qg_port u) (qg_circuit u) (qg_tidy u) (qg_wires u) (qg_fans u) (qg_joinedMakes u) (qg_joinedLets u) (qg_threeSum u) (qg_threeCarry u) (qg_opLines u) (qg_wordD u) (qg_wordS u) (qg_wordM u) (qg_left u) (qg_right u) (qg_runs u) (qg_result u) (qg_carryOut u) (qg_address u) n x3 (qg_words u) (qg_state u) (qg_counts u) (qg_kind u) (qg_inA u) (qg_inB u) (qg_inC u) (qg_live u) (qg_level u) (qg_value u) (qg_fresh u) (qg_hashHead u) (qg_hashNext u) (qg_wire u) (qg_fanHead u) (qg_fanNext u) (qg_fanGate u) (qg_waitHead u) (qg_waitNext u) (qg_waits u)
theorem uc_layOutMove_22 {post : Int32 → SX → Prop} {x1 : Int32} {x2 : Int32} {n : Nat} {x3 : Int32} {u : SX} (h : ((8 ≤ x3 → (vp_in (qg_wordM u) 8192 ∧ (wpX_chooseBundle (fun r_83 u84 => (vp_in (qg_wordM u84) 8192 ∧ (wpX_chooseBundle (fun r_124 u125 => (vp_in ((qg_wordM u125) + 1) 8192 ∧ (wpX_chooseBundle (fun r_165 u166 => (post r_165 u166)) u125 ((qg_wire u125) ((qg_wordM u125) + 1).toNatClampNeg) r_124 r_83 8))) u84 ((qg_wire u84) (qg_wordM u84).toNatClampNeg) x2 (x1 + 8) 8))) u ((qg_wire u) (qg_wordM u).toNatClampNeg) x1 (qg_right u) 8))) ∧ (¬ 8 ≤ x3 → (vp_in ((((qg_right u) + 8) - 1) - x3) 8192 ∧ (vp_in (x2 + x3) 8192 ∧ ∀ a_wire_207 : Nat → Int32, a_wire_207 = upd (qg_wire u) (x2 + x3).toNatClampNeg (vp_nar .short ((qg_wire u) ((((qg_right u) + 8) - 1) - x3).toNatClampNeg)) → (∀ x3_208 : Int32, x3_208 = x3 + 1 → (ux_layOutMove_22 post x1 x2 n x3_208 (qs_wire u a_wire_207)))))))) : ux_layOutMove_22 post x1 x2 (n + 1) x3 u := h
theorem uc_layOutMove {post : Int32 → SX → Prop} {u : SX} (h : wpX_multiply (fun r_1 u2 => (wpX_bundle (fun r_41 u42 => (∃ n22 : Nat, ux_layOutMove_22 post r_1 r_41 n22 0 u42)) u2 8)) u (qg_left u) (qg_right u)) : wpX_layOutMove post u := h
def ux_joinBundles_11 (post : Int32 → SX → Prop) (x1 : Int32) (x2 : Int32) (x3 : Int32) (x4 : Int32) (n : Nat) (x5 : Int32) (u : SX) : Prop := wX_joinBundles_11 post x1 x2 x3 x4 n x5 (qg_port u) (qg_circuit u) (qg_tidy u) (qg_wires u) (qg_fans u) (qg_joinedMakes u) (qg_joinedLets u) (qg_threeSum u) (qg_threeCarry u) (qg_opLines u) (qg_wordD u) (qg_wordS u) (qg_wordM u) (qg_left u) (qg_right u) (qg_runs u) (qg_result u) (qg_carryOut u) (qg_address u) (qg_words u) (qg_state u) (qg_counts u) (qg_kind u) (qg_inA u) (qg_inB u) (qg_inC u) (qg_live u) (qg_level u) (qg_value u) (qg_fresh u) (qg_hashHead u) (qg_hashNext u) (qg_wire u) (qg_fanHead u) (qg_fanNext u) (qg_fanGate u) (qg_waitHead u) (qg_waitNext u) (qg_waits u)
theorem uc_joinBundles_11 {post : Int32 → SX → Prop} {x1 : Int32} {x2 : Int32} {x3 : Int32} {x4 : Int32} {n : Nat} {x5 : Int32} {u : SX} (h : ((8 ≤ x5 → (post x4 u)) ∧ (¬ 8 ≤ x5 → (vp_in (x2 + x5) 8192 ∧ (∀ x6_43 : Int32, x6_43 = (qg_wire u) (x2 + x5).toNatClampNeg → (vp_in (x3 + x5) 8192 ∧ (∀ x7_45 : Int32, x7_45 = (qg_wire u) (x3 + x5).toNatClampNeg → (((x1 = 4 → (wpX_and (fun r_134 u135 => (vp_in (x4 + x5) 8192 ∧ ∀ a_wire_175 : Nat → Int32, a_wire_175 = upd (qg_wire u135) (x4 + x5).toNatClampNeg (vp_nar .short r_134.toInt16.toInt32) → (∀ x5_176 : Int32, x5_176 = x5 + 1 → (ux_joinBundles_11 post x1 x2 x3 x4 n x5_176 (qs_wire u135 a_wire_175))))) u x6_43 x7_45)) ∧ (¬ x1 = 4 → (((x1 = 5 → (wpX_or (fun r_91 u92 => (vp_in (x4 + x5) 8192 ∧ ∀ a_wire_132 : Nat → Int32, a_wire_132 = upd (qg_wire u92) (x4 + x5).toNatClampNeg (vp_nar .short r_91.toInt16.toInt32) → (∀ x5_133 : Int32, x5_133 = x5 + 1 → (ux_joinBundles_11 post x1 x2 x3 x4 n x5_133 (qs_wire u92 a_wire_132))))) u x6_43 x7_45)) ∧ (¬ x1 = 5 → (wpX_xor (fun r_48 u49 => (vp_in (x4 + x5) 8192 ∧ ∀ a_wire_89 : Nat → Int32, a_wire_89 = upd (qg_wire u49) (x4 + x5).toNatClampNeg (vp_nar .short r_48.toInt16.toInt32) → (∀ x5_90 : Int32, x5_90 = x5 + 1 → (ux_joinBundles_11 post x1 x2 x3 x4 n x5_90 (qs_wire u49 a_wire_89))))) u x6_43 x7_45)))))))))))))) : ux_joinBundles_11 post x1 x2 x3 x4 (n + 1) x5 u := h
theorem uc_joinBundles {post : Int32 → SX → Prop} {u : SX} {p0 : Int32} {p1 : Int32} {p2 : Int32} (h : wpX_bundle (fun r_1 u2 => (∃ n11 : Nat, ux_joinBundles_11 post p0 p1 p2 r_1 n11 0 u2)) u 8) : wpX_joinBundles post u p0 p1 p2 := h
theorem uc_layOutResult {post : SX → Prop} {u : SX} (h : wpX_layOutSum (fun r_1 u2 => (wpX_layOutShift (fun r_41 u42 => (wpX_layOutMove (fun r_81 u82 => (wpX_addBundles (fun r_121 u122 => (wpX_lookUp (fun r_161 u162 => (wpX_bundleFrom (fun r_201 u202 => (wpX_joinBundles (fun r_241 u242 => (wpX_joinBundles (fun r_281 u282 => (wpX_joinBundles (fun r_321 u322 => (vp_in ((qg_opLines u322) + 15) 8192 ∧ (wpX_chooseBundle (fun r_362 u363 => (vp_in ((qg_opLines u363) + 10) 8192 ∧ (wpX_chooseBundle (fun r_403 u404 => (vp_in ((qg_opLines u404) + 9) 8192 ∧ (wpX_chooseBundle (fun r_444 u445 => (vp_in ((qg_opLines u445) + 8) 8192 ∧ (wpX_chooseBundle (fun r_485 u486 => (vp_in ((qg_opLines u486) + 7) 8192 ∧ (wpX_chooseBundle (fun r_526 u527 => (vp_in ((qg_opLines u527) + 6) 8192 ∧ (wpX_chooseBundle (fun r_567 u568 => (vp_in ((qg_opLines u568) + 2) 8192 ∧ (wpX_chooseBundle (fun r_608 u609 => (vp_in ((qg_opLines u609) + 1) 8192 ∧ (wpX_chooseBundle (fun r_649 u650 => (post (qs_result u650 r_649))) u609 ((qg_wire u609) ((qg_opLines u609) + 1).toNatClampNeg) (qg_wordM u609) r_608 8))) u568 ((qg_wire u568) ((qg_opLines u568) + 2).toNatClampNeg) r_81 r_567 8))) u527 ((qg_wire u527) ((qg_opLines u527) + 6).toNatClampNeg) r_241 r_526 8))) u486 ((qg_wire u486) ((qg_opLines u486) + 7).toNatClampNeg) r_281 r_485 8))) u445 ((qg_wire u445) ((qg_opLines u445) + 8).toNatClampNeg) r_321 r_444 8))) u404 ((qg_wire u404) ((qg_opLines u404) + 9).toNatClampNeg) r_41 r_403 8))) u363 ((qg_wire u363) ((qg_opLines u363) + 10).toNatClampNeg) r_161 r_362 8))) u322 ((qg_wire u322) ((qg_opLines u322) + 15).toNatClampNeg) r_201 r_1 8))) u282 6 (qg_left u282) (qg_right u282))) u242 5 (qg_left u242) (qg_right u242))) u202 4 (qg_left u202) (qg_right u202))) u162 18 8)) (qs_address u122 r_121) 58 r_121 4)) u82 (qg_right u82) (qg_wordM u82) 0 4)) u42)) u2)) u) : wpX_layOutResult post u := h
theorem uc_keepOr {post : SX → Prop} {u : SX} {p0 : Int32} {p1 : Int32} {p2 : Int32} (h : ∀ x4_1 : Int32, x4_1 = 26 + p0 → (wpX_choice (fun r_2 u3 => (vp_in (((qg_circuit u3) * 2560) + x4_1) 5120 ∧ ∀ a_inA_43 : Nat → Int32, a_inA_43 = upd (qg_inA u3) (((qg_circuit u3) * 2560) + x4_1).toNatClampNeg (vp_nar .short r_2.toInt16.toInt32) → (post (qs_inA u3 a_inA_43)))) u p1 p2 x4_1)) : wpX_keepOr post u p0 p1 p2 := h
def ux_keepOrBundle_3 (post : SX → Prop) (x1 : Int32) (x2 : Int32) (x3 : Int32) (x4 : Int32) (n : Nat) (x5 : Int32) (u : SX) : Prop := wX_keepOrBundle_3 post x1 x2 x3 x4 n x5 (qg_port u) (qg_circuit u) (qg_tidy u) (qg_wires u) (qg_fans u) (qg_joinedMakes u) (qg_joinedLets u) (qg_threeSum u) (qg_threeCarry u) (qg_opLines u) (qg_wordD u) (qg_wordS u) (qg_wordM u) (qg_left u) (qg_right u) (qg_runs u) (qg_result u) (qg_carryOut u) (qg_address u) (qg_words u) (qg_state u) (qg_counts u) (qg_kind u) (qg_inA u) (qg_inB u) (qg_inC u) (qg_live u) (qg_level u) (qg_value u) (qg_fresh u) (qg_hashHead u) (qg_hashNext u) (qg_wire u) (qg_fanHead u) (qg_fanNext u) (qg_fanGate u) (qg_waitHead u) (qg_waitNext u) (qg_waits u)
theorem uc_keepOrBundle_3 {post : SX → Prop} {x1 : Int32} {x2 : Int32} {x3 : Int32} {x4 : Int32} {n : Nat} {x5 : Int32} {u : SX} (h : ((x4 ≤ x5 → (post u)) ∧ (¬ x4 ≤ x5 → (vp_in (x3 + x5) 8192 ∧ (wpX_keepOr (fun u4 => (∀ x5_43 : Int32, x5_43 = x5 + 1 → (ux_keepOrBundle_3 post x1 x2 x3 x4 n x5_43 u4))) u (x1 + x5) x2 ((qg_wire u) (x3 + x5).toNatClampNeg)))))) : ux_keepOrBundle_3 post x1 x2 x3 x4 (n + 1) x5 u := h
theorem uc_keepOrBundle {post : SX → Prop} {u : SX} {p0 : Int32} {p1 : Int32} {p2 : Int32} {p3 : Int32} (h : ∃ n3 : Nat, ux_keepOrBundle_3 post p0 p1 p2 p3 n3 0 u) : wpX_keepOrBundle post u p0 p1 p2 p3 := h
def ux_layOutStores_143 (post : SX → Prop) (n : Nat) (x4 : Int32) (u : SX) : Prop := wX_layOutStores_143 post n x4 (qg_port u) (qg_circuit u) (qg_tidy u) (qg_wires u) (qg_fans u) (qg_joinedMakes u) (qg_joinedLets u) (qg_threeSum u) (qg_threeCarry u) (qg_opLines u) (qg_wordD u) (qg_wordS u) (qg_wordM u) (qg_left u) (qg_right u) (qg_runs u) (qg_result u) (qg_carryOut u) (qg_address u) (qg_words u) (qg_state u) (qg_counts u) (qg_kind u) (qg_inA u) (qg_inB u) (qg_inC u) (qg_live u) (qg_level u) (qg_value u) (qg_fresh u) (qg_hashHead u) (qg_hashNext u) (qg_wire u) (qg_fanHead u) (qg_fanNext u) (qg_fanGate u) (qg_waitHead u) (qg_waitNext u) (qg_waits u)
theorem uc_layOutStores_143 {post : SX → Prop} {n : Nat} {x4 : Int32} {u : SX} (h : ((16 ≤ x4 → (post u)) ∧ (¬ 16 ≤ x4 → (wpX_isNumber (fun r_127 u128 => (vp_in ((qg_opLines u128) + 11) 8192 ∧ (wpX_and (fun r_168 u169 => (wpX_keepOrBundle (fun u209 => (∀ x4_248 : Int32, x4_248 = x4 + 1 → (ux_layOutStores_143 post n x4_248 u209))) u169 (32 + (8 * x4)) r_168 (qg_left u169) 8)) u128 r_127 ((qg_wire u128) ((qg_opLines u128) + 11).toNatClampNeg)))) u (qg_address u) 4 x4)))) : ux_layOutStores_143 post (n + 1) x4 u := h
def ux_layOutStores_87 (post : SX → Prop) (x3 : Int32) (n : Nat) (x4 : Int32) (u : SX) : Prop := wX_layOutStores_87 post x3 n x4 (qg_port u) (qg_circuit u) (qg_tidy u) (qg_wires u) (qg_fans u) (qg_joinedMakes u) (qg_joinedLets u) (qg_threeSum u) (qg_threeCarry u) (qg_opLines u) (qg_wordD u) (qg_wordS u) (qg_wordM u) (qg_left u) (qg_right u) (qg_runs u) (qg_result u) (qg_carryOut u) (qg_address u) (qg_words u) (qg_state u) (qg_counts u) (qg_kind u) (qg_inA u) (qg_inB u) (qg_inC u) (qg_live u) (qg_level u) (qg_value u) (qg_fresh u) (qg_hashHead u) (qg_hashNext u) (qg_wire u) (qg_fanHead u) (qg_fanNext u) (qg_fanGate u) (qg_waitHead u) (qg_waitNext u) (qg_waits u)
theorem uc_layOutStores_87 {post : SX → Prop} {x3 : Int32} {n : Nat} {x4 : Int32} {u : SX} (h : ((4 ≤ x4 → (∃ n143 : Nat, ux_layOutStores_143 post n143 0 u)) ∧ (¬ 4 ≤ x4 → (wpX_isNumber (fun r_249 u250 => (wpX_and (fun r_289 u290 => (wpX_keepOrBundle (fun u330 => (∀ x4_369 : Int32, x4_369 = x4 + 1 → (ux_layOutStores_87 post x3 n x4_369 u330))) u290 (0 + (8 * x4)) r_289 (qg_result u290) 8)) u250 r_249 x3)) u (qg_wordD u) 2 x4)))) : ux_layOutStores_87 post x3 (n + 1) x4 u := h
def ux_layOutStores_53 (post : SX → Prop) (n : Nat) (x3 : Int32) (x4 : Int32) (u : SX) : Prop := wX_layOutStores_53 post n x3 x4 (qg_port u) (qg_circuit u) (qg_tidy u) (qg_wires u) (qg_fans u) (qg_joinedMakes u) (qg_joinedLets u) (qg_threeSum u) (qg_threeCarry u) (qg_opLines u) (qg_wordD u) (qg_wordS u) (qg_wordM u) (qg_left u) (qg_right u) (qg_runs u) (qg_result u) (qg_carryOut u) (qg_address u) (qg_words u) (qg_state u) (qg_counts u) (qg_kind u) (qg_inA u) (qg_inB u) (qg_inC u) (qg_live u) (qg_level u) (qg_value u) (qg_fresh u) (qg_hashHead u) (qg_hashNext u) (qg_wire u) (qg_fanHead u) (qg_fanNext u) (qg_fanGate u) (qg_waitHead u) (qg_waitNext u) (qg_waits u)
theorem uc_layOutStores_53 {post : SX → Prop} {n : Nat} {x3 : Int32} {x4 : Int32} {u : SX} (h : ((10 ≤ x4 → (∃ n87 : Nat, ux_layOutStores_87 post x3 n87 0 u)) ∧ (¬ 10 ≤ x4 → (vp_in ((qg_opLines u) + x4) 8192 ∧ (wpX_or (fun r_371 u372 => (∀ x4_411 : Int32, x4_411 = x4 + 1 → (ux_layOutStores_53 post n r_371 x4_411 u372))) u x3 ((qg_wire u) ((qg_opLines u) + x4).toNatClampNeg)))))) : ux_layOutStores_53 post (n + 1) x3 x4 u := h
theorem uc_layOutStores {post : SX → Prop} {u : SX} (h : vp_in (qg_wordM u) 8192 ∧ (wpX_not (fun r_2 u3 => (vp_in ((qg_opLines u3) + 15) 8192 ∧ (wpX_and (fun r_43 u44 => (vp_in ((qg_opLines u44) + 10) 8192 ∧ (wpX_or (fun r_84 u85 => (∃ n53 : Nat, ux_layOutStores_53 post n53 r_84 1 u85)) u44 ((qg_wire u44) ((qg_opLines u44) + 10).toNatClampNeg) r_43))) u3 ((qg_wire u3) ((qg_opLines u3) + 15).toNatClampNeg) r_2))) u ((qg_wire u) (qg_wordM u).toNatClampNeg))) : wpX_layOutStores post u := h
theorem uc_either {post : Int32 → SX → Prop} {u : SX} {p0 : Int32} {p1 : Int32} (h : vp_in ((qg_opLines u) + p0) 8192 ∧ (vp_in ((qg_opLines u) + p1) 8192 ∧ (wpX_or (fun r_3 u4 => (post r_3 u4)) u ((qg_wire u) ((qg_opLines u) + p0).toNatClampNeg) ((qg_wire u) ((qg_opLines u) + p1).toNatClampNeg)))) : wpX_either post u p0 p1 := h
def ux_isNothing_9 (post : Int32 → SX → Prop) (x1 : Int32) (n : Nat) (x2 : Int32) (x3 : Int32) (u : SX) : Prop := wX_isNothing_9 post x1 n x2 x3 (qg_port u) (qg_circuit u) (qg_tidy u) (qg_wires u) (qg_fans u) (qg_joinedMakes u) (qg_joinedLets u) (qg_threeSum u) (qg_threeCarry u) (qg_opLines u) (qg_wordD u) (qg_wordS u) (qg_wordM u) (qg_left u) (qg_right u) (qg_runs u) (qg_result u) (qg_carryOut u) (qg_address u) (qg_words u) (qg_state u) (qg_counts u) (qg_kind u) (qg_inA u) (qg_inB u) (qg_inC u) (qg_live u) (qg_level u) (qg_value u) (qg_fresh u) (qg_hashHead u) (qg_hashNext u) (qg_wire u) (qg_fanHead u) (qg_fanNext u) (qg_fanGate u) (qg_waitHead u) (qg_waitNext u) (qg_waits u)
theorem uc_isNothing_9 {post : Int32 → SX → Prop} {x1 : Int32} {n : Nat} {x2 : Int32} {x3 : Int32} {u : SX} (h : ((8 ≤ x3 → (wpX_not (fun r_4 u5 => (post r_4 u5)) u x2)) ∧ (¬ 8 ≤ x3 → (vp_in (x1 + x3) 8192 ∧ (wpX_or (fun r_45 u46 => (∀ x3_85 : Int32, x3_85 = x3 + 1 → (ux_isNothing_9 post x1 n r_45 x3_85 u46))) u x2 ((qg_wire u) (x1 + x3).toNatClampNeg)))))) : ux_isNothing_9 post x1 (n + 1) x2 x3 u := h
theorem uc_isNothing {post : Int32 → SX → Prop} {u : SX} {p0 : Int32} (h : vp_in p0 8192 ∧ (∀ x2_2 : Int32, x2_2 = (qg_wire u) p0.toNatClampNeg → (∃ n9 : Nat, ux_isNothing_9 post p0 n9 x2_2 1 u))) : wpX_isNothing post u p0 := h
theorem uc_layOutFlags {post : SX → Prop} {u : SX} (h : wpX_either (fun r_1 u2 => (vp_in ((qg_opLines u2) + 5) 8192 ∧ (wpX_or (fun r_42 u43 => (vp_in ((qg_opLines u43) + 9) 8192 ∧ (wpX_or (fun r_83 u84 => (wpX_either (fun r_123 u124 => (vp_in ((qg_opLines u124) + 8) 8192 ∧ (wpX_or (fun r_164 u165 => (wpX_or (fun r_204 u205 => (wpX_isNothing (fun r_244 u245 => (wpX_keepOr (fun u285 => (wpX_keepOr (fun u325 => (post u325)) u285 161 r_83 (qg_carryOut u285))) u245 160 r_204 r_244)) u205 (qg_result u205))) u165 r_83 r_164)) u124 r_123 ((qg_wire u124) ((qg_opLines u124) + 8).toNatClampNeg)))) u84 6 7)) u43 r_42 ((qg_wire u43) ((qg_opLines u43) + 9).toNatClampNeg)))) u2 r_1 ((qg_wire u2) ((qg_opLines u2) + 5).toNatClampNeg)))) u 3 4) : wpX_layOutFlags post u := h
def ux_countUp_12 (post : Int32 → SX → Prop) (x1 : Int32) (x2 : Int32) (x3 : Int32) (n : Nat) (x4 : Int32) (x5 : Int32) (u : SX) : Prop := wX_countUp_12 post x1 x2 x3 n x4 x5 (qg_port u) (qg_circuit u) (qg_tidy u) (qg_wires u) (qg_fans u) (qg_joinedMakes u) (qg_joinedLets u) (qg_threeSum u) (qg_threeCarry u) (qg_opLines u) (qg_wordD u) (qg_wordS u) (qg_wordM u) (qg_left u) (qg_right u) (qg_runs u) (qg_result u) (qg_carryOut u) (qg_address u) (qg_words u) (qg_state u) (qg_counts u) (qg_kind u) (qg_inA u) (qg_inB u) (qg_inC u) (qg_live u) (qg_level u) (qg_value u) (qg_fresh u) (qg_hashHead u) (qg_hashNext u) (qg_wire u) (qg_fanHead u) (qg_fanNext u) (qg_fanGate u) (qg_waitHead u) (qg_waitNext u) (qg_waits u)
theorem uc_countUp_12 {post : Int32 → SX → Prop} {x1 : Int32} {x2 : Int32} {x3 : Int32} {n : Nat} {x4 : Int32} {x5 : Int32} {u : SX} (h : ((x2 ≤ x5 → (post x3 u)) ∧ (¬ x2 ≤ x5 → (vp_in (x1 + x5) 8192 ∧ (∀ x6_43 : Int32, x6_43 = (qg_wire u) (x1 + x5).toNatClampNeg → (wpX_xor (fun r_44 u45 => (vp_in (x3 + x5) 8192 ∧ ∀ a_wire_85 : Nat → Int32, a_wire_85 = upd (qg_wire u45) (x3 + x5).toNatClampNeg (vp_nar .short r_44.toInt16.toInt32) → (wpX_and (fun r_86 u87 => (∀ x5_126 : Int32, x5_126 = x5 + 1 → (ux_countUp_12 post x1 x2 x3 n r_86 x5_126 u87))) (qs_wire u45 a_wire_85) x6_43 x4))) u x6_43 x4)))))) : ux_countUp_12 post x1 x2 x3 (n + 1) x4 x5 u := h
theorem uc_countUp {post : Int32 → SX → Prop} {u : SX} {p0 : Int32} {p1 : Int32} (h : wpX_bundle (fun r_1 u2 => (∃ n12 : Nat, ux_countUp_12 post p0 p1 r_1 n12 1 0 u2)) u p1) : wpX_countUp post u p0 p1 := h
theorem uc_layOutCounter {post : SX → Prop} {u : SX} (h : wpX_bundleFrom (fun r_1 u2 => (wpX_bundleFrom (fun r_41 u42 => (wpX_countUp (fun r_81 u82 => (vp_in ((qg_wordD u82) + 1) 8192 ∧ (wpX_choice (fun r_122 u123 => (vp_in (qg_wordD u123) 8192 ∧ (wpX_xor (fun r_163 u164 => (vp_in ((qg_opLines u164) + 13) 8192 ∧ (wpX_and (fun r_204 u205 => (vp_in ((qg_opLines u205) + 14) 8192 ∧ (vp_in ((qg_wordM u205) + 7) 8192 ∧ (wpX_and (fun r_246 u247 => (vp_in ((qg_wordM u247) + 7) 8192 ∧ (wpX_not (fun r_287 u288 => (vp_in ((qg_opLines u288) + 14) 8192 ∧ (wpX_and (fun r_328 u329 => (vp_in ((qg_opLines u329) + 12) 8192 ∧ (wpX_or (fun r_369 u370 => (wpX_or (fun r_409 u410 => (wpX_chooseBundle (fun r_449 u450 => (wpX_chooseBundle (fun r_489 u490 => (vp_in (qg_opLines u490) 8192 ∧ (wpX_not (fun r_530 u531 => (wpX_and (fun r_570 u571 => (wpX_keepOrBundle (fun u611 => (wpX_keepOrBundle (fun u651 => (vp_in (qg_opLines u651) 8192 ∧ (wpX_keepOr (fun u692 => (post u692)) u651 188 ((qg_wire u651) (qg_opLines u651).toNatClampNeg) 1))) u611 167 r_328 r_81 5)) u571 162 r_570 r_489 5)) u531 (qg_runs u531) r_530)) u490 ((qg_wire u490) (qg_opLines u490).toNatClampNeg)))) u450 r_246 r_41 r_449 5)) u410 r_409 (qg_wordM u410) r_81 5)) u370 r_369 r_328)) u329 ((qg_wire u329) ((qg_opLines u329) + 12).toNatClampNeg) r_204))) u288 ((qg_wire u288) ((qg_opLines u288) + 14).toNatClampNeg) r_287))) u247 ((qg_wire u247) ((qg_wordM u247) + 7).toNatClampNeg)))) u205 ((qg_wire u205) ((qg_opLines u205) + 14).toNatClampNeg) ((qg_wire u205) ((qg_wordM u205) + 7).toNatClampNeg))))) u164 ((qg_wire u164) ((qg_opLines u164) + 13).toNatClampNeg) r_163))) u123 r_122 ((qg_wire u123) (qg_wordD u123).toNatClampNeg)))) u82 ((qg_wire u82) ((qg_wordD u82) + 1).toNatClampNeg) 187 186))) u42 r_1 5)) u2 193 5)) u 188 5) : wpX_layOutCounter post u := h
theorem uc_layOutPorts {post : SX → Prop} {u : SX} (h : vp_in ((qg_opLines u) + 15) 8192 ∧ (vp_in (qg_wordM u) 8192 ∧ (wpX_and (fun r_3 u4 => (wpX_keepOrBundle (fun u44 => (wpX_bundleFrom (fun r_83 u84 => (wpX_countUp (fun r_123 u124 => (wpX_keepOrBundle (fun u164 => (post u164)) u124 180 r_3 r_123 8)) u84 r_83 8)) u44 206 8)) u4 172 r_3 (qg_left u4) 8)) u ((qg_wire u) ((qg_opLines u) + 15).toNatClampNeg) ((qg_wire u) (qg_wordM u).toNatClampNeg)))) : wpX_layOutPorts post u := h
def ux_layOut_56 (post : SX → Prop) (x1 : Int32) (n : Nat) (x3 : Int32) (u : SX) : Prop := wX_layOut_56 post x1 n x3 (qg_port u) (qg_circuit u) (qg_tidy u) (qg_wires u) (qg_fans u) (qg_joinedMakes u) (qg_joinedLets u) (qg_threeSum u) (qg_threeCarry u) (qg_opLines u) (qg_wordD u) (qg_wordS u) (qg_wordM u) (qg_left u) (qg_right u) (qg_runs u) (qg_result u) (qg_carryOut u) (qg_address u) (qg_words u) (qg_state u) (qg_counts u) (qg_kind u) (qg_inA u) (qg_inB u) (qg_inC u) (qg_live u) (qg_level u) (qg_value u) (qg_fresh u) (qg_hashHead u) (qg_hashNext u) (qg_wire u) (qg_fanHead u) (qg_fanNext u) (qg_fanGate u) (qg_waitHead u) (qg_waitNext u) (qg_waits u)
theorem uc_layOut_56 {post : SX → Prop} {x1 : Int32} {n : Nat} {x3 : Int32} {u : SX} (h : ((16 ≤ x3 → (wpX_lookUp (fun r_125 u126 => (wpX_lookUp (fun r_165 u166 => (wpX_layOutResult (fun u206 => (wpX_layOutStores (fun u246 => (wpX_layOutFlags (fun u286 => (wpX_layOutCounter (fun u326 => (wpX_layOutPorts (fun u366 => (post u366)) u326)) u286)) u246)) u206)) (qs_right u166 r_165))) (qs_left u126 r_125) 26 (qg_wordS u126) 2)) u 26 (qg_wordD u) 2)) ∧ (¬ 16 ≤ x3 → (wpX_isNumber (fun r_405 u406 => (wpX_and (fun r_445 u446 => (vp_in ((qg_opLines u406) + x3) 8192 ∧ ∀ a_wire_486 : Nat → Int32, a_wire_486 = upd (qg_wire u446) ((qg_opLines u406) + x3).toNatClampNeg (vp_nar .short r_445.toInt16.toInt32) → (∀ x3_487 : Int32, x3_487 = x3 + 1 → (ux_layOut_56 post x1 n x3_487 (qs_wire u446 a_wire_486))))) u406 r_405 (qg_runs u406))) u x1 4 x3)))) : ux_layOut_56 post x1 (n + 1) x3 u := h
theorem uc_layOut {post : SX → Prop} {u : SX} (h : wpX_bundleFrom (fun r_1 u2 => (∀ f_wordD_41 : Int32, f_wordD_41 = r_1 + 4 → (∀ f_wordS_42 : Int32, f_wordS_42 = r_1 + 6 → (∀ f_wordM_43 : Int32, f_wordM_43 = r_1 + 8 → (wpX_not (fun r_44 u45 => (wpX_bundle (fun r_84 u85 => (∃ n56 : Nat, ux_layOut_56 post r_1 n56 0 (qs_opLines u85 r_84))) (qs_runs u45 r_44) 16)) (qs_wordD_wordS_wordM u2 f_wordD_41 f_wordS_42 f_wordM_43) 214))))) u 2 16) : wpX_layOut post u := h
theorem uc_isWorked {post : Int32 → Prop} {p0 : Int32} (h : ((p0 < 3 → (post 0)) ∧ (¬ p0 < 3 → (post 1)))) : wpX_isWorked post p0 := h
theorem uc_inputsOf {post : Int32 → Prop} {p0 : Int32} (h : ((p0 = 7 → (post 3)) ∧ (¬ p0 = 7 → (((p0 = 3 → (post 1)) ∧ (¬ p0 = 3 → (post 2))))))) : wpX_inputsOf post p0 := h
theorem uc_input {post : Int32 → Prop} {u : SX} {p0 : Int32} {p1 : Int32} (h : ((p1 = 0 → (vp_in p0 5120 ∧ (post ((qg_inA u) p0.toNatClampNeg)))) ∧ (¬ p1 = 0 → (((p1 = 1 → (vp_in p0 5120 ∧ (post ((qg_inB u) p0.toNatClampNeg)))) ∧ (¬ p1 = 1 → (vp_in p0 5120 ∧ (post ((qg_inC u) p0.toNatClampNeg))))))))) : wpX_input post u p0 p1 := h
def ux_markLive_126 (post : SX → Prop) (J110 : Int32 → SX → Prop) (x1 : Int32) (x2 : Int32) (x3 : Int32) (n : Nat) (x4 : Int32) (u : SX) : Prop := wX_markLive_126 post (fun j0 a_words a_state a_counts a_kind a_inA a_inB a_inC a_live a_level a_value a_fresh a_hashHead a_hashNext a_wire a_fanHead a_fanNext a_fanGate a_waitHead a_waitNext a_waits => J110 j0 (qg_port u, qg_circuit u, qg_tidy u, qg_wires u, qg_fans u, qg_joinedMakes u, qg_joinedLets u, qg_threeSum u, qg_threeCarry u, qg_opLines u, qg_wordD u, qg_wordS u, qg_wordM u, qg_left u, qg_right u, qg_runs u, qg_result u, qg_carryOut u, qg_address u, a_words, a_state, a_counts, a_kind, a_inA, a_inB, a_inC, a_live, a_level, a_value, a_fresh, a_hashHead, a_hashNext, a_wire, a_fanHead, a_fanNext, a_fanGate, a_waitHead, a_waitNext, a_waits)) x1 x2 x3 (qg_port u) (qg_circuit u) (qg_tidy u) (qg_wires u) (qg_fans u) (qg_joinedMakes u) (qg_joinedLets u) (qg_threeSum u) (qg_threeCarry u) (qg_opLines u) (qg_wordD u) (qg_wordS u) (qg_wordM u) (qg_left u) (qg_right u) (qg_runs u) (qg_result u) (qg_carryOut u) (qg_address u) n x4 (qg_words u) (qg_state u) (qg_counts u) (qg_kind u) (qg_inA u) (qg_inB u) (qg_inC u) (qg_live u) (qg_level u) (qg_value u) (qg_fresh u) (qg_hashHead u) (qg_hashNext u) (qg_wire u) (qg_fanHead u) (qg_fanNext u) (qg_fanGate u) (qg_waitHead u) (qg_waitNext u) (qg_waits u)
theorem uc_markLive_126 {post : SX → Prop} {J110 : Int32 → SX → Prop} {x1 : Int32} {x2 : Int32} {x3 : Int32} {n : Nat} {x4 : Int32} {u : SX} (h : vp_in (x1 + x2) 5120 ∧ (((((qg_live u) (x1 + x2).toNatClampNeg) = 0 → (∀ x2_12 : Int32, x2_12 = x2 + (-1) → (J110 x2_12 u))) ∧ (¬ ((qg_live u) (x1 + x2).toNatClampNeg) = 0 → (wpX_isWorked (fun r_13 => (((r_13 = 0 → (∀ x2_15 : Int32, x2_15 = x2 + (-1) → (J110 x2_15 u))) ∧ (¬ r_13 = 0 → (wpX_inputsOf (fun r_16 => (((r_16 ≤ x4 → (∀ x2_18 : Int32, x2_18 = x2 + (-1) → (J110 x2_18 u))) ∧ (¬ r_16 ≤ x4 → (wpX_input (fun r_19 => (vp_in (x1 + r_19) 5120 ∧ ∀ a_live_60 : Nat → Int32, a_live_60 = upd (qg_live u) (x1 + r_19).toNatClampNeg (vp_nar .boolean 1) → (∀ x4_61 : Int32, x4_61 = x4 + 1 → (ux_markLive_126 post J110 x1 x2 x3 n x4_61 (qs_live u a_live_60))))) u (x1 + x2) x4))))) x3))))) x3))))) : ux_markLive_126 post J110 x1 x2 x3 (n + 1) x4 u := h
def ux_markLive_110 (post : SX → Prop) (x1 : Int32) (n : Nat) (x2 : Int32) (u : SX) : Prop := wX_markLive_110 post x1 (qg_port u) (qg_circuit u) (qg_tidy u) (qg_wires u) (qg_fans u) (qg_joinedMakes u) (qg_joinedLets u) (qg_threeSum u) (qg_threeCarry u) (qg_opLines u) (qg_wordD u) (qg_wordS u) (qg_wordM u) (qg_left u) (qg_right u) (qg_runs u) (qg_result u) (qg_carryOut u) (qg_address u) n x2 (qg_words u) (qg_state u) (qg_counts u) (qg_kind u) (qg_inA u) (qg_inB u) (qg_inC u) (qg_live u) (qg_level u) (qg_value u) (qg_fresh u) (qg_hashHead u) (qg_hashNext u) (qg_wire u) (qg_fanHead u) (qg_fanNext u) (qg_fanGate u) (qg_waitHead u) (qg_waitNext u) (qg_waits u)
theorem uc_markLive_110 {post : SX → Prop} {x1 : Int32} {n : Nat} {x2 : Int32} {u : SX} (h : ((x2 < 0 → (post u)) ∧ (¬ x2 < 0 → (vp_in (x1 + x2) 5120 ∧ (∀ x3_9 : Int32, x3_9 = (qg_kind u) (x1 + x2).toNatClampNeg → (∃ n126 : Nat, ux_markLive_126 post (ux_markLive_110 post x1 n) x1 x2 x3_9 n126 0 u)))))) : ux_markLive_110 post x1 (n + 1) x2 u := h
def ux_markLive_64 (post : SX → Prop) (x1 : Int32) (n : Nat) (x2 : Int32) (u : SX) : Prop := wX_markLive_64 post x1 (qg_port u) (qg_circuit u) (qg_tidy u) (qg_wires u) (qg_fans u) (qg_joinedMakes u) (qg_joinedLets u) (qg_threeSum u) (qg_threeCarry u) (qg_opLines u) (qg_wordD u) (qg_wordS u) (qg_wordM u) (qg_left u) (qg_right u) (qg_runs u) (qg_result u) (qg_carryOut u) (qg_address u) n x2 (qg_words u) (qg_state u) (qg_counts u) (qg_kind u) (qg_inA u) (qg_inB u) (qg_inC u) (qg_live u) (qg_level u) (qg_value u) (qg_fresh u) (qg_hashHead u) (qg_hashNext u) (qg_wire u) (qg_fanHead u) (qg_fanNext u) (qg_fanGate u) (qg_waitHead u) (qg_waitNext u) (qg_waits u)
theorem uc_markLive_64 {post : SX → Prop} {x1 : Int32} {n : Nat} {x2 : Int32} {u : SX} (h : ((189 ≤ x2 → (vp_in (qg_circuit u) 2 ∧ (∀ x2_6 : Int32, x2_6 = ((qg_counts u) (qg_circuit u).toNatClampNeg) - 1 → (∃ n110 : Nat, ux_markLive_110 post x1 n110 x2_6 u)))) ∧ (¬ 189 ≤ x2 → (vp_in ((x1 + 26) + x2) 5120 ∧ (∀ x3_63 : Int32, x3_63 = (qg_inA u) ((x1 + 26) + x2).toNatClampNeg → (vp_in (x1 + x3_63) 5120 ∧ ∀ a_live_65 : Nat → Int32, a_live_65 = upd (qg_live u) (x1 + x3_63).toNatClampNeg (vp_nar .boolean 1) → (∀ x2_66 : Int32, x2_66 = x2 + 1 → (ux_markLive_64 post x1 n x2_66 (qs_live u a_live_65))))))))) : ux_markLive_64 post x1 (n + 1) x2 u := h
def ux_markLive_11 (post : SX → Prop) (x1 : Int32) (n : Nat) (x2 : Int32) (u : SX) : Prop := wX_markLive_11 post x1 (qg_port u) (qg_circuit u) (qg_tidy u) (qg_wires u) (qg_fans u) (qg_joinedMakes u) (qg_joinedLets u) (qg_threeSum u) (qg_threeCarry u) (qg_opLines u) (qg_wordD u) (qg_wordS u) (qg_wordM u) (qg_left u) (qg_right u) (qg_runs u) (qg_result u) (qg_carryOut u) (qg_address u) n x2 (qg_words u) (qg_state u) (qg_counts u) (qg_kind u) (qg_inA u) (qg_inB u) (qg_inC u) (qg_live u) (qg_level u) (qg_value u) (qg_fresh u) (qg_hashHead u) (qg_hashNext u) (qg_wire u) (qg_fanHead u) (qg_fanNext u) (qg_fanGate u) (qg_waitHead u) (qg_waitNext u) (qg_waits u)
theorem uc_markLive_11 {post : SX → Prop} {x1 : Int32} {n : Nat} {x2 : Int32} {u : SX} (h : vp_in (qg_circuit u) 2 ∧ (((((qg_counts u) (qg_circuit u).toNatClampNeg) ≤ x2 → (∃ n64 : Nat, ux_markLive_64 post x1 n64 0 u)) ∧ (¬ ((qg_counts u) (qg_circuit u).toNatClampNeg) ≤ x2 → ((((qg_tidy u) = 0 → (vp_in (x1 + x2) 5120 ∧ ∀ a_live_69 : Nat → Int32, a_live_69 = upd (qg_live u) (x1 + x2).toNatClampNeg (vp_nar .boolean 1) → (∀ x2_70 : Int32, x2_70 = x2 + 1 → (ux_markLive_11 post x1 n x2_70 (qs_live u a_live_69))))) ∧ (¬ (qg_tidy u) = 0 → (vp_in (x1 + x2) 5120 ∧ (((((qg_kind u) (x1 + x2).toNatClampNeg) = 2 → (vp_in (x1 + x2) 5120 ∧ ∀ a_live_77 : Nat → Int32, a_live_77 = upd (qg_live u) (x1 + x2).toNatClampNeg (vp_nar .boolean 1) → (∀ x2_78 : Int32, x2_78 = x2 + 1 → (ux_markLive_11 post x1 n x2_78 (qs_live u a_live_77))))) ∧ (¬ ((qg_kind u) (x1 + x2).toNatClampNeg) = 2 → (vp_in (x1 + x2) 5120 ∧ ∀ a_live_74 : Nat → Int32, a_live_74 = upd (qg_live u) (x1 + x2).toNatClampNeg (vp_nar .boolean 0) → (∀ x2_75 : Int32, x2_75 = x2 + 1 → (ux_markLive_11 post x1 n x2_75 (qs_live u a_live_74))))))))))))))) : ux_markLive_11 post x1 (n + 1) x2 u := h
theorem uc_markLive {post : SX → Prop} {u : SX} (h : ∀ x1_1 : Int32, x1_1 = (qg_circuit u) * 2560 → (∃ n11 : Nat, ux_markLive_11 post x1_1 n11 0 u)) : wpX_markLive post u := h
def ux_findLevels_104 (post : SX → Prop) (J11 : Int32 → SX → Prop) (x1 : Int32) (x2 : Int32) (x4 : Int32) (u : SX) : Prop := wX_findLevels_104 post (fun j0 a_words a_state a_counts a_kind a_inA a_inB a_inC a_live a_level a_value a_fresh a_hashHead a_hashNext a_wire a_fanHead a_fanNext a_fanGate a_waitHead a_waitNext a_waits => J11 j0 (qg_port u, qg_circuit u, qg_tidy u, qg_wires u, qg_fans u, qg_joinedMakes u, qg_joinedLets u, qg_threeSum u, qg_threeCarry u, qg_opLines u, qg_wordD u, qg_wordS u, qg_wordM u, qg_left u, qg_right u, qg_runs u, qg_result u, qg_carryOut u, qg_address u, a_words, a_state, a_counts, a_kind, a_inA, a_inB, a_inC, a_live, a_level, a_value, a_fresh, a_hashHead, a_hashNext, a_wire, a_fanHead, a_fanNext, a_fanGate, a_waitHead, a_waitNext, a_waits)) x1 x2 x4 (qg_port u) (qg_circuit u) (qg_tidy u) (qg_wires u) (qg_fans u) (qg_joinedMakes u) (qg_joinedLets u) (qg_threeSum u) (qg_threeCarry u) (qg_opLines u) (qg_wordD u) (qg_wordS u) (qg_wordM u) (qg_left u) (qg_right u) (qg_runs u) (qg_result u) (qg_carryOut u) (qg_address u) (qg_words u) (qg_state u) (qg_counts u) (qg_kind u) (qg_inA u) (qg_inB u) (qg_inC u) (qg_live u) (qg_level u) (qg_value u) (qg_fresh u) (qg_hashHead u) (qg_hashNext u) (qg_wire u) (qg_fanHead u) (qg_fanNext u) (qg_fanGate u) (qg_waitHead u) (qg_waitNext u) (qg_waits u)
theorem uc_findLevels_104 {post : SX → Prop} {J11 : Int32 → SX → Prop} {x1 : Int32} {x2 : Int32} {x4 : Int32} {u : SX} (h : vp_in (x1 + x2) 5120 ∧ ∀ a_level_9 : Nat → Int32, a_level_9 = upd (qg_level u) (x1 + x2).toNatClampNeg (vp_nar .short x4.toInt16.toInt32) → (∀ x2_10 : Int32, x2_10 = x2 + 1 → (J11 x2_10 (qs_level u a_level_9)))) : ux_findLevels_104 post J11 x1 x2 x4 u := h
def ux_findLevels_39 (post : SX → Prop) (J11 : Int32 → SX → Prop) (x1 : Int32) (x2 : Int32) (x3 : Int32) (n : Nat) (x4 : Int32) (x5 : Int32) (u : SX) : Prop := wX_findLevels_39 post (fun j0 a_words a_state a_counts a_kind a_inA a_inB a_inC a_live a_level a_value a_fresh a_hashHead a_hashNext a_wire a_fanHead a_fanNext a_fanGate a_waitHead a_waitNext a_waits => J11 j0 (qg_port u, qg_circuit u, qg_tidy u, qg_wires u, qg_fans u, qg_joinedMakes u, qg_joinedLets u, qg_threeSum u, qg_threeCarry u, qg_opLines u, qg_wordD u, qg_wordS u, qg_wordM u, qg_left u, qg_right u, qg_runs u, qg_result u, qg_carryOut u, qg_address u, a_words, a_state, a_counts, a_kind, a_inA, a_inB, a_inC, a_live, a_level, a_value, a_fresh, a_hashHead, a_hashNext, a_wire, a_fanHead, a_fanNext, a_fanGate, a_waitHead, a_waitNext, a_waits)) x1 x2 x3 (qg_port u) (qg_circuit u) (qg_tidy u) (qg_wires u) (qg_fans u) (qg_joinedMakes u) (qg_joinedLets u) (qg_threeSum u) (qg_threeCarry u) (qg_opLines u) (qg_wordD u) (qg_wordS u) (qg_wordM u) (qg_left u) (qg_right u) (qg_runs u) (qg_result u) (qg_carryOut u) (qg_address u) (qg_words u) (qg_state u) (qg_counts u) (qg_kind u) (qg_inA u) (qg_inB u) (qg_inC u) (qg_live u) (qg_level u) (qg_value u) (qg_fresh u) (qg_hashHead u) (qg_hashNext u) (qg_wire u) (qg_fanHead u) (qg_fanNext u) (qg_fanGate u) (qg_waitHead u) (qg_waitNext u) (qg_waits u) n x4 x5
theorem uc_findLevels_39 {post : SX → Prop} {J11 : Int32 → SX → Prop} {x1 : Int32} {x2 : Int32} {x3 : Int32} {n : Nat} {x4 : Int32} {x5 : Int32} {u : SX} (h : wpX_isWorked (fun r_6 => (((r_6 = 0 → (ux_findLevels_104 post J11 x1 x2 x4 u)) ∧ (¬ r_6 = 0 → (wpX_inputsOf (fun r_11 => (((r_11 ≤ x5 → (ux_findLevels_104 post J11 x1 x2 x4 u)) ∧ (¬ r_11 ≤ x5 → (wpX_input (fun r_13 => (vp_in (x1 + r_13) 5120 ∧ (((((qg_level u) (x1 + r_13).toNatClampNeg) < x4 → (∀ x5_55 : Int32, x5_55 = x5 + 1 → (ux_findLevels_39 post J11 x1 x2 x3 n x4 x5_55 u))) ∧ (¬ ((qg_level u) (x1 + r_13).toNatClampNeg) < x4 → (vp_in (x1 + r_13) 5120 ∧ (∀ x4_57 : Int32, x4_57 = ((qg_level u) (x1 + r_13).toNatClampNeg) + 1 → (∀ x5_58 : Int32, x5_58 = x5 + 1 → (ux_findLevels_39 post J11 x1 x2 x3 n x4_57 x5_58 u))))))))) u (x1 + x2) x5))))) x3))))) x3) : ux_findLevels_39 post J11 x1 x2 x3 (n + 1) x4 x5 u := h
def ux_findLevels_11 (post : SX → Prop) (x1 : Int32) (n : Nat) (x2 : Int32) (u : SX) : Prop := wX_findLevels_11 post x1 (qg_port u) (qg_circuit u) (qg_tidy u) (qg_wires u) (qg_fans u) (qg_joinedMakes u) (qg_joinedLets u) (qg_threeSum u) (qg_threeCarry u) (qg_opLines u) (qg_wordD u) (qg_wordS u) (qg_wordM u) (qg_left u) (qg_right u) (qg_runs u) (qg_result u) (qg_carryOut u) (qg_address u) n x2 (qg_words u) (qg_state u) (qg_counts u) (qg_kind u) (qg_inA u) (qg_inB u) (qg_inC u) (qg_live u) (qg_level u) (qg_value u) (qg_fresh u) (qg_hashHead u) (qg_hashNext u) (qg_wire u) (qg_fanHead u) (qg_fanNext u) (qg_fanGate u) (qg_waitHead u) (qg_waitNext u) (qg_waits u)
theorem uc_findLevels_11 {post : SX → Prop} {x1 : Int32} {n : Nat} {x2 : Int32} {u : SX} (h : vp_in (qg_circuit u) 2 ∧ (((((qg_counts u) (qg_circuit u).toNatClampNeg) ≤ x2 → (post u)) ∧ (¬ ((qg_counts u) (qg_circuit u).toNatClampNeg) ≤ x2 → (vp_in (x1 + x2) 5120 ∧ (∀ x3_5 : Int32, x3_5 = (qg_kind u) (x1 + x2).toNatClampNeg → (∃ n39 : Nat, ux_findLevels_39 post (ux_findLevels_11 post x1 n) x1 x2 x3_5 n39 0 0 u))))))) : ux_findLevels_11 post x1 (n + 1) x2 u := h
theorem uc_findLevels {post : SX → Prop} {u : SX} (h : ∀ x1_1 : Int32, x1_1 = (qg_circuit u) * 2560 → (∃ n11 : Nat, ux_findLevels_11 post x1_1 n11 0 u)) : wpX_findLevels post u := h
def ux_findFans_60 (post : SX → Prop) (J35 : Int32 → SX → Prop) (x1 : Int32) (x2 : Int32) (x3 : Int32) (n : Nat) (x4 : Int32) (u : SX) : Prop := wX_findFans_60 post (fun j0 f_fans a_words a_state a_counts a_kind a_inA a_inB a_inC a_live a_level a_value a_fresh a_hashHead a_hashNext a_wire a_fanHead a_fanNext a_fanGate a_waitHead a_waitNext a_waits => J35 j0 (qg_port u, qg_circuit u, qg_tidy u, qg_wires u, f_fans, qg_joinedMakes u, qg_joinedLets u, qg_threeSum u, qg_threeCarry u, qg_opLines u, qg_wordD u, qg_wordS u, qg_wordM u, qg_left u, qg_right u, qg_runs u, qg_result u, qg_carryOut u, qg_address u, a_words, a_state, a_counts, a_kind, a_inA, a_inB, a_inC, a_live, a_level, a_value, a_fresh, a_hashHead, a_hashNext, a_wire, a_fanHead, a_fanNext, a_fanGate, a_waitHead, a_waitNext, a_waits)) x1 x2 x3 (qg_port u) (qg_circuit u) (qg_tidy u) (qg_wires u) (qg_joinedMakes u) (qg_joinedLets u) (qg_threeSum u) (qg_threeCarry u) (qg_opLines u) (qg_wordD u) (qg_wordS u) (qg_wordM u) (qg_left u) (qg_right u) (qg_runs u) (qg_result u) (qg_carryOut u) (qg_address u) n x4 (qg_fans u) (qg_words u) (qg_state u) (qg_counts u) (qg_kind u) (qg_inA u) (qg_inB u) (qg_inC u) (qg_live u) (qg_level u) (qg_value u) (qg_fresh u) (qg_hashHead u) (qg_hashNext u) (qg_wire u) (qg_fanHead u) (qg_fanNext u) (qg_fanGate u) (qg_waitHead u) (qg_waitNext u) (qg_waits u)
theorem uc_findFans_60 {post : SX → Prop} {J35 : Int32 → SX → Prop} {x1 : Int32} {x2 : Int32} {x3 : Int32} {n : Nat} {x4 : Int32} {u : SX} (h : vp_in (x1 + x2) 5120 ∧ (((((qg_live u) (x1 + x2).toNatClampNeg) = 0 → (∀ x2_9 : Int32, x2_9 = x2 + 1 → (J35 x2_9 u))) ∧ (¬ ((qg_live u) (x1 + x2).toNatClampNeg) = 0 → (wpX_isWorked (fun r_10 => (((r_10 = 0 → (∀ x2_12 : Int32, x2_12 = x2 + 1 → (J35 x2_12 u))) ∧ (¬ r_10 = 0 → (wpX_inputsOf (fun r_13 => (((r_13 ≤ x4 → (∀ x2_15 : Int32, x2_15 = x2 + 1 → (J35 x2_15 u))) ∧ (¬ r_13 ≤ x4 → (wpX_input (fun r_16 => (vp_in (qg_fans u) 16384 ∧ ∀ a_fanGate_57 : Nat → Int32, a_fanGate_57 = upd (qg_fanGate u) (qg_fans u).toNatClampNeg (vp_nar .short x2.toInt16.toInt32) → (vp_in (x1 + r_16) 5120 ∧ (vp_in (qg_fans u) 16384 ∧ ∀ a_fanNext_60 : Nat → Int32, a_fanNext_60 = upd (qg_fanNext u) (qg_fans u).toNatClampNeg (vp_nar .short ((qg_fanHead u) (x1 + r_16).toNatClampNeg)) → (vp_in (x1 + r_16) 5120 ∧ ∀ a_fanHead_62 : Nat → Int32, a_fanHead_62 = upd (qg_fanHead u) (x1 + r_16).toNatClampNeg (vp_nar .short (qg_fans u).toInt16.toInt32) → (∀ f_fans_63 : Int32, f_fans_63 = (qg_fans u) + 1 → (∀ x4_64 : Int32, x4_64 = x4 + 1 → (ux_findFans_60 post J35 x1 x2 x3 n x4_64 (qs_fans_fanHead_fanNext_fanGate u f_fans_63 a_fanHead_62 a_fanNext_60 a_fanGate_57))))))))) u (x1 + x2) x4))))) x3))))) x3))))) : ux_findFans_60 post J35 x1 x2 x3 (n + 1) x4 u := h
def ux_findFans_35 (post : SX → Prop) (x1 : Int32) (n : Nat) (x2 : Int32) (u : SX) : Prop := wX_findFans_35 post x1 (qg_port u) (qg_circuit u) (qg_tidy u) (qg_wires u) (qg_joinedMakes u) (qg_joinedLets u) (qg_threeSum u) (qg_threeCarry u) (qg_opLines u) (qg_wordD u) (qg_wordS u) (qg_wordM u) (qg_left u) (qg_right u) (qg_runs u) (qg_result u) (qg_carryOut u) (qg_address u) n x2 (qg_fans u) (qg_words u) (qg_state u) (qg_counts u) (qg_kind u) (qg_inA u) (qg_inB u) (qg_inC u) (qg_live u) (qg_level u) (qg_value u) (qg_fresh u) (qg_hashHead u) (qg_hashNext u) (qg_wire u) (qg_fanHead u) (qg_fanNext u) (qg_fanGate u) (qg_waitHead u) (qg_waitNext u) (qg_waits u)
theorem uc_findFans_35 {post : SX → Prop} {x1 : Int32} {n : Nat} {x2 : Int32} {u : SX} (h : vp_in (qg_circuit u) 2 ∧ (((((qg_counts u) (qg_circuit u).toNatClampNeg) ≤ x2 → (post u)) ∧ (¬ ((qg_counts u) (qg_circuit u).toNatClampNeg) ≤ x2 → (vp_in (x1 + x2) 5120 ∧ (∀ x3_6 : Int32, x3_6 = (qg_kind u) (x1 + x2).toNatClampNeg → (∃ n60 : Nat, ux_findFans_60 post (ux_findFans_35 post x1 n) x1 x2 x3_6 n60 0 u))))))) : ux_findFans_35 post x1 (n + 1) x2 u := h
def ux_findFans_11 (post : SX → Prop) (x1 : Int32) (n : Nat) (x2 : Int32) (u : SX) : Prop := wX_findFans_11 post x1 (qg_port u) (qg_circuit u) (qg_tidy u) (qg_wires u) (qg_fans u) (qg_joinedMakes u) (qg_joinedLets u) (qg_threeSum u) (qg_threeCarry u) (qg_opLines u) (qg_wordD u) (qg_wordS u) (qg_wordM u) (qg_left u) (qg_right u) (qg_runs u) (qg_result u) (qg_carryOut u) (qg_address u) n x2 (qg_words u) (qg_state u) (qg_counts u) (qg_kind u) (qg_inA u) (qg_inB u) (qg_inC u) (qg_live u) (qg_level u) (qg_value u) (qg_fresh u) (qg_hashHead u) (qg_hashNext u) (qg_wire u) (qg_fanHead u) (qg_fanNext u) (qg_fanGate u) (qg_waitHead u) (qg_waitNext u) (qg_waits u)
theorem uc_findFans_11 {post : SX → Prop} {x1 : Int32} {n : Nat} {x2 : Int32} {u : SX} (h : ((2560 ≤ x2 → (∃ n35 : Nat, ux_findFans_35 post x1 n35 0 u)) ∧ (¬ 2560 ≤ x2 → (vp_in (x1 + x2) 5120 ∧ ∀ a_fanHead_66 : Nat → Int32, a_fanHead_66 = upd (qg_fanHead u) (x1 + x2).toNatClampNeg (vp_nar .short (-1)) → (∀ x2_67 : Int32, x2_67 = x2 + 1 → (ux_findFans_11 post x1 n x2_67 (qs_fanHead u a_fanHead_66))))))) : ux_findFans_11 post x1 (n + 1) x2 u := h
theorem uc_findFans {post : SX → Prop} {u : SX} (h : ∀ x1_1 : Int32, x1_1 = (qg_circuit u) * 2560 → (∃ n11 : Nat, ux_findFans_11 post x1_1 n11 0 u)) : wpX_findFans post u := h
def ux_init_202 (post : SX → Prop) (J181 : Int32 → SX → Prop) (x1 : Int32) (z0 : Int32) (u : SX) : Prop := wX_init_202 post (fun j0 f_port f_circuit f_tidy f_wires f_fans f_joinedMakes f_joinedLets f_threeSum f_threeCarry f_opLines f_wordD f_wordS f_wordM f_left f_right f_runs f_result f_carryOut f_address a_words a_state a_counts a_kind a_inA a_inB a_inC a_live a_level a_value a_fresh a_hashHead a_hashNext a_wire a_fanHead a_fanNext a_fanGate a_waitHead a_waitNext a_waits => J181 j0 (f_port, f_circuit, f_tidy, f_wires, f_fans, f_joinedMakes, f_joinedLets, f_threeSum, f_threeCarry, f_opLines, f_wordD, f_wordS, f_wordM, f_left, f_right, f_runs, f_result, f_carryOut, f_address, a_words, a_state, a_counts, a_kind, a_inA, a_inB, a_inC, a_live, a_level, a_value, a_fresh, a_hashHead, a_hashNext, a_wire, a_fanHead, a_fanNext, a_fanGate, a_waitHead, a_waitNext, a_waits)) x1 z0 (qg_port u) (qg_circuit u) (qg_tidy u) (qg_wires u) (qg_fans u) (qg_joinedMakes u) (qg_joinedLets u) (qg_threeSum u) (qg_threeCarry u) (qg_opLines u) (qg_wordD u) (qg_wordS u) (qg_wordM u) (qg_left u) (qg_right u) (qg_runs u) (qg_result u) (qg_carryOut u) (qg_address u) (qg_words u) (qg_state u) (qg_counts u) (qg_kind u) (qg_inA u) (qg_inB u) (qg_inC u) (qg_live u) (qg_level u) (qg_value u) (qg_fresh u) (qg_hashHead u) (qg_hashNext u) (qg_wire u) (qg_fanHead u) (qg_fanNext u) (qg_fanGate u) (qg_waitHead u) (qg_waitNext u) (qg_waits u)
theorem uc_init_202 {post : SX → Prop} {J181 : Int32 → SX → Prop} {x1 : Int32} {z0 : Int32} {u : SX} (h : narrow .boolean (.int z0) = .int z0 ∧ fits .boolean (.int z0) = true ∧ (wpX_begin (fun u6 => (wpX_layOut (fun u46 => (wpX_markLive (fun u86 => (wpX_findLevels (fun u126 => (wpX_findFans (fun u166 => (∀ x1_205 : Int32, x1_205 = x1 + 1 → (J181 x1_205 u166))) u126)) u86)) u46)) u6)) (qs_tidy u z0))) : ux_init_202 post J181 x1 z0 u := h
def ux_init_181 (post : SX → Prop) (n : Nat) (x1 : Int32) (u : SX) : Prop := wX_init_181 post n x1 (qg_port u) (qg_circuit u) (qg_tidy u) (qg_wires u) (qg_fans u) (qg_joinedMakes u) (qg_joinedLets u) (qg_threeSum u) (qg_threeCarry u) (qg_opLines u) (qg_wordD u) (qg_wordS u) (qg_wordM u) (qg_left u) (qg_right u) (qg_runs u) (qg_result u) (qg_carryOut u) (qg_address u) (qg_words u) (qg_state u) (qg_counts u) (qg_kind u) (qg_inA u) (qg_inB u) (qg_inC u) (qg_live u) (qg_level u) (qg_value u) (qg_fresh u) (qg_hashHead u) (qg_hashNext u) (qg_wire u) (qg_fanHead u) (qg_fanNext u) (qg_fanGate u) (qg_waitHead u) (qg_waitNext u) (qg_waits u)
theorem uc_init_181 {post : SX → Prop} {n : Nat} {x1 : Int32} {u : SX} (h : ((2 ≤ x1 → (post u)) ∧ (¬ 2 ≤ x1 → (((x1 = 1 → (ux_init_202 post (ux_init_181 post n) x1 1 (qs_circuit u x1))) ∧ (¬ x1 = 1 → (ux_init_202 post (ux_init_181 post n) x1 0 (qs_circuit u x1)))))))) : ux_init_181 post (n + 1) x1 u := h
theorem uc_work {post : Int32 → Prop} {u : SX} {p0 : Int32} (h : ∀ x2_1 : Int32, x2_1 = (qg_circuit u) * 2560 → (vp_in p0 5120 ∧ (vp_in (x2_1 + ((qg_inA u) p0.toNatClampNeg)) 5120 ∧ (∀ x3_4 : Int32, x3_4 = (qg_value u) (x2_1 + ((qg_inA u) p0.toNatClampNeg)).toNatClampNeg → (vp_in p0 5120 ∧ (vp_in (x2_1 + ((qg_inB u) p0.toNatClampNeg)) 5120 ∧ (∀ x4_7 : Int32, x4_7 = (qg_value u) (x2_1 + ((qg_inB u) p0.toNatClampNeg)).toNatClampNeg → (vp_in p0 5120 ∧ (∀ k_9 : Int32, k_9 = (qg_kind u) p0.toNatClampNeg → (((k_9 < 3 → (((x3_4 = 1 → (post x4_7)) ∧ (¬ x3_4 = 1 → (vp_in p0 5120 ∧ (vp_in (x2_1 + ((qg_inC u) p0.toNatClampNeg)) 5120 ∧ (post ((qg_value u) (x2_1 + ((qg_inC u) p0.toNatClampNeg)).toNatClampNeg)))))))) ∧ (¬ k_9 < 3 → (((6 < k_9 → (((x3_4 = 1 → (post x4_7)) ∧ (¬ x3_4 = 1 → (vp_in p0 5120 ∧ (vp_in (x2_1 + ((qg_inC u) p0.toNatClampNeg)) 5120 ∧ (post ((qg_value u) (x2_1 + ((qg_inC u) p0.toNatClampNeg)).toNatClampNeg)))))))) ∧ (¬ 6 < k_9 → (((k_9 = 3 → (post (1 - x3_4))) ∧ (¬ k_9 = 3 → (((k_9 = 4 → (post (x3_4 &&& x4_7))) ∧ (¬ k_9 = 4 → (((k_9 = 5 → (post (x3_4 ||| x4_7))) ∧ (¬ k_9 = 5 → (((k_9 = 6 → (post (x3_4 ^^^ x4_7))) ∧ (¬ k_9 = 6 → (True)))))))))))))))))))))))))))) : wpX_work post u p0 := h
def ux_workAll_11 (post : SX → Prop) (x1 : Int32) (n : Nat) (x2 : Int32) (u : SX) : Prop := wX_workAll_11 post x1 (qg_port u) (qg_circuit u) (qg_tidy u) (qg_wires u) (qg_fans u) (qg_joinedMakes u) (qg_joinedLets u) (qg_threeSum u) (qg_threeCarry u) (qg_opLines u) (qg_wordD u) (qg_wordS u) (qg_wordM u) (qg_left u) (qg_right u) (qg_runs u) (qg_result u) (qg_carryOut u) (qg_address u) n x2 (qg_words u) (qg_state u) (qg_counts u) (qg_kind u) (qg_inA u) (qg_inB u) (qg_inC u) (qg_live u) (qg_level u) (qg_value u) (qg_fresh u) (qg_hashHead u) (qg_hashNext u) (qg_wire u) (qg_fanHead u) (qg_fanNext u) (qg_fanGate u) (qg_waitHead u) (qg_waitNext u) (qg_waits u)
theorem uc_workAll_11 {post : SX → Prop} {x1 : Int32} {n : Nat} {x2 : Int32} {u : SX} (h : vp_in (qg_circuit u) 2 ∧ (((((qg_counts u) (qg_circuit u).toNatClampNeg) ≤ x2 → (post u)) ∧ (¬ ((qg_counts u) (qg_circuit u).toNatClampNeg) ≤ x2 → (∀ x3_4 : Int32, x3_4 = x1 + x2 → (vp_in x3_4 5120 ∧ (((((qg_live u) x3_4.toNatClampNeg) = 0 → (∀ x2_7 : Int32, x2_7 = x2 + 1 → (ux_workAll_11 post x1 n x2_7 u))) ∧ (¬ ((qg_live u) x3_4.toNatClampNeg) = 0 → (vp_in x3_4 5120 ∧ (wpX_isWorked (fun r_9 => (((r_9 = 0 → (∀ x2_11 : Int32, x2_11 = x2 + 1 → (ux_workAll_11 post x1 n x2_11 u))) ∧ (¬ r_9 = 0 → (wpX_work (fun r_12 => (vp_in x3_4 5120 ∧ ∀ a_value_53 : Nat → Int32, a_value_53 = upd (qg_value u) x3_4.toNatClampNeg (vp_nar .byte r_12.toInt8.toInt32) → (∀ x2_54 : Int32, x2_54 = x2 + 1 → (ux_workAll_11 post x1 n x2_54 (qs_value u a_value_53))))) u x3_4))))) ((qg_kind u) x3_4.toNatClampNeg)))))))))))) : ux_workAll_11 post x1 (n + 1) x2 u := h
theorem uc_workAll {post : SX → Prop} {u : SX} (h : ∀ x1_1 : Int32, x1_1 = (qg_circuit u) * 2560 → (∃ n11 : Nat, ux_workAll_11 post x1_1 n11 0 u)) : wpX_workAll post u := h
def ux_wakeFans_18 (post : SX → Prop) (x2 : Int32) (n : Nat) (x3 : Int32) (u : SX) : Prop := wX_wakeFans_18 post x2 (qg_port u) (qg_circuit u) (qg_tidy u) (qg_wires u) (qg_fans u) (qg_joinedMakes u) (qg_joinedLets u) (qg_threeSum u) (qg_threeCarry u) (qg_opLines u) (qg_wordD u) (qg_wordS u) (qg_wordM u) (qg_left u) (qg_right u) (qg_runs u) (qg_result u) (qg_carryOut u) (qg_address u) n x3 (qg_words u) (qg_state u) (qg_counts u) (qg_kind u) (qg_inA u) (qg_inB u) (qg_inC u) (qg_live u) (qg_level u) (qg_value u) (qg_fresh u) (qg_hashHead u) (qg_hashNext u) (qg_wire u) (qg_fanHead u) (qg_fanNext u) (qg_fanGate u) (qg_waitHead u) (qg_waitNext u) (qg_waits u)
theorem uc_wakeFans_18 {post : SX → Prop} {x2 : Int32} {n : Nat} {x3 : Int32} {u : SX} (h : ((x3 < 0 → (post u)) ∧ (¬ x3 < 0 → (vp_in x3 16384 ∧ (∀ x4_6 : Int32, x4_6 = (qg_fanGate u) x3.toNatClampNeg → (vp_in x4_6 2560 ∧ (((((qg_waits u) x4_6.toNatClampNeg) = 0 → (vp_in (x2 + x4_6) 5120 ∧ (∀ x5_12 : Int32, x5_12 = (qg_level u) (x2 + x4_6).toNatClampNeg → (vp_in x4_6 2560 ∧ ∀ a_waits_14 : Nat → Int32, a_waits_14 = upd (qg_waits u) x4_6.toNatClampNeg (vp_nar .boolean 1) → (vp_in x5_12 512 ∧ (vp_in x4_6 2560 ∧ ∀ a_waitNext_17 : Nat → Int32, a_waitNext_17 = upd (qg_waitNext u) x4_6.toNatClampNeg (vp_nar .short ((qg_waitHead u) x5_12.toNatClampNeg)) → (vp_in x5_12 512 ∧ ∀ a_waitHead_19 : Nat → Int32, a_waitHead_19 = upd (qg_waitHead u) x5_12.toNatClampNeg (vp_nar .short x4_6.toInt16.toInt32) → (vp_in x3 16384 ∧ (∀ x3_21 : Int32, x3_21 = (qg_fanNext u) x3.toNatClampNeg → (ux_wakeFans_18 post x2 n x3_21 (qs_waitHead_waitNext_waits u a_waitHead_19 a_waitNext_17 a_waits_14))))))))))) ∧ (¬ ((qg_waits u) x4_6.toNatClampNeg) = 0 → (vp_in x3 16384 ∧ (∀ x3_10 : Int32, x3_10 = (qg_fanNext u) x3.toNatClampNeg → (ux_wakeFans_18 post x2 n x3_10 u)))))))))))) : ux_wakeFans_18 post x2 (n + 1) x3 u := h
theorem uc_wakeFans {post : SX → Prop} {u : SX} {p0 : Int32} (h : ∀ x2_1 : Int32, x2_1 = (qg_circuit u) * 2560 → (vp_in (x2_1 + p0) 5120 ∧ (∀ x3_3 : Int32, x3_3 = (qg_fanHead u) (x2_1 + p0).toNatClampNeg → (∃ n18 : Nat, ux_wakeFans_18 post x2_1 n18 x3_3 u)))) : wpX_wakeFans post u p0 := h
def ux_workChanges_32 (post : SX → Prop) (J11 : Int32 → SX → Prop) (x1 : Int32) (x2 : Int32) (n : Nat) (x3 : Int32) (u : SX) : Prop := wX_workChanges_32 post (fun j0 f_port f_circuit f_tidy f_wires f_fans f_joinedMakes f_joinedLets f_threeSum f_threeCarry f_opLines f_wordD f_wordS f_wordM f_left f_right f_runs f_result f_carryOut f_address a_words a_state a_counts a_kind a_inA a_inB a_inC a_live a_level a_value a_fresh a_hashHead a_hashNext a_wire a_fanHead a_fanNext a_fanGate a_waitHead a_waitNext a_waits => J11 j0 (f_port, f_circuit, f_tidy, f_wires, f_fans, f_joinedMakes, f_joinedLets, f_threeSum, f_threeCarry, f_opLines, f_wordD, f_wordS, f_wordM, f_left, f_right, f_runs, f_result, f_carryOut, f_address, a_words, a_state, a_counts, a_kind, a_inA, a_inB, a_inC, a_live, a_level, a_value, a_fresh, a_hashHead, a_hashNext, a_wire, a_fanHead, a_fanNext, a_fanGate, a_waitHead, a_waitNext, a_waits)) x1 x2 n x3 (qg_port u) (qg_circuit u) (qg_tidy u) (qg_wires u) (qg_fans u) (qg_joinedMakes u) (qg_joinedLets u) (qg_threeSum u) (qg_threeCarry u) (qg_opLines u) (qg_wordD u) (qg_wordS u) (qg_wordM u) (qg_left u) (qg_right u) (qg_runs u) (qg_result u) (qg_carryOut u) (qg_address u) (qg_words u) (qg_state u) (qg_counts u) (qg_kind u) (qg_inA u) (qg_inB u) (qg_inC u) (qg_live u) (qg_level u) (qg_value u) (qg_fresh u) (qg_hashHead u) (qg_hashNext u) (qg_wire u) (qg_fanHead u) (qg_fanNext u) (qg_fanGate u) (qg_waitHead u) (qg_waitNext u) (qg_waits u)
theorem uc_workChanges_32 {post : SX → Prop} {J11 : Int32 → SX → Prop} {x1 : Int32} {x2 : Int32} {n : Nat} {x3 : Int32} {u : SX} (h : ((x3 < 0 → (∀ x2_8 : Int32, x2_8 = x2 + 1 → (J11 x2_8 u))) ∧ (¬ x3 < 0 → (vp_in x3 2560 ∧ ∀ a_waits_10 : Nat → Int32, a_waits_10 = upd (qg_waits u) x3.toNatClampNeg (vp_nar .boolean 0) → (vp_in x3 2560 ∧ (∀ x4_12 : Int32, x4_12 = (qg_waitNext u) x3.toNatClampNeg → (wpX_work (fun r_13 => (vp_in (x1 + x3) 5120 ∧ (((r_13 = ((qg_value u) (x1 + x3).toNatClampNeg) → (ux_workChanges_32 post J11 x1 x2 n x4_12 (qs_waits u a_waits_10))) ∧ (¬ r_13 = ((qg_value u) (x1 + x3).toNatClampNeg) → (vp_in (x1 + x3) 5120 ∧ ∀ a_value_56 : Nat → Int32, a_value_56 = upd (qg_value u) (x1 + x3).toNatClampNeg (vp_nar .byte r_13.toInt8.toInt32) → (wpX_wakeFans (fun u58 => (ux_workChanges_32 post J11 x1 x2 n x4_12 u58)) (qs_value_waits u a_value_56 a_waits_10) x3))))))) (qs_waits u a_waits_10) (x1 + x3)))))))) : ux_workChanges_32 post J11 x1 x2 (n + 1) x3 u := h
def ux_workChanges_11 (post : SX → Prop) (x1 : Int32) (n : Nat) (x2 : Int32) (u : SX) : Prop := wX_workChanges_11 post x1 n x2 (qg_port u) (qg_circuit u) (qg_tidy u) (qg_wires u) (qg_fans u) (qg_joinedMakes u) (qg_joinedLets u) (qg_threeSum u) (qg_threeCarry u) (qg_opLines u) (qg_wordD u) (qg_wordS u) (qg_wordM u) (qg_left u) (qg_right u) (qg_runs u) (qg_result u) (qg_carryOut u) (qg_address u) (qg_words u) (qg_state u) (qg_counts u) (qg_kind u) (qg_inA u) (qg_inB u) (qg_inC u) (qg_live u) (qg_level u) (qg_value u) (qg_fresh u) (qg_hashHead u) (qg_hashNext u) (qg_wire u) (qg_fanHead u) (qg_fanNext u) (qg_fanGate u) (qg_waitHead u) (qg_waitNext u) (qg_waits u)
theorem uc_workChanges_11 {post : SX → Prop} {x1 : Int32} {n : Nat} {x2 : Int32} {u : SX} (h : ((512 ≤ x2 → (post u)) ∧ (¬ 512 ≤ x2 → (vp_in x2 512 ∧ (∀ x3_4 : Int32, x3_4 = (qg_waitHead u) x2.toNatClampNeg → (vp_in x2 512 ∧ ∀ a_waitHead_6 : Nat → Int32, a_waitHead_6 = upd (qg_waitHead u) x2.toNatClampNeg (vp_nar .short (-1)) → (∃ n32 : Nat, ux_workChanges_32 post (ux_workChanges_11 post x1 n) x1 x2 n32 x3_4 (qs_waitHead u a_waitHead_6)))))))) : ux_workChanges_11 post x1 (n + 1) x2 u := h
theorem uc_workChanges {post : SX → Prop} {u : SX} (h : ∀ x1_1 : Int32, x1_1 = (qg_circuit u) * 2560 → (∃ n11 : Nat, ux_workChanges_11 post x1_1 n11 1 u)) : wpX_workChanges post u := h
theorem uc_drive {post : SX → Prop} {u : SX} {p0 : Int32} {p1 : Int32} {p2 : Int32} (h : ∀ x4_1 : Int32, x4_1 = ((qg_circuit u) * 2560) + p0 → (vp_in x4_1 5120 ∧ (((((qg_value u) x4_1.toNatClampNeg) = p1 → (post u)) ∧ (¬ ((qg_value u) x4_1.toNatClampNeg) = p1 → (vp_in x4_1 5120 ∧ ∀ a_value_5 : Nat → Int32, a_value_5 = upd (qg_value u) x4_1.toNatClampNeg (vp_nar .byte p1.toInt8.toInt32) → (((p2 = 0 → (post (qs_value u a_value_5))) ∧ (¬ p2 = 0 → (wpX_wakeFans (fun u8 => (post u8)) (qs_value u a_value_5) p0)))))))))) : wpX_drive post u p0 p1 p2 := h
def ux_read_5 (post : Int32 → Prop) (x1 : Int32) (x2 : Int32) (n : Nat) (x3 : Int32) (x4 : Int32) (u : SX) : Prop := wX_read_5 post x1 x2 (qg_port u) (qg_circuit u) (qg_tidy u) (qg_wires u) (qg_fans u) (qg_joinedMakes u) (qg_joinedLets u) (qg_threeSum u) (qg_threeCarry u) (qg_opLines u) (qg_wordD u) (qg_wordS u) (qg_wordM u) (qg_left u) (qg_right u) (qg_runs u) (qg_result u) (qg_carryOut u) (qg_address u) (qg_words u) (qg_state u) (qg_counts u) (qg_kind u) (qg_inA u) (qg_inB u) (qg_inC u) (qg_live u) (qg_level u) (qg_value u) (qg_fresh u) (qg_hashHead u) (qg_hashNext u) (qg_wire u) (qg_fanHead u) (qg_fanNext u) (qg_fanGate u) (qg_waitHead u) (qg_waitNext u) (qg_waits u) n x3 x4
theorem uc_read_5 {post : Int32 → Prop} {x1 : Int32} {x2 : Int32} {n : Nat} {x3 : Int32} {x4 : Int32} {u : SX} (h : ((x2 ≤ x4 → (post x3)) ∧ (¬ x2 ≤ x4 → (vp_in (x1 + x4) 189 ∧ (∀ x3_3 : Int32, x3_3 = x3 ||| (((qg_state u) (x1 + x4).toNatClampNeg) <<< (x4 &&& 31)) → (∀ x4_4 : Int32, x4_4 = x4 + 1 → (ux_read_5 post x1 x2 n x3_3 x4_4 u))))))) : ux_read_5 post x1 x2 (n + 1) x3 x4 u := h
theorem uc_read {post : Int32 → Prop} {u : SX} {p0 : Int32} {p1 : Int32} (h : ∃ n5 : Nat, ux_read_5 post p0 p1 n5 0 0 u) : wpX_read post u p0 p1 := h
theorem uc_counter {post : Int32 → Prop} {u : SX} (h : wpX_read (fun r_1 => (post r_1)) u 162 5) : wpX_counter post u := h
def ux_driveAll_70 (post : SX → Prop) (x1 : Int32) (n : Nat) (x3 : Int32) (u : SX) : Prop := wX_driveAll_70 post x1 n x3 (qg_port u) (qg_circuit u) (qg_tidy u) (qg_wires u) (qg_fans u) (qg_joinedMakes u) (qg_joinedLets u) (qg_threeSum u) (qg_threeCarry u) (qg_opLines u) (qg_wordD u) (qg_wordS u) (qg_wordM u) (qg_left u) (qg_right u) (qg_runs u) (qg_result u) (qg_carryOut u) (qg_address u) (qg_words u) (qg_state u) (qg_counts u) (qg_kind u) (qg_inA u) (qg_inB u) (qg_inC u) (qg_live u) (qg_level u) (qg_value u) (qg_fresh u) (qg_hashHead u) (qg_hashNext u) (qg_wire u) (qg_fanHead u) (qg_fanNext u) (qg_fanGate u) (qg_waitHead u) (qg_waitNext u) (qg_waits u)
theorem uc_driveAll_70 {post : SX → Prop} {x1 : Int32} {n : Nat} {x3 : Int32} {u : SX} (h : ((189 ≤ x3 → (post u)) ∧ (¬ 189 ≤ x3 → (vp_in x3 189 ∧ (wpX_drive (fun u48 => (∀ x3_87 : Int32, x3_87 = x3 + 1 → (ux_driveAll_70 post x1 n x3_87 u48))) u (26 + x3) ((qg_state u) x3.toNatClampNeg) x1))))) : ux_driveAll_70 post x1 (n + 1) x3 u := h
def ux_driveAll_39 (post : SX → Prop) (x1 : Int32) (n : Nat) (x3 : Int32) (u : SX) : Prop := wX_driveAll_39 post x1 n x3 (qg_port u) (qg_circuit u) (qg_tidy u) (qg_wires u) (qg_fans u) (qg_joinedMakes u) (qg_joinedLets u) (qg_threeSum u) (qg_threeCarry u) (qg_opLines u) (qg_wordD u) (qg_wordS u) (qg_wordM u) (qg_left u) (qg_right u) (qg_runs u) (qg_result u) (qg_carryOut u) (qg_address u) (qg_words u) (qg_state u) (qg_counts u) (qg_kind u) (qg_inA u) (qg_inB u) (qg_inC u) (qg_live u) (qg_level u) (qg_value u) (qg_fresh u) (qg_hashHead u) (qg_hashNext u) (qg_wire u) (qg_fanHead u) (qg_fanNext u) (qg_fanGate u) (qg_waitHead u) (qg_waitNext u) (qg_waits u)
theorem uc_driveAll_39 {post : SX → Prop} {x1 : Int32} {n : Nat} {x3 : Int32} {u : SX} (h : ((8 ≤ x3 → (∃ n70 : Nat, ux_driveAll_70 post x1 n70 0 u)) ∧ (¬ 8 ≤ x3 → (wpX_drive (fun u89 => (∀ x3_128 : Int32, x3_128 = x3 + 1 → (ux_driveAll_39 post x1 n x3_128 u89))) u (18 + x3) (((qg_port u) >>> (x3 &&& 31)) &&& 1) x1)))) : ux_driveAll_39 post x1 (n + 1) x3 u := h
def ux_driveAll_12 (post : SX → Prop) (x1 : Int32) (x2 : Int32) (n : Nat) (x3 : Int32) (u : SX) : Prop := wX_driveAll_12 post x1 x2 n x3 (qg_port u) (qg_circuit u) (qg_tidy u) (qg_wires u) (qg_fans u) (qg_joinedMakes u) (qg_joinedLets u) (qg_threeSum u) (qg_threeCarry u) (qg_opLines u) (qg_wordD u) (qg_wordS u) (qg_wordM u) (qg_left u) (qg_right u) (qg_runs u) (qg_result u) (qg_carryOut u) (qg_address u) (qg_words u) (qg_state u) (qg_counts u) (qg_kind u) (qg_inA u) (qg_inB u) (qg_inC u) (qg_live u) (qg_level u) (qg_value u) (qg_fresh u) (qg_hashHead u) (qg_hashNext u) (qg_wire u) (qg_fanHead u) (qg_fanNext u) (qg_fanGate u) (qg_waitHead u) (qg_waitNext u) (qg_waits u)
theorem uc_driveAll_12 {post : SX → Prop} {x1 : Int32} {x2 : Int32} {n : Nat} {x3 : Int32} {u : SX} (h : ((16 ≤ x3 → (∃ n39 : Nat, ux_driveAll_39 post x1 n39 0 u)) ∧ (¬ 16 ≤ x3 → (wpX_drive (fun u130 => (∀ x3_169 : Int32, x3_169 = x3 + 1 → (ux_driveAll_12 post x1 x2 n x3_169 u130))) u (2 + x3) ((x2 >>> (x3 &&& 31)) &&& 1) x1)))) : ux_driveAll_12 post x1 x2 (n + 1) x3 u := h
theorem uc_driveAll {post : SX → Prop} {u : SX} {p0 : Int32} (h : wpX_counter (fun r_1 => (vp_in r_1 32 ∧ (∀ x2_42 : Int32, x2_42 = (qg_words u) r_1.toNatClampNeg → (∃ n12 : Nat, ux_driveAll_12 post p0 x2_42 n12 0 u)))) u) : wpX_driveAll post u p0 := h
def ux_tick_100 (post : SX → Prop) (x3 : Int32) (n : Nat) (x4 : Int32) (u : SX) : Prop := wX_tick_100 post x3 (qg_port u) (qg_circuit u) (qg_tidy u) (qg_wires u) (qg_fans u) (qg_joinedMakes u) (qg_joinedLets u) (qg_threeSum u) (qg_threeCarry u) (qg_opLines u) (qg_wordD u) (qg_wordS u) (qg_wordM u) (qg_left u) (qg_right u) (qg_runs u) (qg_result u) (qg_carryOut u) (qg_address u) n x4 (qg_words u) (qg_state u) (qg_counts u) (qg_kind u) (qg_inA u) (qg_inB u) (qg_inC u) (qg_live u) (qg_level u) (qg_value u) (qg_fresh u) (qg_hashHead u) (qg_hashNext u) (qg_wire u) (qg_fanHead u) (qg_fanNext u) (qg_fanGate u) (qg_waitHead u) (qg_waitNext u) (qg_waits u)
theorem uc_tick_100 {post : SX → Prop} {x3 : Int32} {n : Nat} {x4 : Int32} {u : SX} (h : ((189 ≤ x4 → (post u)) ∧ (¬ 189 ≤ x4 → (vp_in ((x3 + 26) + x4) 5120 ∧ (∀ x5_90 : Int32, x5_90 = (qg_inA u) ((x3 + 26) + x4).toNatClampNeg → (vp_in (x3 + x5_90) 5120 ∧ (vp_in x4 189 ∧ ∀ a_state_93 : Nat → Int32, a_state_93 = upd (qg_state u) x4.toNatClampNeg (vp_nar .byte ((qg_value u) (x3 + x5_90).toNatClampNeg)) → (∀ x4_94 : Int32, x4_94 = x4 + 1 → (ux_tick_100 post x3 n x4_94 (qs_state u a_state_93)))))))))) : ux_tick_100 post x3 (n + 1) x4 u := h
def ux_tick_58 (post : SX → Prop) (x2 : Int32) (u : SX) : Prop := wX_tick_58 post x2 (qg_port u) (qg_circuit u) (qg_tidy u) (qg_wires u) (qg_fans u) (qg_joinedMakes u) (qg_joinedLets u) (qg_threeSum u) (qg_threeCarry u) (qg_opLines u) (qg_wordD u) (qg_wordS u) (qg_wordM u) (qg_left u) (qg_right u) (qg_runs u) (qg_result u) (qg_carryOut u) (qg_address u) (qg_words u) (qg_state u) (qg_counts u) (qg_kind u) (qg_inA u) (qg_inB u) (qg_inC u) (qg_live u) (qg_level u) (qg_value u) (qg_fresh u) (qg_hashHead u) (qg_hashNext u) (qg_wire u) (qg_fanHead u) (qg_fanNext u) (qg_fanGate u) (qg_waitHead u) (qg_waitNext u) (qg_waits u)
theorem uc_tick_58 {post : SX → Prop} {x2 : Int32} {u : SX} (h : wpX_driveAll (fun u5 => (((x2 = 0 → (wpX_workAll (fun u46 => (vp_in (qg_circuit u46) 2 ∧ ∀ a_fresh_86 : Nat → Int32, a_fresh_86 = upd (qg_fresh u46) (qg_circuit u46).toNatClampNeg (vp_nar .boolean 1) → (∀ x3_87 : Int32, x3_87 = (qg_circuit u46) * 2560 → (∃ n100 : Nat, ux_tick_100 post x3_87 n100 0 (qs_fresh u46 a_fresh_86))))) u5)) ∧ (¬ x2 = 0 → (wpX_workChanges (fun u96 => (∀ x3_135 : Int32, x3_135 = (qg_circuit u96) * 2560 → (∃ n100 : Nat, ux_tick_100 post x3_135 n100 0 u96))) u5))))) u x2) : ux_tick_58 post x2 u := h
def ux_tick_38 (post : SX → Prop) (x2 : Int32) (n : Nat) (x3 : Int32) (u : SX) : Prop := wX_tick_38 post x2 (qg_port u) (qg_circuit u) (qg_tidy u) (qg_wires u) (qg_fans u) (qg_joinedMakes u) (qg_joinedLets u) (qg_threeSum u) (qg_threeCarry u) (qg_opLines u) (qg_wordD u) (qg_wordS u) (qg_wordM u) (qg_left u) (qg_right u) (qg_runs u) (qg_result u) (qg_carryOut u) (qg_address u) n x3 (qg_words u) (qg_state u) (qg_counts u) (qg_kind u) (qg_inA u) (qg_inB u) (qg_inC u) (qg_live u) (qg_level u) (qg_value u) (qg_fresh u) (qg_hashHead u) (qg_hashNext u) (qg_wire u) (qg_fanHead u) (qg_fanNext u) (qg_fanGate u) (qg_waitHead u) (qg_waitNext u) (qg_waits u)
theorem uc_tick_38 {post : SX → Prop} {x2 : Int32} {n : Nat} {x3 : Int32} {u : SX} (h : ((512 ≤ x3 → (ux_tick_58 post x2 u)) ∧ (¬ 512 ≤ x3 → (vp_in x3 512 ∧ ∀ a_waitHead_138 : Nat → Int32, a_waitHead_138 = upd (qg_waitHead u) x3.toNatClampNeg (vp_nar .short (-1)) → (∀ x3_139 : Int32, x3_139 = x3 + 1 → (ux_tick_38 post x2 n x3_139 (qs_waitHead u a_waitHead_138))))))) : ux_tick_38 post x2 (n + 1) x3 u := h
def ux_tick_31 (post : SX → Prop) (z0 : Int32) (u : SX) : Prop := wX_tick_31 post z0 (qg_port u) (qg_circuit u) (qg_tidy u) (qg_wires u) (qg_fans u) (qg_joinedMakes u) (qg_joinedLets u) (qg_threeSum u) (qg_threeCarry u) (qg_opLines u) (qg_wordD u) (qg_wordS u) (qg_wordM u) (qg_left u) (qg_right u) (qg_runs u) (qg_result u) (qg_carryOut u) (qg_address u) (qg_words u) (qg_state u) (qg_counts u) (qg_kind u) (qg_inA u) (qg_inB u) (qg_inC u) (qg_live u) (qg_level u) (qg_value u) (qg_fresh u) (qg_hashHead u) (qg_hashNext u) (qg_wire u) (qg_fanHead u) (qg_fanNext u) (qg_fanGate u) (qg_waitHead u) (qg_waitNext u) (qg_waits u)
theorem uc_tick_31 {post : SX → Prop} {z0 : Int32} {u : SX} (h : ((z0 = 0 → (ux_tick_58 post z0 u)) ∧ (¬ z0 = 0 → (∃ n38 : Nat, ux_tick_38 post z0 n38 0 u)))) : ux_tick_31 post z0 u := h
def ux_tick_30 (post : SX → Prop) (u : SX) : Prop := wX_tick_30 post (qg_port u) (qg_circuit u) (qg_tidy u) (qg_wires u) (qg_fans u) (qg_joinedMakes u) (qg_joinedLets u) (qg_threeSum u) (qg_threeCarry u) (qg_opLines u) (qg_wordD u) (qg_wordS u) (qg_wordM u) (qg_left u) (qg_right u) (qg_runs u) (qg_result u) (qg_carryOut u) (qg_address u) (qg_words u) (qg_state u) (qg_counts u) (qg_kind u) (qg_inA u) (qg_inB u) (qg_inC u) (qg_live u) (qg_level u) (qg_value u) (qg_fresh u) (qg_hashHead u) (qg_hashNext u) (qg_wire u) (qg_fanHead u) (qg_fanNext u) (qg_fanGate u) (qg_waitHead u) (qg_waitNext u) (qg_waits u)
theorem uc_tick_30 {post : SX → Prop} {u : SX} (h : ux_tick_31 post 0 u) : ux_tick_30 post u := h
theorem uc_tick {post : SX → Prop} {u : SX} {p0 : Int32} (h : ∀ f_circuit_1 : Int32, f_circuit_1 = p0 >>> ((1 : Int32) &&& 31) → ((((p0 &&& 1) = 1 → (vp_in f_circuit_1 2 ∧ (((((qg_fresh u) f_circuit_1.toNatClampNeg) = 0 → (ux_tick_30 post (qs_circuit u f_circuit_1))) ∧ (¬ ((qg_fresh u) f_circuit_1.toNatClampNeg) = 0 → (ux_tick_31 post 1 (qs_circuit u f_circuit_1))))))) ∧ (¬ (p0 &&& 1) = 1 → (ux_tick_30 post (qs_circuit u f_circuit_1)))))) : wpX_tick post u p0 := h
theorem uc_program {post : Int32 → SX → Prop} {u : SX} {p0 : Int32} {p1 : Int32} (h : ((p0 < 0 → (post 0 u)) ∧ (¬ p0 < 0 → (((32 ≤ p0 → (post 0 u)) ∧ (¬ 32 ≤ p0 → (((p1 < 0 → (post 0 u)) ∧ (¬ p1 < 0 → (((p1 ≤ 65535 → (vp_in p0 32 ∧ ∀ a_words_6 : Nat → Int32, a_words_6 = upd (qg_words u) p0.toNatClampNeg p1 → (post 1 (qs_words u a_words_6)))) ∧ (¬ p1 ≤ 65535 → (post 0 u))))))))))))) : wpX_program post u p0 p1 := h
def ux_put_2 (post : SX → Prop) (x1 : Int32) (x2 : Int32) (n : Nat) (x3 : Int32) (u : SX) : Prop := wX_put_2 post x1 x2 (qg_port u) (qg_circuit u) (qg_tidy u) (qg_wires u) (qg_fans u) (qg_joinedMakes u) (qg_joinedLets u) (qg_threeSum u) (qg_threeCarry u) (qg_opLines u) (qg_wordD u) (qg_wordS u) (qg_wordM u) (qg_left u) (qg_right u) (qg_runs u) (qg_result u) (qg_carryOut u) (qg_address u) n x3 (qg_words u) (qg_state u) (qg_counts u) (qg_kind u) (qg_inA u) (qg_inB u) (qg_inC u) (qg_live u) (qg_level u) (qg_value u) (qg_fresh u) (qg_hashHead u) (qg_hashNext u) (qg_wire u) (qg_fanHead u) (qg_fanNext u) (qg_fanGate u) (qg_waitHead u) (qg_waitNext u) (qg_waits u)
theorem uc_put_2 {post : SX → Prop} {x1 : Int32} {x2 : Int32} {n : Nat} {x3 : Int32} {u : SX} (h : ((8 ≤ x3 → (post u)) ∧ (¬ 8 ≤ x3 → (vp_in (x1 + x3) 189 ∧ ∀ a_state_3 : Nat → Int32, a_state_3 = upd (qg_state u) (x1 + x3).toNatClampNeg (vp_nar .byte (((x2 >>> (x3 &&& 31)) &&& 1).toInt8.toInt32)) → (∀ x3_4 : Int32, x3_4 = x3 + 1 → (ux_put_2 post x1 x2 n x3_4 (qs_state u a_state_3))))))) : ux_put_2 post x1 x2 (n + 1) x3 u := h
theorem uc_put {post : SX → Prop} {u : SX} {p0 : Int32} {p1 : Int32} (h : ∃ n2 : Nat, ux_put_2 post p0 p1 n2 0 u) : wpX_put post u p0 p1 := h
theorem uc_isByte {post : Int32 → Prop} {p0 : Int32} (h : ((p0 < 0 → (post 0)) ∧ (¬ p0 < 0 → (((255 < p0 → (post 0)) ∧ (¬ 255 < p0 → (post 1))))))) : wpX_isByte post p0 := h
theorem uc_isRegister {post : Int32 → Prop} {p0 : Int32} (h : ((p0 < 0 → (post 0)) ∧ (¬ p0 < 0 → (((4 ≤ p0 → (post 0)) ∧ (¬ 4 ≤ p0 → (post 1))))))) : wpX_isRegister post p0 := h
theorem uc_word {post : Int32 → Prop} {u : SX} {p0 : Int32} (h : ((p0 < 0 → (post (-1))) ∧ (¬ p0 < 0 → (((32 ≤ p0 → (post (-1))) ∧ (¬ 32 ≤ p0 → (vp_in p0 32 ∧ (post ((qg_words u) p0.toNatClampNeg))))))))) : wpX_word post u p0 := h
def ux_reset_2 (post : SX → Prop) (n : Nat) (x1 : Int32) (u : SX) : Prop := wX_reset_2 post (qg_port u) (qg_circuit u) (qg_tidy u) (qg_wires u) (qg_fans u) (qg_joinedMakes u) (qg_joinedLets u) (qg_threeSum u) (qg_threeCarry u) (qg_opLines u) (qg_wordD u) (qg_wordS u) (qg_wordM u) (qg_left u) (qg_right u) (qg_runs u) (qg_result u) (qg_carryOut u) (qg_address u) n x1 (qg_words u) (qg_state u) (qg_counts u) (qg_kind u) (qg_inA u) (qg_inB u) (qg_inC u) (qg_live u) (qg_level u) (qg_value u) (qg_fresh u) (qg_hashHead u) (qg_hashNext u) (qg_wire u) (qg_fanHead u) (qg_fanNext u) (qg_fanGate u) (qg_waitHead u) (qg_waitNext u) (qg_waits u)
theorem uc_reset_2 {post : SX → Prop} {n : Nat} {x1 : Int32} {u : SX} (h : ((189 ≤ x1 → (post u)) ∧ (¬ 189 ≤ x1 → (vp_in x1 189 ∧ ∀ a_state_3 : Nat → Int32, a_state_3 = upd (qg_state u) x1.toNatClampNeg (vp_nar .byte 0) → (∀ x1_4 : Int32, x1_4 = x1 + 1 → (ux_reset_2 post n x1_4 (qs_state u a_state_3))))))) : ux_reset_2 post (n + 1) x1 u := h
theorem uc_reset {post : SX → Prop} {u : SX} (h : ∃ n2 : Nat, ux_reset_2 post n2 0 u) : wpX_reset post u := h
theorem uc_in {post : Int32 → SX → Prop} {u : SX} {p0 : Int32} (h : wpX_isByte (fun r_1 => (((r_1 = 0 → (post 0 u)) ∧ (¬ r_1 = 0 → (post 1 (qs_port u p0)))))) p0) : wpX_in post u p0 := h
theorem uc_setRegister {post : Int32 → SX → Prop} {u : SX} {p0 : Int32} {p1 : Int32} (h : wpX_isRegister (fun r_1 => (((r_1 = 0 → (post 0 u)) ∧ (¬ r_1 = 0 → (wpX_isByte (fun r_3 => (((r_3 = 0 → (post 0 u)) ∧ (¬ r_3 = 0 → (wpX_put (fun u6 => (post 1 u6)) u (0 + (8 * p0)) p1))))) p1))))) p0) : wpX_setRegister post u p0 p1 := h
theorem uc_setMemory {post : Int32 → SX → Prop} {u : SX} {p0 : Int32} {p1 : Int32} (h : ((p0 < 0 → (post 0 u)) ∧ (¬ p0 < 0 → (((16 ≤ p0 → (post 0 u)) ∧ (¬ 16 ≤ p0 → (wpX_isByte (fun r_3 => (((r_3 = 0 → (post 0 u)) ∧ (¬ r_3 = 0 → (wpX_put (fun u6 => (post 1 u6)) u (32 + (8 * p0)) p1))))) p1))))))) : wpX_setMemory post u p0 p1 := h
theorem uc_halted {post : Int32 → Prop} {u : SX} (h : ((((qg_state u) 188) = 1 → (post 1)) ∧ (¬ ((qg_state u) 188) = 1 → (post 0)))) : wpX_halted post u := h
def ux_cycle_35 (post : Int32 → SX → Prop) (x2 : Int32) (x3 : Int32) (n : Nat) (x4 : Int32) (u : SX) : Prop := wX_cycle_35 post x2 x3 n x4 (qg_port u) (qg_circuit u) (qg_tidy u) (qg_wires u) (qg_fans u) (qg_joinedMakes u) (qg_joinedLets u) (qg_threeSum u) (qg_threeCarry u) (qg_opLines u) (qg_wordD u) (qg_wordS u) (qg_wordM u) (qg_left u) (qg_right u) (qg_runs u) (qg_result u) (qg_carryOut u) (qg_address u) (qg_words u) (qg_state u) (qg_counts u) (qg_kind u) (qg_inA u) (qg_inB u) (qg_inC u) (qg_live u) (qg_level u) (qg_value u) (qg_fresh u) (qg_hashHead u) (qg_hashNext u) (qg_wire u) (qg_fanHead u) (qg_fanNext u) (qg_fanGate u) (qg_waitHead u) (qg_waitNext u) (qg_waits u)
theorem uc_cycle_35 {post : Int32 → SX → Prop} {x2 : Int32} {x3 : Int32} {n : Nat} {x4 : Int32} {u : SX} (h : ((x3 ≤ x4 → (post x4 u)) ∧ (¬ x3 ≤ x4 → (wpX_halted (fun r_6 => (((r_6 = 0 → (wpX_tick (fun u48 => (∀ x4_87 : Int32, x4_87 = x4 + 1 → (ux_cycle_35 post x2 x3 n x4_87 u48))) u x2)) ∧ (¬ r_6 = 0 → (post x4 u))))) u)))) : ux_cycle_35 post x2 x3 (n + 1) x4 u := h
theorem uc_cycle {post : Int32 → SX → Prop} {u : SX} {p0 : Int32} {p1 : Int32} (h : ((p1 < 0 → (post (-1) u)) ∧ (¬ p1 < 0 → (((p1 ≤ 3 → (((0 ≤ p0 → (((p0 ≤ 60 → (∃ n35 : Nat, ux_cycle_35 post p1 p0 n35 0 u)) ∧ (¬ p0 ≤ 60 → (∃ n35 : Nat, ux_cycle_35 post p1 60 n35 0 u))))) ∧ (¬ 0 ≤ p0 → (∃ n35 : Nat, ux_cycle_35 post p1 0 n35 0 u))))) ∧ (¬ p1 ≤ 3 → (post (-1) u))))))) : wpX_cycle post u p0 p1 := h
theorem uc_register {post : Int32 → Prop} {u : SX} {p0 : Int32} (h : wpX_isRegister (fun r_1 => (((r_1 = 0 → (post (-1))) ∧ (¬ r_1 = 0 → (wpX_read (fun r_3 => (post r_3)) u (0 + (8 * p0)) 8))))) p0) : wpX_register post u p0 := h
theorem uc_memory {post : Int32 → Prop} {u : SX} {p0 : Int32} (h : ((p0 < 0 → (post (-1))) ∧ (¬ p0 < 0 → (((16 ≤ p0 → (post (-1))) ∧ (¬ 16 ≤ p0 → (wpX_read (fun r_3 => (post r_3)) u (32 + (8 * p0)) 8))))))) : wpX_memory post u p0 := h
theorem uc_flags {post : Int32 → Prop} {u : SX} (h : post (((qg_state u) 160) + (2 * ((qg_state u) 161)))) : wpX_flags post u := h
theorem uc_link {post : Int32 → Prop} {u : SX} (h : wpX_read (fun r_1 => (post r_1)) u 167 5) : wpX_link post u := h
theorem uc_out {post : Int32 → Prop} {u : SX} (h : wpX_read (fun r_1 => (post r_1)) u 172 8) : wpX_out post u := h
theorem uc_outs {post : Int32 → Prop} {u : SX} (h : wpX_read (fun r_1 => (post r_1)) u 180 8) : wpX_outs post u := h
theorem uc_same {post : Int32 → Prop} {u : SX} {p0 : Int32} {p1 : Int32} (h : wpX_isRegister (fun r_1 => (((r_1 = 0 → (post 0)) ∧ (¬ r_1 = 0 → (wpX_isRegister (fun r_3 => (((r_3 = 0 → (post 0)) ∧ (¬ r_3 = 0 → (wpX_register (fun r_5 => (wpX_register (fun r_45 => (((r_5 = r_45 → (post 1)) ∧ (¬ r_5 = r_45 → (post 0))))) u p1)) u p0))))) p1))))) p0) : wpX_same post u p0 p1 := h
end
section
/-! core: counts, gates, valuations of a circuit, what grows -/
theorem gc_i16 {a : Nat} (h : a < 32768) : (nI a).toInt16.toInt32 = nI a := by
  apply Int32.toInt_inj.mp
  rw [Int16.toInt_toInt32, Int32.toInt_toInt16, nI_toInt (by omega)]
  exact Int.bmod_eq_of_le (by omega) (by omega)
theorem gc_i8 {a : Nat} (h : a < 128) : (nI a).toInt8.toInt32 = nI a := by
  apply Int32.toInt_inj.mp
  rw [Int8.toInt_toInt32, Int32.toInt_toInt8, nI_toInt (by omega)]
  exact Int.bmod_eq_of_le (by omega) (by omega)
theorem gc_sh {a : Nat} (h : a < 32768) : vp_nar .short (nI a).toInt16.toInt32 = nI a := by rw [pk_vs, gc_i16 h]
theorem gc_sh' {a : Nat} (h : a < 32768) : vp_nar .short (nI a) = nI a := by rw [vp_nar_short, gc_i16 h]
theorem gc_by {a : Nat} (h : a < 128) : vp_nar .byte (nI a).toInt8.toInt32 = nI a := by rw [pk_vb, gc_i8 h]
theorem gc_by' {a : Nat} (h : a < 128) : vp_nar .byte (nI a) = nI a := by rw [vp_nar_byte, gc_i8 h]
theorem gc_shm : vp_nar .short (-1) = -1 := by rw [vp_nar_short]; decide
theorem gc_m1 : (-1 : Int32) < 0 := by decide
theorem gc_nm1 {n : Nat} (h : n < 2 ^ 31) : ¬ nI n = -1 := fun e => nI_pos h (by rw [e]; decide)
theorem gc_bs {w g : Nat} : nI w * 2560 + nI g = nI (w * 2560 + g) := by
  rw [show (2560 : Int32) = nI 2560 from rfl, pk_mul, nI_add]
theorem gc_b0 {w : Nat} : nI w * 2560 = nI (w * 2560) := by
  rw [show (2560 : Int32) = nI 2560 from rfl, pk_mul]

def gc_cn (w : Nat) (u : SX) : Nat := (qg_counts u w).toNatClampNeg
def gc_W (u : SX) : Nat := (qg_wires u).toNatClampNeg
def gc_k (w : Nat) (u : SX) (g : Nat) : Nat := (qg_kind u (w * 2560 + g)).toNatClampNeg
def gc_a (w : Nat) (u : SX) (g : Nat) : Nat := (qg_inA u (w * 2560 + g)).toNatClampNeg
def gc_b (w : Nat) (u : SX) (g : Nat) : Nat := (qg_inB u (w * 2560 + g)).toNatClampNeg
def gc_c (w : Nat) (u : SX) (g : Nat) : Nat := (qg_inC u (w * 2560 + g)).toNatClampNeg
def gc_op (k : Nat) (a b c : Bool) : Bool := if k = 3 then !a else if k = 4 then a && b else if k = 5 then a || b else if k = 6 then (a ^^ b) else if a then b else c
def gc_k0 (g : Nat) : Nat := if g < 2 then 0 else if g < 26 then 1 else 2
/-- gate g of circuit w: its kind and its inputs, which come before it -/
def gc_Gt (w : Nat) (u : SX) (g : Nat) : Prop :=
  ∃ k a b c : Nat, (qg_kind u (w * 2560 + g) = nI k ∧ qg_inA u (w * 2560 + g) = nI a ∧ qg_inB u (w * 2560 + g) = nI b ∧ qg_inC u (w * 2560 + g) = nI c) ∧ (3 ≤ k ∧ k ≤ 7) ∧ (a < g ∧ b < g ∧ c < g) ∧ (k = 3 → b = 0) ∧ (k ≠ 7 → c = 0)
def gc_Hs (w : Nat) (u : SX) : Prop := w = 1 →
  (∀ m, m < 1024 → qg_hashHead u m = -1 ∨ ∃ h, qg_hashHead u m = nI h ∧ 215 ≤ h ∧ h < gc_cn w u) ∧
  (∀ g, 215 ≤ g → g < gc_cn w u → qg_hashNext u g = -1 ∨ ∃ h, qg_hashNext u g = nI h ∧ 215 ≤ h ∧ h < g)
def gc_W0 (w : Nat) (u : SX) : Prop :=
  w < 2 ∧ qg_circuit u = nI w ∧ qg_tidy u = nI w ∧ qg_counts u w = nI (gc_cn w u) ∧ 215 ≤ gc_cn w u ∧ gc_cn w u ≤ 2560 ∧ qg_wires u = nI (gc_W u) ∧ gc_W u ≤ 8192
def gc_Ks (w : Nat) (u : SX) : Prop := ∀ g, g < 215 → qg_kind u (w * 2560 + g) = nI (gc_k0 g)
def gc_Gs (w : Nat) (u : SX) : Prop := ∀ g, 215 ≤ g → g < gc_cn w u → gc_Gt w u g
def gc_Fs (w : Nat) (u : SX) : Prop := ∀ i, i < 189 → ∃ a, qg_inA u (w * 2560 + (26 + i)) = nI a ∧ a < gc_cn w u
def gc_WF (w : Nat) (u : SX) : Prop := gc_W0 w u ∧ gc_Ks w u ∧ gc_Gs w u ∧ gc_Fs w u ∧ gc_Hs w u
/-- a valuation that agrees with all gates -/
def gc_Cs (w : Nat) (u : SX) (V : Nat → Bool) : Prop := V 0 = false ∧ V 1 = true ∧ ∀ g, 215 ≤ g → g < gc_cn w u → V g = gc_op (gc_k w u g) (V (gc_a w u g)) (V (gc_b w u g)) (V (gc_c w u g))
def gc_Lc (w : Nat) (u : SX) (L : Nat → Nat) : Prop := (∀ g, g < 215 → L g = 0) ∧ ∀ g, 215 ≤ g → g < gc_cn w u → L (gc_a w u g) < L g ∧ ∀ d, L (gc_a w u g) ≤ d → L (gc_b w u g) ≤ d → L (gc_c w u g) ≤ d → L g ≤ d + 1
def gc_GL (w : Nat) (u : SX) (g d : Nat) : Prop := ∀ L, gc_Lc w u L → L g ≤ d
def gc_AL (w : Nat) (u : SX) (d : Nat) : Prop := ∀ g, g < gc_cn w u → gc_GL w u g d

theorem gc_gl {u u' : SX} (h : gc_eg u' = gc_eg u) : gc_el u' = gc_el u := by have e := congrArg gc_el h; exact e
theorem gc_lf {u u' : SX} (h : gc_el u' = gc_el u) : gc_ef u' = gc_ef u := by have e := congrArg gc_ef h; exact e

def gc_Ex (w b lo hi : Nat) (u u' : SX) : Prop :=
  gc_ef u' = gc_ef u ∧ gc_cn w u ≤ gc_cn w u' ∧ gc_W u ≤ gc_W u' ∧ (∀ j, j ≠ w → qg_counts u' j = qg_counts u j) ∧ (∀ j, j < b → qg_wire u' j = qg_wire u j) ∧
  (∀ j, (j < w * 2560 + gc_cn w u ∨ w * 2560 + 2560 ≤ j) → (qg_kind u' j = qg_kind u j ∧ qg_inB u' j = qg_inB u j ∧ qg_inC u' j = qg_inC u j) ∧ ((j < w * 2560 + (26 + lo) ∨ w * 2560 + (26 + hi) ≤ j) → qg_inA u' j = qg_inA u j))
theorem gc_Ex_rf {w b lo hi : Nat} {u : SX} : gc_Ex w b lo hi u u := ⟨rfl, Nat.le_refl _, Nat.le_refl _, fun _ _ => rfl, fun _ _ => rfl, fun _ _ => ⟨⟨rfl, rfl, rfl⟩, fun _ => rfl⟩⟩
theorem gc_Ex_tr {w b lo hi : Nat} {u v x : SX} (h : gc_Ex w b lo hi u v) (h' : gc_Ex w b lo hi v x) : gc_Ex w b lo hi u x := by
  obtain ⟨a1, a2, a3, a4, a5, a6⟩ := h
  obtain ⟨b1, b2, b3, b4, b5, b6⟩ := h'
  refine ⟨b1.trans a1, Nat.le_trans a2 b2, Nat.le_trans a3 b3, fun j hj => (b4 j hj).trans (a4 j hj), fun j hj => (b5 j hj).trans (a5 j hj), fun j hj => ?_⟩
  have hj' : j < w * 2560 + gc_cn w v ∨ w * 2560 + 2560 ≤ j := by omega
  obtain ⟨⟨p1, p2, p3⟩, p4⟩ := a6 j hj
  obtain ⟨⟨q1, q2, q3⟩, q4⟩ := b6 j hj'
  exact ⟨⟨q1.trans p1, q2.trans p2, q3.trans p3⟩, fun hh => (q4 hh).trans (p4 hh)⟩
theorem gc_Ex_mo {w b b' lo lo' hi hi' : Nat} {u v : SX} (h : gc_Ex w b lo hi u v) (hb : b' ≤ b) (hl : lo' ≤ lo ∨ hi ≤ lo) (hh : hi ≤ hi' ∨ hi ≤ lo) : gc_Ex w b' lo' hi' u v := by
  obtain ⟨a1, a2, a3, a4, a5, a6⟩ := h
  refine ⟨a1, a2, a3, a4, fun j hj => a5 j (Nat.lt_of_lt_of_le hj hb), fun j hj => ⟨(a6 j hj).1, fun hh => (a6 j hj).2 ?_⟩⟩
  omega
theorem gc_Ex_cn {w b lo hi : Nat} {u v : SX} (h : gc_Ex w b lo hi u v) : gc_cn w u ≤ gc_cn w v := h.2.1
theorem gc_Ex_W {w b lo hi : Nat} {u v : SX} (h : gc_Ex w b lo hi u v) : gc_W u ≤ gc_W v := h.2.2.1
theorem gc_Ex_wr {w b lo hi : Nat} {u v : SX} (h : gc_Ex w b lo hi u v) {j : Nat} (hj : j < b) : qg_wire v j = qg_wire u j := h.2.2.2.2.1 j hj
theorem gc_Ex_g {w b lo hi : Nat} {u v : SX} (h : gc_Ex w b lo hi u v) (hh : hi ≤ 189) {g : Nat} (h0 : 215 ≤ g) (hg : g < gc_cn w u) : qg_kind v (w * 2560 + g) = qg_kind u (w * 2560 + g) ∧ qg_inA v (w * 2560 + g) = qg_inA u (w * 2560 + g) ∧ qg_inB v (w * 2560 + g) = qg_inB u (w * 2560 + g) ∧ qg_inC v (w * 2560 + g) = qg_inC u (w * 2560 + g) := by
  obtain ⟨⟨p1, p2, p3⟩, p4⟩ := h.2.2.2.2.2 (w * 2560 + g) (Or.inl (by omega))
  exact ⟨p1, p4 (Or.inr (by omega)), p2, p3⟩
theorem gc_Cs_mo {w b lo hi : Nat} {u v : SX} {V : Nat → Bool} (h : gc_Ex w b lo hi u v) (hh : hi ≤ 189) (c : gc_Cs w v V) : gc_Cs w u V := by
  refine ⟨c.1, c.2.1, fun g h0 hg => ?_⟩
  obtain ⟨p1, p2, p3, p4⟩ := gc_Ex_g h hh h0 hg
  have e := c.2.2 g h0 (Nat.lt_of_lt_of_le hg h.2.1)
  unfold gc_k gc_a gc_b gc_c at e ⊢
  rw [p1, p2, p3, p4] at e
  exact e
theorem gc_Lc_mo {w b lo hi : Nat} {u v : SX} {L : Nat → Nat} (h : gc_Ex w b lo hi u v) (hh : hi ≤ 189) (c : gc_Lc w v L) : gc_Lc w u L := by
  refine ⟨c.1, fun g h0 hg => ?_⟩
  obtain ⟨p1, p2, p3, p4⟩ := gc_Ex_g h hh h0 hg
  have e := c.2 g h0 (Nat.lt_of_lt_of_le hg h.2.1)
  unfold gc_a gc_b gc_c at e ⊢
  rw [p2, p3, p4] at e
  exact e
theorem gc_GL_mo {w b lo hi : Nat} {u v : SX} {g d : Nat} (h : gc_Ex w b lo hi u v) (hh : hi ≤ 189) (c : gc_GL w u g d) : gc_GL w v g d := fun L hL => c L (gc_Lc_mo h hh hL)
theorem gc_GL_le {w : Nat} {u : SX} {g d e : Nat} (c : gc_GL w u g d) (h : d ≤ e) : gc_GL w u g e := fun L hL => Nat.le_trans (c L hL) h
theorem gc_AL_le {w : Nat} {u : SX} {d e : Nat} (c : gc_AL w u d) (h : d ≤ e) : gc_AL w u e := fun g hg => gc_GL_le (c g hg) h
theorem gc_Gt_mo {w b lo hi : Nat} {u v : SX} {g : Nat} (h : gc_Ex w b lo hi u v) (hh : hi ≤ 189) (h0 : 215 ≤ g) (hg : g < gc_cn w u) (c : gc_Gt w u g) : gc_Gt w v g := by
  obtain ⟨p1, p2, p3, p4⟩ := gc_Ex_g h hh h0 hg
  unfold gc_Gt
  rw [p1, p2, p3, p4]
  exact c
theorem gc_Gt_n {w : Nat} {u : SX} {g : Nat} (c : gc_Gt w u g) (hg : g < 2 ^ 31) : (qg_kind u (w * 2560 + g) = nI (gc_k w u g) ∧ qg_inA u (w * 2560 + g) = nI (gc_a w u g) ∧ qg_inB u (w * 2560 + g) = nI (gc_b w u g) ∧ qg_inC u (w * 2560 + g) = nI (gc_c w u g)) ∧ (3 ≤ gc_k w u g ∧ gc_k w u g ≤ 7) ∧ (gc_a w u g < g ∧ gc_b w u g < g ∧ gc_c w u g < g) ∧ (gc_k w u g = 3 → gc_b w u g = 0) ∧ (gc_k w u g ≠ 7 → gc_c w u g = 0) := by
  obtain ⟨k, a, b, e, ⟨h1, h2, h3, h4⟩, hk, ⟨ha, hb, he⟩, h5, h6⟩ := c
  unfold gc_k gc_a gc_b gc_c
  rw [h1, h2, h3, h4, nI_clamp (by omega), nI_clamp (by omega), nI_clamp (by omega), nI_clamp (by omega)]
  exact ⟨⟨rfl, rfl, rfl, rfl⟩, hk, ⟨ha, hb, he⟩, h5, h6⟩

/-- some gates are added, and nothing else -/
def gc_Ng (w k : Nat) (u u' : SX) : Prop := gc_WF w u' ∧ gc_eg u' = gc_eg u ∧ gc_Ex w 8192 0 0 u u' ∧ gc_cn w u' ≤ gc_cn w u + k
theorem gc_Ng_rf {w : Nat} {u : SX} (h : gc_WF w u) (k : Nat) : gc_Ng w k u u := ⟨h, rfl, gc_Ex_rf, by omega⟩
theorem gc_Ng_tr {w k l : Nat} {u v x : SX} (h : gc_Ng w k u v) (h' : gc_Ng w l v x) : gc_Ng w (k + l) u x := by
  obtain ⟨a1, a2, a3, a4⟩ := h
  obtain ⟨b1, b2, b3, b4⟩ := h'
  exact ⟨b1, b2.trans a2, gc_Ex_tr a3 b3, by omega⟩
theorem gc_Ng_W {w k : Nat} {u v : SX} (h : gc_Ng w k u v) : gc_W v = gc_W u := by have e := congrArg gc_W h.2.1; exact e
theorem gc_Ng_wr {w k : Nat} {u v : SX} (h : gc_Ng w k u v) : qg_wire v = qg_wire u := by have e := congrArg qg_wire h.2.1; exact e
theorem gc_Ng_Ex {w k : Nat} {u v : SX} (h : gc_Ng w k u v) (b lo hi : Nat) (hb : b ≤ 8192) : gc_Ex w b lo hi u v := gc_Ex_mo h.2.2.1 hb (Or.inr (Nat.le_refl _)) (Or.inr (Nat.le_refl _))
/-- r is the gate that was asked for: f is its value, P d bounds its inputs' levels by d -/
def gc_Gr (w : Nat) (u u' : SX) (r : Nat) (f : (Nat → Bool) → Bool) (P : Nat → Prop) : Prop :=
  gc_Ng w 1 u u' ∧ r < gc_cn w u' ∧ (∀ V, gc_Cs w u' V → V r = f V) ∧ (∀ d, P d → gc_GL w u' r (d + 1) ∧ (gc_AL w u (d + 1) → gc_AL w u' (d + 1)))
theorem gc_Gr_sf {w : Nat} {u : SX} {r : Nat} {f : (Nat → Bool) → Bool} {P : Nat → Prop} (h : gc_WF w u) (hr : r < gc_cn w u) (hs : ∀ V, gc_Cs w u V → V r = f V) (hl : ∀ d, P d → gc_GL w u r (d + 1)) : gc_Gr w u u r f P := ⟨gc_Ng_rf h 1, hr, hs, fun d hd => ⟨hl d hd, fun h => h⟩⟩
theorem gc_Gr_im {w : Nat} {u u' : SX} {r : Nat} {f f' : (Nat → Bool) → Bool} {P P' : Nat → Prop} (h : gc_Gr w u u' r f P) (hf : ∀ V, gc_Cs w u V → f V = f' V) (hP : ∀ d, P' d → P d) : gc_Gr w u u' r f' P' :=
  ⟨h.1, h.2.1, fun V hV => (h.2.2.1 V hV).trans (hf V (gc_Cs_mo h.1.2.2.1 (by omega) hV)), fun d hd => h.2.2.2 d (hP d hd)⟩
end
section
/-! gates: add, gate, not, and, or, xor, choice -/
def gc_ad (w : Nat) (u : SX) (c k a b e : Nat) : SX := qs_counts_kind_inA_inB_inC u (upd (qg_counts u) w (nI (c + 1))) (upd (qg_kind u) (w * 2560 + c) (nI k)) (upd (qg_inA u) (w * 2560 + c) (nI a)) (upd (qg_inB u) (w * 2560 + c) (nI b)) (upd (qg_inC u) (w * 2560 + c) (nI e))
theorem gc_eg_hs {u : SX} {a b : Nat → Int32} : gc_eg (qs_hashHead_hashNext u a b) = gc_eg u := rfl
theorem gc_eg_ad {u : SX} {a b c d e : Nat → Int32} : gc_eg (qs_counts_kind_inA_inB_inC u a b c d e) = gc_eg u := rfl
theorem gc_hs_g {u : SX} {a b : Nat → Int32} : qg_counts (qs_hashHead_hashNext u a b) = qg_counts u ∧ qg_kind (qs_hashHead_hashNext u a b) = qg_kind u ∧ qg_inA (qs_hashHead_hashNext u a b) = qg_inA u ∧ qg_inB (qs_hashHead_hashNext u a b) = qg_inB u ∧ qg_inC (qs_hashHead_hashNext u a b) = qg_inC u ∧ qg_hashHead (qs_hashHead_hashNext u a b) = a ∧ qg_hashNext (qs_hashHead_hashNext u a b) = b := ⟨rfl, rfl, rfl, rfl, rfl, rfl, rfl⟩
theorem gc_ad_g {u : SX} {a b c d e : Nat → Int32} : qg_counts (qs_counts_kind_inA_inB_inC u a b c d e) = a ∧ qg_kind (qs_counts_kind_inA_inB_inC u a b c d e) = b ∧ qg_inA (qs_counts_kind_inA_inB_inC u a b c d e) = c ∧ qg_inB (qs_counts_kind_inA_inB_inC u a b c d e) = d ∧ qg_inC (qs_counts_kind_inA_inB_inC u a b c d e) = e ∧ qg_hashHead (qs_counts_kind_inA_inB_inC u a b c d e) = qg_hashHead u ∧ qg_hashNext (qs_counts_kind_inA_inB_inC u a b c d e) = qg_hashNext u := ⟨rfl, rfl, rfl, rfl, rfl, rfl, rfl⟩
theorem gc_hs_e (u : SX) : qs_hashHead_hashNext u (qg_hashHead u) (qg_hashNext u) = u := rfl
theorem gc_add {post : Int32 → SX → Prop} {u : SX} {w c k a b e : Nat} (hw : w < 2) (h1 : qg_circuit u = nI w) (h2 : qg_counts u w = nI c) (hc : c < 2560) (hk : k < 128) (ha : a < 32768) (hb : b < 32768) (he : e < 32768) (K : post (nI c) (gc_ad w u c k a b e)) : wpX_add post u (nI k) (nI a) (nI b) (nI e) := by
  have e0 : (qg_circuit u).toNatClampNeg = w := by rw [h1]; exact nI_clamp (by omega)
  have e1 : qg_circuit u * 2560 + nI c = nI (w * 2560 + c) := by rw [h1]; exact gc_bs
  have i2 : vp_in (qg_circuit u) 2 := by rw [h1]; exact vp_in_nI hw (by decide)
  have i5 : vp_in (nI (w * 2560 + c)) 5120 := vp_in_nI (by omega) (by decide)
  have e5 : (nI (w * 2560 + c)).toNatClampNeg = w * 2560 + c := nI_clamp (by omega)
  refine uc_add ⟨i2, nm_r (e' := nI c) (by rw [e0]; exact h2) (nm_r e1 ⟨i5, ?_⟩)⟩
  refine nm_r (e' := upd (qg_kind u) (w * 2560 + c) (nI k)) (by rw [e5, gc_by hk]) ⟨i5, ?_⟩
  refine nm_r (e' := upd (qg_inA u) (w * 2560 + c) (nI a)) (by rw [e5, gc_sh ha]) ⟨i5, ?_⟩
  refine nm_r (e' := upd (qg_inB u) (w * 2560 + c) (nI b)) (by rw [e5, gc_sh hb]) ⟨i5, ?_⟩
  refine nm_r (e' := upd (qg_inC u) (w * 2560 + c) (nI e)) (by rw [e5, gc_sh he]) ⟨i2, i2, ?_⟩
  exact nm_r (e' := upd (qg_counts u) w (nI (c + 1))) (by rw [e0, h2, nI_1]) K
theorem gc_eg_W {u v : SX} (eg : gc_eg v = gc_eg u) : gc_W v = gc_W u := by have e := congrArg gc_W eg; exact e
theorem gc_eg_wr {u v : SX} (eg : gc_eg v = gc_eg u) : qg_wire v = qg_wire u := by have e := congrArg qg_wire eg; exact e
theorem gc_eg_ci {u v : SX} (eg : gc_eg v = gc_eg u) : qg_circuit v = qg_circuit u := by have e := congrArg qg_circuit eg; exact e
theorem gc_eg_ti {u v : SX} (eg : gc_eg v = gc_eg u) : qg_tidy v = qg_tidy u := by have e := congrArg qg_tidy eg; exact e
theorem gc_eg_ws {u v : SX} (eg : gc_eg v = gc_eg u) : qg_wires v = qg_wires u := by have e := congrArg qg_wires eg; exact e
theorem gc_new0 {w : Nat} {u v : SX} {c k a b e : Nat} (h : gc_WF w u) (hc : gc_cn w u = c) (hc2 : c + 1 ≤ 2560) (hk : 3 ≤ k ∧ k ≤ 7) (ha : a < c) (hb : b < c) (he : e < c) (h3 : k = 3 → b = 0) (h7 : k ≠ 7 → e = 0) (hH : gc_Hs w v)
    (ec : qg_counts v = upd (qg_counts u) w (nI (c + 1))) (ek : qg_kind v = upd (qg_kind u) (w * 2560 + c) (nI k)) (ea : qg_inA v = upd (qg_inA u) (w * 2560 + c) (nI a)) (eb : qg_inB v = upd (qg_inB u) (w * 2560 + c) (nI b)) (ee : qg_inC v = upd (qg_inC u) (w * 2560 + c) (nI e)) (eg : gc_eg v = gc_eg u) :
    gc_Gr w u v c (fun V => gc_op k (V a) (V b) (V e)) (fun d => gc_GL w u a d ∧ gc_GL w u b d ∧ gc_GL w u e d) := by
  have eW : gc_W v = gc_W u := gc_eg_W eg
  have cv : gc_cn w v = c + 1 := by unfold gc_cn; rw [ec, pk_us]; exact nI_clamp (by omega)
  obtain ⟨⟨w1, w2, w3, w4, w5, w6, w7, w8⟩, hK, hG, hF, _⟩ := h
  have Ex : gc_Ex w 8192 0 0 u v := by
    refine ⟨gc_lf (gc_gl eg), by omega, by omega, fun j hj => by rw [ec, pk_un hj], fun j _ => congrFun (gc_eg_wr eg) j, fun j hj => ?_⟩
    have hj' : j ≠ w * 2560 + c := by omega
    exact ⟨⟨by rw [ek, pk_un hj'], by rw [eb, pk_un hj'], by rw [ee, pk_un hj']⟩, fun _ => by rw [ea, pk_un hj']⟩
  have k1 : gc_k w v c = k := by unfold gc_k; rw [ek, pk_us]; exact nI_clamp (by omega)
  have a1 : gc_a w v c = a := by unfold gc_a; rw [ea, pk_us]; exact nI_clamp (by omega)
  have b1 : gc_b w v c = b := by unfold gc_b; rw [eb, pk_us]; exact nI_clamp (by omega)
  have e1 : gc_c w v c = e := by unfold gc_c; rw [ee, pk_us]; exact nI_clamp (by omega)
  have WF : gc_WF w v := by
    refine ⟨⟨w1, (gc_eg_ci eg).trans w2, (gc_eg_ti eg).trans w3, ?_, by omega, by omega, ?_, by omega⟩, fun g hg => ?_, fun g h0 hg => ?_, fun i hi => ?_, hH⟩
    · rw [cv, ec, pk_us]
    · rw [eW]; exact (gc_eg_ws eg).trans w7
    · rw [ek, pk_un (by omega)]; exact hK g hg
    · by_cases hgc : g = c
      · subst hgc
        refine ⟨k, a, b, e, ⟨by rw [ek, pk_us], by rw [ea, pk_us], by rw [eb, pk_us], by rw [ee, pk_us]⟩, hk, ⟨ha, hb, he⟩, h3, h7⟩
      · exact gc_Gt_mo Ex (by omega) h0 (by omega) (hG g h0 (by omega))
    · obtain ⟨x, hx, hx2⟩ := hF i hi
      exact ⟨x, by rw [ea, pk_un (by omega)]; exact hx, by omega⟩
  refine ⟨⟨WF, eg, Ex, by omega⟩, by omega, fun V hV => ?_, fun d hd => ?_⟩
  · have := hV.2.2 c (by omega) (by omega)
    rw [k1, a1, b1, e1] at this
    exact this
  · have key : gc_GL w v c (d + 1) := fun L hL => by
      have := (hL.2 c (by omega) (by omega)).2 d
      rw [a1, b1, e1] at this
      exact this (gc_GL_mo Ex (by omega) hd.1 L hL) (gc_GL_mo Ex (by omega) hd.2.1 L hL) (gc_GL_mo Ex (by omega) hd.2.2 L hL)
    refine ⟨key, fun hA g hg => ?_⟩
    by_cases hgc : g = c
    · rw [hgc]; exact key
    · exact gc_GL_mo Ex (by omega) (hA g (by omega))
theorem gc_new {w : Nat} {u : SX} {c k a b e : Nat} {hn hh : Nat → Int32} (h : gc_WF w u) (hc : gc_cn w u = c) (hc2 : c + 1 ≤ 2560) (hk : 3 ≤ k ∧ k ≤ 7) (ha : a < c) (hb : b < c) (he : e < c) (h3 : k = 3 → b = 0) (h7 : k ≠ 7 → e = 0) (hH : gc_Hs w (qs_hashHead_hashNext (gc_ad w u c k a b e) hh hn)) : gc_Gr w u (qs_hashHead_hashNext (gc_ad w u c k a b e) hh hn) c (fun V => gc_op k (V a) (V b) (V e)) (fun d => gc_GL w u a d ∧ gc_GL w u b d ∧ gc_GL w u e d) :=
  gc_new0 h hc hc2 hk ha hb he h3 h7 hH (by rw [gc_hs_g.1]; exact gc_ad_g.1) (by rw [gc_hs_g.2.1]; exact gc_ad_g.2.1) (by rw [gc_hs_g.2.2.1]; exact gc_ad_g.2.2.1) (by rw [gc_hs_g.2.2.2.1]; exact gc_ad_g.2.2.2.1) (by rw [gc_hs_g.2.2.2.2.1]; exact gc_ad_g.2.2.2.2.1) (by rw [gc_eg_hs]; exact gc_eg_ad)
theorem gc_shv {x : Int32} {n : Nat} (h : x = -1 ∨ ∃ g, x = nI g ∧ 215 ≤ g ∧ g < n) (hn : n ≤ 2560) : vp_nar .short x = x := by
  rcases h with rfl | ⟨g, rfl, _, hg⟩
  · exact gc_shm
  · exact gc_sh' (by omega)
theorem gc_gate36 {post : Int32 → SX → Prop} {u : SX} {k a b e m : Nat} (h : gc_WF 1 u) (hc : gc_cn 1 u + 1 ≤ 2560) (hk : 3 ≤ k ∧ k ≤ 7) (ha : a < gc_cn 1 u) (hb : b < gc_cn 1 u) (he : e < gc_cn 1 u) (h3 : k = 3 → b = 0) (h7 : k ≠ 7 → e = 0) (hm : m < 1024)
    (K : ∀ r u', gc_Gr 1 u u' r (fun V => gc_op k (V a) (V b) (V e)) (fun d => gc_GL 1 u a d ∧ gc_GL 1 u b d ∧ gc_GL 1 u e d) → post (nI r) u') :
    ∀ (n : Nat) (x : Int32), (x = -1 ∨ ∃ g, x = nI g ∧ 215 ≤ g ∧ g < gc_cn 1 u ∧ g < n) → ux_gate_36 post (nI k) (nI a) (nI b) (nI e) (nI m) (n + 1) x u := by
  obtain ⟨⟨w1, w2, w3, w4, w5, w6, w7, w8⟩, hK, hG, hF, hH⟩ := id h
  have cm : (nI m).toNatClampNeg = m := nI_clamp (by omega)
  have im : vp_in (nI m) 1024 := vp_in_nI hm (by decide)
  have fin : ∀ n, ux_gate_36 post (nI k) (nI a) (nI b) (nI e) (nI m) (n + 1) (-1) u := by
    intro n
    refine uc_gate_36 (br_t gc_m1 ?_)
    refine gc_add (c := gc_cn 1 u) (by decide) w2 w4 (by omega) (by omega) (by omega) (by omega) (by omega) ?_
    refine ⟨im, vp_in_nI (by omega) (by decide), ?_⟩
    refine nm_r (e' := upd (qg_hashNext u) (gc_cn 1 u) (qg_hashHead u m)) ?_ ⟨im, ?_⟩
    · unfold gc_ad
      rw [gc_ad_g.2.2.2.2.2.1, gc_ad_g.2.2.2.2.2.2, cm, nI_clamp (by omega), gc_shv ((hH rfl).1 m hm) (by omega)]
    refine nm_r (e' := upd (qg_hashHead u) m (nI (gc_cn 1 u))) ?_ ?_
    · unfold gc_ad
      rw [gc_ad_g.2.2.2.2.2.1, cm, gc_sh (by omega)]
    refine K _ _ (gc_new h rfl hc hk ha hb he h3 h7 fun _ => ?_)
    have cv : gc_cn 1 (qs_hashHead_hashNext (gc_ad 1 u (gc_cn 1 u) k a b e) (upd (qg_hashHead u) m (nI (gc_cn 1 u))) (upd (qg_hashNext u) (gc_cn 1 u) (qg_hashHead u m))) = gc_cn 1 u + 1 := by
      unfold gc_cn gc_ad
      rw [gc_hs_g.1, gc_ad_g.1, pk_us]; exact nI_clamp (by unfold gc_cn at hc; omega)
    rw [cv]
    refine ⟨fun q hq => ?_, fun g h0 hg => ?_⟩
    · rw [gc_hs_g.2.2.2.2.2.1]
      by_cases hqm : q = m
      · rw [hqm, pk_us]; exact Or.inr ⟨_, rfl, w5, by omega⟩
      · rw [pk_un hqm]
        rcases (hH rfl).1 q hq with h | ⟨x, hx, h1, h2⟩
        · exact Or.inl h
        · exact Or.inr ⟨x, hx, h1, by omega⟩
    · rw [gc_hs_g.2.2.2.2.2.2]
      by_cases hqm : g = gc_cn 1 u
      · rw [hqm, pk_us]; exact (hH rfl).1 m hm
      · rw [pk_un hqm]; exact (hH rfl).2 g h0 (by omega)
  intro n
  induction n with
  | zero =>
    intro x hx
    rcases hx with rfl | ⟨g, _, _, _, hg⟩
    · exact fin 0
    · omega
  | succ n ih =>
    intro x hx
    rcases hx with rfl | ⟨g, rfl, h0, hg, hn⟩
    · exact fin (n + 1)
    have i5 : vp_in (nI (1 * 2560 + g)) 5120 := vp_in_nI (by omega) (by decide)
    have e5 : (nI (1 * 2560 + g)).toNatClampNeg = 1 * 2560 + g := nI_clamp (by omega)
    have cont : vp_in (nI g) 2560 ∧ ∀ x, x = qg_hashNext u (nI g).toNatClampNeg → ux_gate_36 post (nI k) (nI a) (nI b) (nI e) (nI m) (n + 1) x u := by
      refine ⟨vp_in_nI (by omega) (by decide), nm_r (e' := qg_hashNext u g) (by rw [nI_clamp (by omega)]) (ih _ ?_)⟩
      rcases (hH rfl).2 g h0 hg with h | ⟨x, hx, h1, h2⟩
      · exact Or.inl h
      · exact Or.inr ⟨x, hx, h1, by omega, by omega⟩
    have gn := gc_Gt_n (hG g h0 hg) (by omega)
    refine uc_gate_36 (br_f (nI_pos (by omega)) (nm_r (e' := nI (1 * 2560 + g)) (nI_add 2560 g) ⟨i5, br_c (fun q1 => ⟨i5, br_c (fun q2 => ⟨i5, br_c (fun q3 => ⟨i5, br_c (fun q4 => ?_) fun _ => cont⟩) fun _ => cont⟩) fun _ => cont⟩) fun _ => cont⟩))
    rw [e5] at q1 q2 q3 q4
    have k1 : gc_k 1 u g = k := by unfold gc_k; rw [q1]; exact nI_clamp (by omega)
    have a1 : gc_a 1 u g = a := by unfold gc_a; rw [q2]; exact nI_clamp (by omega)
    have b1 : gc_b 1 u g = b := by unfold gc_b; rw [q3]; exact nI_clamp (by omega)
    have e1 : gc_c 1 u g = e := by unfold gc_c; rw [q4]; exact nI_clamp (by omega)
    refine K g u (gc_Gr_sf h hg (fun V hV => ?_) fun d hd L hL => ?_)
    · have := hV.2.2 g h0 hg
      rw [k1, a1, b1, e1] at this
      exact this
    · have := (hL.2 g h0 hg).2 d
      rw [a1, b1, e1] at this
      exact this (hd.1 L hL) (hd.2.1 L hL) (hd.2.2 L hL)
theorem gc_gate {post : Int32 → SX → Prop} {u : SX} {w k a b e : Nat} (h : gc_WF w u) (hc : gc_cn w u + 1 ≤ 2560) (hk : 3 ≤ k ∧ k ≤ 7) (ha : a < gc_cn w u) (hb : b < gc_cn w u) (he : e < gc_cn w u) (h3 : k = 3 → b = 0) (h7 : k ≠ 7 → e = 0)
    (K : ∀ r u', gc_Gr w u u' r (fun V => gc_op k (V a) (V b) (V e)) (fun d => gc_GL w u a d ∧ gc_GL w u b d ∧ gc_GL w u e d) → post (nI r) u') : wpX_gate post u (nI k) (nI a) (nI b) (nI e) := by
  obtain ⟨⟨w1, w2, w3, w4, w5, w6, w7, w8⟩, hK, hG, hF, hH⟩ := id h
  have hw : w = 0 ∨ w = 1 := by omega
  rcases hw with rfl | rfl
  · refine uc_gate (br_t (by rw [w3]; rfl) ?_)
    refine gc_add (c := gc_cn 0 u) (by decide) w2 w4 (by omega) (by omega) (by omega) (by omega) (by omega) ?_
    have N := gc_new (hh := qg_hashHead (gc_ad 0 u (gc_cn 0 u) k a b e)) (hn := qg_hashNext (gc_ad 0 u (gc_cn 0 u) k a b e)) h rfl hc hk ha hb he h3 h7 fun z => absurd z (by decide)
    rw [gc_hs_e] at N
    exact K _ _ N
  · refine uc_gate (br_f (by rw [w3]; decide) ?_)
    refine uc_markFor ?_
    obtain ⟨m, hm, em⟩ := pk_andE (nI k * 31 + nI a * 7 + nI b * 101 + nI e * 577) (m := 1023) 10 (by decide)
    rw [em]
    refine ⟨vp_in_nI hm (by decide), nm_r (e' := qg_hashHead u m) (by rw [nI_clamp (by omega)]) ⟨gc_cn 1 u + 1, ?_⟩⟩
    refine gc_gate36 h hc hk ha hb he h3 h7 hm K _ _ ?_
    rcases (hH rfl).1 m hm with h | ⟨x, hx, h1, h2⟩
    · exact Or.inl h
    · exact Or.inr ⟨x, hx, h1, h2, h2⟩
end
section
/-! not, and, or, xor, choice -/
theorem gc_GL0 {w : Nat} {u : SX} {g d : Nat} (h : g < 215) : gc_GL w u g d := fun L hL => by rw [hL.1 g h]; omega
theorem gc_isNot {post : Int32 → Prop} {u : SX} {w g : Nat} (h : gc_WF w u) (hg : g < gc_cn w u) (K1 : gc_k w u g = 3 → 215 ≤ g → post 1) (K0 : post 0) : wpX_isNot post u (nI g) := by
  obtain ⟨⟨w1, w2, w3, w4, w5, w6, w7, w8⟩, hK, hG, hF, hH⟩ := h
  have ei : qg_circuit u * 2560 + nI g = nI (w * 2560 + g) := by rw [w2]; exact gc_bs
  refine uc_isNot ?_
  rw [ei, nI_clamp (by omega)]
  refine ⟨vp_in_nI (by omega) (by decide), br_c (fun q => ?_) fun _ => K0⟩
  refine K1 (by unfold gc_k; rw [q]; rfl) ?_
  rcases Nat.lt_or_ge g 215 with hl | hl
  · exfalso
    have := hK g hl
    rw [q] at this
    have h3 : (3 : Nat) = gc_k0 g := (nI_eq (a := 3) (by decide) (by unfold gc_k0; split; decide; split <;> decide)).mp this
    unfold gc_k0 at h3
    split at h3
    · omega
    · split at h3 <;> omega
  · exact hl
theorem gc_not {post : Int32 → SX → Prop} {u : SX} {w a : Nat} (h : gc_WF w u) (hc : gc_cn w u + 1 ≤ 2560) (ha : a < gc_cn w u)
    (K : ∀ r u', gc_Gr w u u' r (fun V => !(V a)) (fun d => gc_GL w u a d) → post (nI r) u') : wpX_not post u (nI a) := by
  obtain ⟨⟨w1, w2, w3, w4, w5, w6, w7, w8⟩, hK, hG, hF, hH⟩ := id h
  have base : ux_not_47 post (nI a) u := by
    refine uc_not_47 ?_
    refine gc_gate (k := 3) (a := a) (b := 0) (e := 0) h hc (by decide) ha (by omega) (by omega) (fun _ => rfl) (fun _ => rfl) ?_
    intro r u' hr
    exact K r u' (gc_Gr_im hr (fun V _ => rfl) fun d hd => ⟨hd, gc_GL0 (by omega), gc_GL0 (by omega)⟩)
  have hw : w = 0 ∨ w = 1 := by omega
  rcases hw with rfl | rfl
  · exact uc_not (br_t (by rw [w3]; rfl) (uc_not_16 (br_t (by rw [w3]; rfl) base)))
  · refine uc_not (br_f (by rw [w3]; decide) (pk_lt 1 a (fun q => ?_) fun q => ?_))
    · refine uc_not_16 (br_f (by rw [w3]; decide) ?_)
      refine gc_isNot h ha (fun q1 q2 => br_f (by decide) ?_) (br_t rfl base)
      have ei : qg_circuit u * 2560 + nI a = nI (1 * 2560 + a) := by rw [w2]; exact gc_bs
      have gn := gc_Gt_n (hG a q2 ha) (by omega)
      rw [ei, nI_clamp (by omega), gn.1.2.1]
      refine ⟨vp_in_nI (by omega) (by decide), K _ _ (gc_Gr_sf h (by omega) (fun V hV => ?_) fun d hd L hL => ?_)⟩
      · have := hV.2.2 a q2 ha
        rw [q1] at this
        rw [this]
        show V (gc_a 1 u a) = !(!(V (gc_a 1 u a)))
        rw [Bool.not_not]
      · have := (hL.2 a q2 ha).1
        have := hd L hL
        omega
    · rw [show (1 : Int32) - nI a = nI (1 - a) from pk_sub q]
      refine K _ _ (gc_Gr_sf h (by omega) (fun V hV => ?_) fun d _ => gc_GL0 (by omega))
      have ha' : a = 0 ∨ a = 1 := by omega
      rcases ha' with rfl | rfl
      · show V 1 = !(V 0)
        rw [hV.1, hV.2.1]; rfl
      · show V 0 = !(V 1)
        rw [hV.1, hV.2.1]; rfl
theorem gc_opp {post : Int32 → Prop} {u : SX} {w x y : Nat} (h : gc_WF w u) (hx : x < gc_cn w u) (hy : y < gc_cn w u) (K1 : (∀ V, gc_Cs w u V → V x = !(V y)) → post 1) (K0 : post 0) : wpX_areOpposite post u (nI x) (nI y) := by
  obtain ⟨⟨w1, w2, w3, w4, w5, w6, w7, w8⟩, hK, hG, hF, hH⟩ := id h
  have b31 : ux_areOpposite_31 post (nI x) (nI y) u := by
    refine uc_areOpposite_31 (uc_areOpposite_32 (br_t rfl ?_))
    refine gc_isNot h hy (fun q1 q2 => br_f (by decide) ?_) (br_t rfl K0)
    have ei : qg_circuit u * 2560 + nI y = nI (w * 2560 + y) := by rw [w2]; exact gc_bs
    have gn := gc_Gt_n (hG y q2 hy) (by omega)
    rw [ei, nI_clamp (by omega), gn.1.2.1]
    refine ⟨vp_in_nI (by omega) (by decide), br_c (fun q3 => K1 fun V hV => ?_) fun _ => K0⟩
    have e := (nI_eq (by omega) (by omega)).mp q3
    have := hV.2.2 y q2 hy
    rw [q1, e] at this
    rw [this]
    show V x = !(!(V x))
    rw [Bool.not_not]
  refine uc_areOpposite ?_
  refine gc_isNot h hx (fun q1 q2 => br_f (by decide) ?_) (br_t rfl b31)
  have ei : qg_circuit u * 2560 + nI x = nI (w * 2560 + x) := by rw [w2]; exact gc_bs
  have gn := gc_Gt_n (hG x q2 hx) (by omega)
  rw [ei, nI_clamp (by omega), gn.1.2.1]
  refine ⟨vp_in_nI (by omega) (by decide), br_c (fun q3 => uc_areOpposite_32 (br_f (by decide) (K1 fun V hV => ?_))) fun _ => b31⟩
  have e := (nI_eq (by omega) (by omega)).mp q3
  have := hV.2.2 x q2 hx
  rw [q1, e] at this
  exact this
theorem gc_and21 {post : Int32 → SX → Prop} {u : SX} {w a b : Nat} (h : gc_WF w u) (hc : gc_cn w u + 1 ≤ 2560) (ha : a < gc_cn w u) (hb : b < gc_cn w u)
    (K : ∀ r u', gc_Gr w u u' r (fun V => V a && V b) (fun d => gc_GL w u a d ∧ gc_GL w u b d) → post (nI r) u') : ux_and_21 post (nI a) (nI b) u := by
  obtain ⟨⟨w1, w2, w3, w4, w5, w6, w7, w8⟩, hK, hG, hF, hH⟩ := id h
  have base : ux_and_60 post (nI a) (nI b) u := by
    refine uc_and_60 ?_
    refine gc_gate (k := 4) (a := a) (b := b) (e := 0) h hc (by decide) ha hb (by omega) (fun z => absurd z (by decide)) (fun _ => rfl) ?_
    intro r u' hr
    exact K r u' (gc_Gr_im hr (fun V _ => rfl) fun d hd => ⟨hd.1, hd.2, gc_GL0 (by omega)⟩)
  have Kb : (∀ V, gc_Cs w u V → V b = (V a && V b)) → post (nI b) u := fun e => K _ _ (gc_Gr_sf h hb e fun d hd => gc_GL_le hd.2 (by omega))
  have K0 : (∀ V, gc_Cs w u V → V 0 = (V a && V b)) → post 0 u := fun e => K 0 _ (gc_Gr_sf h (by omega) e fun d hd => gc_GL0 (by omega))
  have hw : w = 0 ∨ w = 1 := by omega
  rcases hw with rfl | rfl
  · exact uc_and_21 (br_t (by rw [w3]; rfl) base)
  · refine uc_and_21 (br_f (by rw [w3]; decide) (pk_eq a 0 (fun q => K0 fun V hV => by rw [q, hV.1]; rfl) fun q => ?_))
    refine gc_opp h ha hb (fun e => br_f (by decide) (K0 fun V hV => ?_)) (br_t rfl ?_)
    · rw [hV.1, e V hV]; cases V b <;> rfl
    · refine pk_eq a 1 (fun q => Kb fun V hV => by rw [q, hV.2.1]; rfl) fun q => ?_
      exact pk_eq a b (fun q => Kb fun V hV => by rw [q]; cases V b <;> rfl) fun q => base
theorem gc_and {post : Int32 → SX → Prop} {u : SX} {w x y : Nat} (h : gc_WF w u) (hc : gc_cn w u + 1 ≤ 2560) (hx : x < gc_cn w u) (hy : y < gc_cn w u)
    (K : ∀ r u', gc_Gr w u u' r (fun V => V x && V y) (fun d => gc_GL w u x d ∧ gc_GL w u y d) → post (nI r) u') : wpX_and post u (nI x) (nI y) := by
  have := h.1.2.2.2.2.2.1
  refine uc_and (pk_le y x (fun q => ?_) fun q => ?_)
  · refine uc_and_10 (br_t (nI_le q (by omega)) (gc_and21 h hc hy hx fun r u' hr => K r u' (gc_Gr_im hr (fun V _ => Bool.and_comm _ _) fun d hd => ⟨hd.2, hd.1⟩)))
  · exact uc_and_10 (br_f (nI_ge q (by omega)) (gc_and21 h hc hx hy K))
theorem gc_or21 {post : Int32 → SX → Prop} {u : SX} {w a b : Nat} (h : gc_WF w u) (hc : gc_cn w u + 1 ≤ 2560) (ha : a < gc_cn w u) (hb : b < gc_cn w u)
    (K : ∀ r u', gc_Gr w u u' r (fun V => V a || V b) (fun d => gc_GL w u a d ∧ gc_GL w u b d) → post (nI r) u') : ux_or_21 post (nI a) (nI b) u := by
  obtain ⟨⟨w1, w2, w3, w4, w5, w6, w7, w8⟩, hK, hG, hF, hH⟩ := id h
  have base : ux_or_66 post (nI a) (nI b) u := by
    refine uc_or_66 ?_
    refine gc_gate (k := 5) (a := a) (b := b) (e := 0) h hc (by decide) ha hb (by omega) (fun z => absurd z (by decide)) (fun _ => rfl) ?_
    intro r u' hr
    exact K r u' (gc_Gr_im hr (fun V _ => rfl) fun d hd => ⟨hd.1, hd.2, gc_GL0 (by omega)⟩)
  have Kb : (∀ V, gc_Cs w u V → V b = (V a || V b)) → post (nI b) u := fun e => K _ _ (gc_Gr_sf h hb e fun d hd => gc_GL_le hd.2 (by omega))
  have K1 : (∀ V, gc_Cs w u V → V 1 = (V a || V b)) → post 1 u := fun e => K 1 _ (gc_Gr_sf h (by omega) e fun d hd => gc_GL0 (by omega))
  have hw : w = 0 ∨ w = 1 := by omega
  rcases hw with rfl | rfl
  · exact uc_or_21 (br_t (by rw [w3]; rfl) base)
  · refine uc_or_21 (br_f (by rw [w3]; decide) (pk_eq a 1 (fun q => K1 fun V hV => by rw [q, hV.2.1]; rfl) fun q => pk_eq b 1 (fun q => K1 fun V hV => by rw [q, hV.2.1]; cases V a <;> rfl) fun q => ?_))
    refine gc_opp h ha hb (fun e => br_f (by decide) (K1 fun V hV => ?_)) (br_t rfl ?_)
    · rw [hV.2.1, e V hV]; cases V b <;> rfl
    · refine pk_eq a 0 (fun q => Kb fun V hV => by rw [q, hV.1]; rfl) fun q => ?_
      exact pk_eq a b (fun q => Kb fun V hV => by rw [q]; cases V b <;> rfl) fun q => base
theorem gc_or {post : Int32 → SX → Prop} {u : SX} {w x y : Nat} (h : gc_WF w u) (hc : gc_cn w u + 1 ≤ 2560) (hx : x < gc_cn w u) (hy : y < gc_cn w u)
    (K : ∀ r u', gc_Gr w u u' r (fun V => V x || V y) (fun d => gc_GL w u x d ∧ gc_GL w u y d) → post (nI r) u') : wpX_or post u (nI x) (nI y) := by
  have := h.1.2.2.2.2.2.1
  refine uc_or (pk_le y x (fun q => ?_) fun q => ?_)
  · refine uc_or_10 (br_t (nI_le q (by omega)) (gc_or21 h hc hy hx fun r u' hr => K r u' (gc_Gr_im hr (fun V _ => Bool.or_comm _ _) fun d hd => ⟨hd.2, hd.1⟩)))
  · exact uc_or_10 (br_f (nI_ge q (by omega)) (gc_or21 h hc hx hy K))
theorem gc_xor21 {post : Int32 → SX → Prop} {u : SX} {w a b : Nat} (h : gc_WF w u) (hc : gc_cn w u + 1 ≤ 2560) (ha : a < gc_cn w u) (hb : b < gc_cn w u)
    (K : ∀ r u', gc_Gr w u u' r (fun V => V a ^^ V b) (fun d => gc_GL w u a d ∧ gc_GL w u b d) → post (nI r) u') : ux_xor_21 post (nI a) (nI b) u := by
  obtain ⟨⟨w1, w2, w3, w4, w5, w6, w7, w8⟩, hK, hG, hF, hH⟩ := id h
  have base : ux_xor_69 post (nI a) (nI b) u := by
    refine uc_xor_69 ?_
    refine gc_gate (k := 6) (a := a) (b := b) (e := 0) h hc (by decide) ha hb (by omega) (fun z => absurd z (by decide)) (fun _ => rfl) ?_
    intro r u' hr
    exact K r u' (gc_Gr_im hr (fun V _ => rfl) fun d hd => ⟨hd.1, hd.2, gc_GL0 (by omega)⟩)
  have hw : w = 0 ∨ w = 1 := by omega
  rcases hw with rfl | rfl
  · exact uc_xor_21 (br_t (by rw [w3]; rfl) base)
  · refine uc_xor_21 (br_f (by rw [w3]; decide) (pk_eq a 0 (fun q => K b u (gc_Gr_sf h hb (fun V hV => by rw [q, hV.1]; cases V b <;> rfl) fun d hd => gc_GL_le hd.2 (by omega))) fun q => pk_eq a 1 (fun q => ?_) fun q => ?_))
    · refine gc_not h hc hb fun r u' hr => K r u' (gc_Gr_im hr (fun V hV => ?_) fun d hd => hd.2)
      rw [q, hV.2.1]; cases V b <;> rfl
    · refine pk_eq a b (fun q => K 0 u (gc_Gr_sf h (by omega) (fun V hV => by rw [q, hV.1]; cases V b <;> rfl) fun d hd => gc_GL0 (by omega))) fun q => ?_
      refine gc_opp h ha hb (fun e => br_f (by decide) (K 1 u (gc_Gr_sf h (by omega) (fun V hV => ?_) fun d hd => gc_GL0 (by omega)))) (br_t rfl base)
      rw [hV.2.1, e V hV]; cases V b <;> rfl
theorem gc_xor {post : Int32 → SX → Prop} {u : SX} {w x y : Nat} (h : gc_WF w u) (hc : gc_cn w u + 1 ≤ 2560) (hx : x < gc_cn w u) (hy : y < gc_cn w u)
    (K : ∀ r u', gc_Gr w u u' r (fun V => V x ^^ V y) (fun d => gc_GL w u x d ∧ gc_GL w u y d) → post (nI r) u') : wpX_xor post u (nI x) (nI y) := by
  have := h.1.2.2.2.2.2.1
  refine uc_xor (pk_le y x (fun q => ?_) fun q => ?_)
  · refine uc_xor_10 (br_t (nI_le q (by omega)) (gc_xor21 h hc hy hx fun r u' hr => K r u' (gc_Gr_im hr (fun V _ => Bool.xor_comm _ _) fun d hd => ⟨hd.2, hd.1⟩)))
  · exact uc_xor_10 (br_f (nI_ge q (by omega)) (gc_xor21 h hc hx hy K))
theorem gc_choiceOf {post : Int32 → SX → Prop} {u : SX} {w s x y : Nat} (h : gc_WF w u) (hc : gc_cn w u + 1 ≤ 2560) (hs : s < gc_cn w u) (hx : x < gc_cn w u) (hy : y < gc_cn w u) (hxy : w = 1 → x ≠ y)
    (K : ∀ r u', gc_Gr w u u' r (fun V => if V s then V x else V y) (fun d => gc_GL w u s d ∧ gc_GL w u x d ∧ gc_GL w u y d) → post (nI r) u') : wpX_choiceOf post u (nI s) (nI x) (nI y) := by
  obtain ⟨⟨w1, w2, w3, w4, w5, w6, w7, w8⟩, hK, hG, hF, hH⟩ := id h
  have base : ux_choiceOf_69 post (nI s) (nI x) (nI y) u := by
    refine uc_choiceOf_69 ?_
    refine gc_gate (k := 7) (a := s) (b := x) (e := y) h hc (by decide) hs hx hy (fun z => absurd z (by decide)) (fun z => absurd rfl z) ?_
    intro r u' hr
    exact K r u' (gc_Gr_im hr (fun V _ => rfl) fun d hd => hd)
  have hw : w = 0 ∨ w = 1 := by omega
  rcases hw with rfl | rfl
  · exact uc_choiceOf (br_t (by rw [w3]; rfl) (uc_choiceOf_32 (br_t (by rw [w3]; rfl) (uc_choiceOf_50 (br_t (by rw [w3]; rfl) base)))))
  · have b50 : ux_choiceOf_50 post (nI s) (nI x) (nI y) u := by
      refine uc_choiceOf_50 (br_f (by rw [w3]; decide) (pk_eq x 1 (fun q => ?_) fun _ => base))
      refine gc_or h hc hs hy fun r u' hr => K r u' (gc_Gr_im hr (fun V hV => ?_) fun d hd => ⟨hd.1, hd.2.2⟩)
      rw [q, hV.2.1]; cases V s <;> rfl
    have b32 : ux_choiceOf_32 post (nI s) (nI x) (nI y) u := by
      refine uc_choiceOf_32 (br_f (by rw [w3]; decide) (pk_eq y 0 (fun q => ?_) fun _ => b50))
      refine gc_and h hc hs hx fun r u' hr => K r u' (gc_Gr_im hr (fun V hV => ?_) fun d hd => ⟨hd.1, hd.2.1⟩)
      rw [q, hV.1]; cases V s <;> rfl
    refine uc_choiceOf (br_f (by rw [w3]; decide) (pk_lt 1 x (fun _ => b32) fun q1 => pk_lt 1 y (fun _ => b32) fun q2 => pk_eq x 1 (fun q3 => ?_) fun q3 => ?_))
    · refine K _ _ (gc_Gr_sf h hs (fun V hV => ?_) fun d hd => gc_GL_le hd.1 (by omega))
      have := hxy rfl
      have hy0 : y = 0 := by omega
      rw [q3, hy0, hV.1, hV.2.1]; cases V s <;> rfl
    · refine gc_not h hc hs fun r u' hr => K r u' (gc_Gr_im hr (fun V hV => ?_) fun d hd => hd.1)
      have := hxy rfl
      have hx0 : x = 0 := by omega
      have hy1 : y = 1 := by omega
      rw [hx0, hy1, hV.1, hV.2.1]; cases V s <;> rfl
theorem gc_choice {post : Int32 → SX → Prop} {u : SX} {w s x y : Nat} (h : gc_WF w u) (hc : gc_cn w u + 1 ≤ 2560) (hs : s < gc_cn w u) (hx : x < gc_cn w u) (hy : y < gc_cn w u)
    (K : ∀ r u', gc_Gr w u u' r (fun V => if V s then V x else V y) (fun d => gc_GL w u s d ∧ gc_GL w u x d ∧ gc_GL w u y d) → post (nI r) u') : wpX_choice post u (nI s) (nI x) (nI y) := by
  obtain ⟨⟨w1, w2, w3, w4, w5, w6, w7, w8⟩, hK, hG, hF, hH⟩ := id h
  have hw : w = 0 ∨ w = 1 := by omega
  rcases hw with rfl | rfl
  · exact uc_choice (br_t (by rw [w3]; rfl) (uc_choice_59 (gc_choiceOf h hc hs hx hy (fun z => absurd z (by decide)) K)))
  · have Kx : (∀ V, gc_Cs 1 u V → V x = if V s then V x else V y) → post (nI x) u := fun e => K _ _ (gc_Gr_sf h hx e fun d hd => gc_GL_le hd.2.1 (by omega))
    refine uc_choice (br_f (by rw [w3]; decide) (pk_eq s 1 (fun q => Kx fun V hV => by rw [q, hV.2.1]; rfl) fun q1 => pk_eq x y (fun q => Kx fun V hV => by rw [q]; cases V s <;> rfl) fun q2 => pk_eq s 0 (fun q => ?_) fun q3 => ?_))
    · exact K _ _ (gc_Gr_sf h hy (fun V hV => by rw [q, hV.1]; rfl) fun d hd => gc_GL_le hd.2.2 (by omega))
    · refine gc_isNot h hs (fun k1 k2 => br_f (by decide) ?_) (br_t rfl (uc_choice_59 (gc_choiceOf h hc hs hx hy (fun _ => q2) K)))
      have ei : qg_circuit u * 2560 + nI s = nI (1 * 2560 + s) := by rw [w2]; exact gc_bs
      have gn := gc_Gt_n (hG s k2 hs) (by omega)
      rw [ei, nI_clamp (by omega), gn.1.2.1]
      refine ⟨vp_in_nI (by omega) (by decide), nm_e ?_⟩
      refine gc_choiceOf h hc (by omega) hy hx (fun _ => Ne.symm q2) fun r u' hr => K r u' (gc_Gr_im hr (fun V hV => ?_) fun d hd => ⟨fun L hL => ?_, hd.2.2, hd.2.1⟩)
      · have := hV.2.2 s k2 hs
        rw [k1] at this
        rw [this]
        show (if V (gc_a 1 u s) = true then V y else V x) = if (!(V (gc_a 1 u s))) = true then V x else V y
        cases V (gc_a 1 u s) <;> rfl
      · have := (hL.2 s k2 hs).1
        have := hd.1 L hL
        omega
end
section
/-! bundles of wires: what a loop over the bits keeps -/
theorem gc_wrt {P : (Nat → Int32) → Prop} {f : Nat → Int32} {X : Int32} {j r : Nat} (hX : X = nI j) (hj : j < 8192) (hr : r < 32768) (h : P (upd f j (nI r))) : vp_in X 8192 ∧ ∀ a : Nat → Int32, a = upd f X.toNatClampNeg (vp_nar .short (nI r).toInt16.toInt32) → P a := by
  subst hX
  refine ⟨vp_in_nI hj (by decide), nm_r (e' := upd f j (nI r)) ?_ h⟩
  rw [nI_clamp (by omega), gc_sh hr]
theorem gc_wrt' {P : (Nat → Int32) → Prop} {f : Nat → Int32} {X : Int32} {j r : Nat} (hX : X = nI j) (hj : j < 8192) (hr : r < 32768) (h : P (upd f j (nI r))) : vp_in X 8192 ∧ ∀ a : Nat → Int32, a = upd f X.toNatClampNeg (vp_nar .short (nI r)) → P a := by
  subst hX
  refine ⟨vp_in_nI hj (by decide), nm_r (e' := upd f j (nI r)) ?_ h⟩
  rw [nI_clamp (by omega), gc_sh' hr]
theorem gc_rdx {f : Nat → Int32} {X : Int32} {j a : Nat} (hX : X = nI j) (hj : j < 8192) (h : f j = nI a) : f X.toNatClampNeg = nI a := by
  rw [hX, nI_clamp (by omega)]; exact h
theorem gc_vin {X : Int32} {j : Nat} (hX : X = nI j) (hj : j < 8192) : vp_in X 8192 := by
  rw [hX]; exact vp_in_nI hj (by decide)
def gc_Bu (w : Nat) (u : SX) (x n : Nat) (G : Nat → Nat) : Prop := x + n ≤ gc_W u ∧ ∀ i, i < n → qg_wire u (x + i) = nI (G i) ∧ G i < gc_cn w u
theorem gc_Bu_mo {w b lo hi : Nat} {u v : SX} {x n : Nat} {G : Nat → Nat} (h : gc_Ex w b lo hi u v) (hb : x + n ≤ b) (B : gc_Bu w u x n G) : gc_Bu w v x n G :=
  ⟨Nat.le_trans B.1 h.2.2.1, fun i hi => ⟨(gc_Ex_wr h (by omega)).trans (B.2 i hi).1, Nat.lt_of_lt_of_le (B.2 i hi).2 h.2.1⟩⟩
theorem gc_Bu_sb {w : Nat} {u : SX} {x n k m : Nat} {G : Nat → Nat} (B : gc_Bu w u x n G) (h : k + m ≤ n) : gc_Bu w u (x + k) m (fun i => G (k + i)) :=
  ⟨by have := B.1; omega, fun i hi => by have := B.2 (k + i) (by omega); rw [← Nat.add_assoc] at this; exact this⟩
/-- temporaries and gates alone change -/
def gc_Nt (w k : Nat) (u u' : SX) : Prop := gc_WF w u' ∧ gc_el u' = gc_el u ∧ gc_Ex w 8192 0 0 u u' ∧ gc_cn w u' ≤ gc_cn w u + k ∧ gc_W u' = gc_W u ∧ qg_wire u' = qg_wire u
theorem gc_Nt_ng {w k : Nat} {u v : SX} (h : gc_Ng w k u v) : gc_Nt w k u v := ⟨h.1, gc_gl h.2.1, h.2.2.1, h.2.2.2, gc_Ng_W h, gc_Ng_wr h⟩
theorem gc_Nt_tr {w k l : Nat} {u v x : SX} (h : gc_Nt w k u v) (h' : gc_Nt w l v x) : gc_Nt w (k + l) u x := by
  obtain ⟨a1, a2, a3, a4, a5, a6⟩ := h
  obtain ⟨b1, b2, b3, b4, b5, b6⟩ := h'
  exact ⟨b1, b2.trans a2, gc_Ex_tr a3 b3, by omega, b5.trans a5, b6.trans a6⟩
theorem gc_Nt_Ex {w k : Nat} {u v : SX} (h : gc_Nt w k u v) (b lo hi : Nat) (hb : b ≤ 8192) : gc_Ex w b lo hi u v := gc_Ex_mo h.2.2.1 hb (Or.inr (Nat.le_refl _)) (Or.inr (Nat.le_refl _))
/-- a step of the layout: k gates, m wires, d levels at most -/
def gc_Go (w k m d : Nat) (u u' : SX) : Prop := gc_WF w u' ∧ gc_el u' = gc_el u ∧ gc_Ex w (gc_W u) 0 0 u u' ∧ gc_cn w u' ≤ gc_cn w u + k ∧ gc_W u' = gc_W u + m ∧ ∀ e, gc_AL w u e → gc_AL w u' (e + d)
theorem gc_Go_rf {w : Nat} {u : SX} (h : gc_WF w u) : gc_Go w 0 0 0 u u := ⟨h, rfl, gc_Ex_rf, by omega, rfl, fun _ h => h⟩
theorem gc_Go_tr {w k m d k' m' d' : Nat} {u v x : SX} (h : gc_Go w k m d u v) (h' : gc_Go w k' m' d' v x) : gc_Go w (k + k') (m + m') (d + d') u x := by
  obtain ⟨a1, a2, a3, a4, a5, a6⟩ := h
  obtain ⟨b1, b2, b3, b4, b5, b6⟩ := h'
  refine ⟨b1, b2.trans a2, gc_Ex_tr a3 (gc_Ex_mo b3 (by omega) (Or.inr (Nat.le_refl _)) (Or.inr (Nat.le_refl _))), by omega, by omega, fun e he => ?_⟩
  have := b6 _ (a6 e he)
  rw [Nat.add_assoc] at this
  exact this
theorem gc_Go_le {w k m d k' d' : Nat} {u v : SX} (h : gc_Go w k m d u v) (hk : k ≤ k') (hd : d ≤ d') : gc_Go w k' m d' u v :=
  ⟨h.1, h.2.1, h.2.2.1, by have := h.2.2.2.1; omega, h.2.2.2.2.1, fun e he => gc_AL_le (h.2.2.2.2.2 e he) (by omega)⟩
theorem gc_Go_gr {w : Nat} {u v : SX} {r : Nat} {f : (Nat → Bool) → Bool} {P : Nat → Prop} (hu : gc_WF w u) (h : gc_Gr w u v r f P) (hP : ∀ d, gc_AL w u d → P d) : gc_Go w 1 0 1 u v :=
  ⟨h.1.1, gc_gl h.1.2.1, gc_Ng_Ex h.1 _ _ _ hu.1.2.2.2.2.2.2.2, h.1.2.2.2, gc_Ng_W h.1, fun e he => (h.2.2.2 e (hP e he)).2 (gc_AL_le he (by omega))⟩
theorem gc_Go_Cs {w k m d : Nat} {u v : SX} {V : Nat → Bool} (h : gc_Go w k m d u v) (c : gc_Cs w v V) : gc_Cs w u V := gc_Cs_mo h.2.2.1 (by omega) c
theorem gc_Go_Bu {w k m d : Nat} {u v : SX} {x n : Nat} {G : Nat → Nat} (h : gc_Go w k m d u v) (B : gc_Bu w u x n G) : gc_Bu w v x n G := gc_Bu_mo h.2.2.1 B.1 B
theorem gc_Go_cn {w k m d : Nat} {u v : SX} (h : gc_Go w k m d u v) : gc_cn w u ≤ gc_cn w v := h.2.2.1.2.1
theorem gc_Go_W {w k m d : Nat} {u v : SX} (h : gc_Go w k m d u v) : gc_W v = gc_W u + m := h.2.2.2.2.1
theorem gc_WFcn {w : Nat} {u : SX} (h : gc_WF w u) : gc_cn w u ≤ 2560 ∧ 215 ≤ gc_cn w u ∧ gc_W u ≤ 8192 := ⟨h.1.2.2.2.2.2.1, h.1.2.2.2.2.1, h.1.2.2.2.2.2.2.2⟩

def gc_LI (w : Nat) (u0 : SX) (z Wn k d i : Nat) (Q : Nat → (Nat → Bool) → Bool) (u : SX) : Prop :=
  gc_WF w u ∧ gc_el u = gc_el u0 ∧ gc_Ex w z 0 0 u0 u ∧ gc_cn w u ≤ gc_cn w u0 + k ∧ gc_W u = Wn ∧ (∀ e, gc_AL w u0 e → gc_AL w u (e + d)) ∧ ∀ j, j < i → ∃ g, qg_wire u (z + j) = nI g ∧ g < gc_cn w u ∧ ∀ V, gc_Cs w u V → V g = Q j V
theorem gc_LI_st {w : Nat} {u0 u u1 : SX} {z Wn k k1 d d' i r : Nat} {Q : Nat → (Nat → Bool) → Bool} (h : gc_LI w u0 z Wn k d i Q u) (hz : z ≤ 8192) (hg : gc_Nt w k1 u u1) (hr : r < gc_cn w u1) (hs : ∀ V, gc_Cs w u1 V → V r = Q i V) (hl : ∀ e, gc_AL w u0 e → gc_AL w u1 (e + d')) : gc_LI w u0 z Wn (k + k1) d' (i + 1) Q (qs_wire u1 (upd (qg_wire u1) (z + i) (nI r))) := by
  obtain ⟨a1, a2, a3, a4, a5, a6, a7⟩ := h
  obtain ⟨b1, b2, b3, b4, b5, b6⟩ := hg
  have x1 : gc_Ex w z 0 0 u0 u1 := gc_Ex_tr a3 (gc_Ex_mo b3 hz (Or.inr (Nat.le_refl _)) (Or.inr (Nat.le_refl _)))
  refine ⟨b1, b2.trans a2, ⟨x1.1, x1.2.1, x1.2.2.1, x1.2.2.2.1, fun j hj => ?_, x1.2.2.2.2.2⟩, ?_, b5.trans a5, hl, fun j hj => ?_⟩
  · show upd (qg_wire u1) (z + i) (nI r) j = _
    rw [pk_un (by omega)]; exact x1.2.2.2.2.1 j hj
  · show gc_cn w u1 ≤ _
    omega
  · show ∃ g, upd (qg_wire u1) (z + i) (nI r) (z + j) = nI g ∧ g < gc_cn w u1 ∧ ∀ V, gc_Cs w u1 V → V g = Q j V
    by_cases e : j = i
    · rw [e, pk_us]; exact ⟨r, rfl, hr, hs⟩
    · rw [pk_un (by omega), b6]
      obtain ⟨g, g1, g2, g3⟩ := a7 j (by omega)
      exact ⟨g, g1, Nat.lt_of_lt_of_le g2 b3.2.1, fun V hV => g3 V (gc_Cs_mo b3 (by omega) hV)⟩
theorem gc_LI_fin {w : Nat} {u0 u : SX} {z Wn k d n : Nat} {Q : Nat → (Nat → Bool) → Bool} (h : gc_LI w u0 z Wn k d n Q u) (hz : z + n ≤ Wn) : ∃ G, gc_Bu w u z n G ∧ ∀ V, gc_Cs w u V → ∀ j, j < n → V (G j) = Q j V := by
  obtain ⟨a1, a2, a3, a4, a5, a6, a7⟩ := h
  have hc := (gc_WFcn a1).1
  have key : ∀ j, j < n → qg_wire u (z + j) = nI (qg_wire u (z + j)).toNatClampNeg ∧ (qg_wire u (z + j)).toNatClampNeg < gc_cn w u ∧ ∀ V, gc_Cs w u V → V (qg_wire u (z + j)).toNatClampNeg = Q j V := by
    intro j hj
    obtain ⟨g, g1, g2, g3⟩ := a7 j hj
    rw [g1, nI_clamp (by omega)]
    exact ⟨rfl, g2, g3⟩
  exact ⟨fun j => (qg_wire u (z + j)).toNatClampNeg, ⟨by omega, fun i hi => ⟨(key i hi).1, (key i hi).2.1⟩⟩, fun V hV j hj => (key j hj).2.2 V hV⟩
theorem gc_LI_go {w : Nat} {u0 u : SX} {Wn k d n : Nat} {Q : Nat → (Nat → Bool) → Bool} (h : gc_LI w u0 (gc_W u0) Wn k d n Q u) {m : Nat} (hW : Wn = gc_W u0 + m) : gc_Go w k m d u0 u :=
  ⟨h.1, h.2.1, h.2.2.1, h.2.2.2.1, h.2.2.2.2.1.trans hW, h.2.2.2.2.2.1⟩
theorem gc_bundle {post : Int32 → SX → Prop} {u : SX} {w n : Nat} (h : gc_WF w u) (K : post (nI (gc_W u)) (qs_wires u (nI (gc_W u + n)))) : wpX_bundle post u (nI n) := by
  have e := h.1.2.2.2.2.2.2.1
  refine uc_bundle (nm_r (e' := nI (gc_W u + n)) (by rw [e, nI_add]) ?_)
  rw [e]; exact K
theorem gc_buW {u : SX} {m : Nat} (hm : m ≤ 8192) : gc_W (qs_wires u (nI m)) = m := nI_clamp (n := m) (by omega)
theorem gc_buWF {w : Nat} {u : SX} {m : Nat} (h : gc_WF w u) (hm : m ≤ 8192) : gc_WF w (qs_wires u (nI m)) := by
  obtain ⟨⟨w1, w2, w3, w4, w5, w6, w7, w8⟩, hr⟩ := h
  exact ⟨⟨w1, w2, w3, w4, w5, w6, by rw [gc_buW hm]; rfl, by rw [gc_buW hm]; exact hm⟩, hr⟩
theorem gc_buEx {w b : Nat} {u : SX} {n : Nat} (h : gc_W u + n ≤ 8192) : gc_Ex w b 0 0 u (qs_wires u (nI (gc_W u + n))) :=
  ⟨rfl, Nat.le_refl _, by rw [gc_buW h]; omega, fun _ _ => rfl, fun _ _ => rfl, fun _ _ => ⟨⟨rfl, rfl, rfl⟩, fun _ => rfl⟩⟩
theorem gc_LI_0 {w : Nat} {u : SX} {n d : Nat} {Q : Nat → (Nat → Bool) → Bool} (h : gc_WF w u) (hm : gc_W u + n ≤ 8192) : gc_LI w u (gc_W u) (gc_W u + n) 0 d 0 Q (qs_wires u (nI (gc_W u + n))) :=
  ⟨gc_buWF h hm, rfl, gc_buEx hm, Nat.le_refl _, gc_buW hm, fun e he => gc_AL_le (u := qs_wires u (nI (gc_W u + n))) he (by omega), fun j hj => absurd hj (by omega)⟩
theorem gc_buGo {w : Nat} {u : SX} {n : Nat} (h : gc_WF w u) (hm : gc_W u + n ≤ 8192) : gc_Go w 0 n 0 u (qs_wires u (nI (gc_W u + n))) := gc_LI_go (gc_LI_0 (Q := fun _ _ => false) (d := 0) h hm) rfl

theorem gc_bunFrom {post : Int32 → SX → Prop} {u : SX} {w g n : Nat} (h : gc_WF w u) (hg : g + n ≤ 215) (hm : gc_W u + n ≤ 8192)
    (K : ∀ u', gc_Go w 0 n 0 u u' → gc_Bu w u' (gc_W u) n (fun i => g + i) → post (nI (gc_W u)) u') : wpX_bundleFrom post u (nI g) (nI n) := by
  have loop : ∀ f i v, i ≤ n → n - i < f → gc_LI w u (gc_W u) (gc_W u + n) 0 0 0 (fun _ _ => false) v → (∀ j, j < i → qg_wire v (gc_W u + j) = nI (g + j)) → ux_bundleFrom_9 post (nI g) (nI n) (nI (gc_W u)) f (nI i) v := by
    intro f
    induction f with
    | zero => intro i v _ h2; omega
    | succ f ih =>
      intro i v h1 h2 I hv
      refine uc_bundleFrom_9 (pk_le n i (fun q => ?_) fun q => ?_)
      · refine K v (gc_LI_go I rfl) ⟨by rw [I.2.2.2.2.1]; omega, fun j hj => ⟨hv j (by omega), ?_⟩⟩
        have := (gc_WFcn I.1).2.1
        show g + j < _
        omega
      · rw [nI_add g i]
        refine gc_wrt (nI_add _ _) (by omega) (by omega) (nm_r (nI_1 i) (ih (i + 1) _ (by omega) (by omega) ?_ fun j hj => ?_))
        · obtain ⟨a1, a2, x1, a4, a5, a6, a7⟩ := I
          refine ⟨a1, a2, ⟨x1.1, x1.2.1, x1.2.2.1, x1.2.2.2.1, fun j hj => ?_, x1.2.2.2.2.2⟩, a4, a5, a6, fun j hj => absurd hj (by omega)⟩
          show upd (qg_wire v) (gc_W u + i) (nI (g + i)) j = _
          rw [pk_un (by omega)]; exact x1.2.2.2.2.1 j hj
        · show upd (qg_wire v) (gc_W u + i) (nI (g + i)) (gc_W u + j) = _
          by_cases e : j = i
          · rw [e, pk_us]
          · rw [pk_un (by omega)]; exact hv j (by omega)
  exact uc_bundleFrom (gc_bundle h ⟨n + 1, loop (n + 1) 0 _ (by omega) (by omega) (gc_LI_0 h hm) fun j hj => absurd hj (by omega)⟩)

theorem gc_chB {post : Int32 → SX → Prop} {u : SX} {w s x y n : Nat} {A B : Nat → Nat} (h : gc_WF w u) (hs : s < gc_cn w u) (hA : gc_Bu w u x n A) (hB : gc_Bu w u y n B) (hc : gc_cn w u + n ≤ 2560) (hm : gc_W u + n ≤ 8192)
    (K : ∀ G u', gc_Go w n n 1 u u' → gc_Bu w u' (gc_W u) n G → (∀ V, gc_Cs w u' V → ∀ j, j < n → V (G j) = if V s then V (A j) else V (B j)) → post (nI (gc_W u)) u') : wpX_chooseBundle post u (nI s) (nI x) (nI y) (nI n) := by
  have loop : ∀ f i v, i ≤ n → n - i < f → gc_LI w u (gc_W u) (gc_W u + n) i 1 i (fun j V => if V s then V (A j) else V (B j)) v → ux_chooseBundle_11 post (nI s) (nI x) (nI y) (nI n) (nI (gc_W u)) f (nI i) v := by
    intro f
    induction f with
    | zero => intro i v _ h2; omega
    | succ f ih =>
      intro i v h1 h2 I
      have hA1 := hA.1
      have hB1 := hB.1
      refine uc_chooseBundle_11 (pk_le n i (fun q => ?_) fun q => ?_)
      · have e : i = n := by omega
        subst e
        obtain ⟨G, G1, G2⟩ := gc_LI_fin I (Nat.le_refl _)
        exact K G v (gc_LI_go I rfl) G1 G2
      · have Ex := I.2.2.1
        have cx := Ex.2.1
        have cy := I.2.2.2.1
        rw [gc_rdx (nI_add x i) (by omega) ((gc_Ex_wr Ex (by omega)).trans (hA.2 i q).1), gc_rdx (nI_add y i) (by omega) ((gc_Ex_wr Ex (by omega)).trans (hB.2 i q).1)]
        refine ⟨gc_vin (nI_add _ _) (by omega), gc_vin (nI_add _ _) (by omega), gc_choice I.1 (by omega) (by omega) (by have := (hA.2 i q).2; omega) (by have := (hB.2 i q).2; omega) fun r u' hr => ?_⟩
        have hr2 := hr.2.1
        have := (gc_WFcn hr.1.1).1
        refine gc_wrt (nI_add _ _) (by omega) (by omega) (nm_r (nI_1 i) (ih (i + 1) _ (by omega) (by omega) ?_))
        refine gc_LI_st I (by omega) (gc_Nt_ng hr.1) hr2 hr.2.2.1 fun e he => (hr.2.2.2 e ⟨gc_GL_mo Ex (by omega) (he s hs), gc_GL_mo Ex (by omega) (he _ (hA.2 i q).2), gc_GL_mo Ex (by omega) (he _ (hB.2 i q).2)⟩).2 (I.2.2.2.2.2.1 e he)
  exact uc_chooseBundle (gc_bundle h ⟨n + 1, loop (n + 1) 0 _ (by omega) (by omega) (gc_LI_0 h hm)⟩)

theorem gc_joB {post : Int32 → SX → Prop} {u : SX} {w k x y : Nat} {A B : Nat → Nat} (h : gc_WF w u) (hk : k = 4 ∨ k = 5 ∨ k = 6) (hA : gc_Bu w u x 8 A) (hB : gc_Bu w u y 8 B) (hc : gc_cn w u + 8 ≤ 2560) (hm : gc_W u + 8 ≤ 8192)
    (K : ∀ G u', gc_Go w 8 8 1 u u' → gc_Bu w u' (gc_W u) 8 G → (∀ V, gc_Cs w u' V → ∀ j, j < 8 → V (G j) = gc_op k (V (A j)) (V (B j)) false) → post (nI (gc_W u)) u') : wpX_joinBundles post u (nI k) (nI x) (nI y) := by
  have loop : ∀ f i v, i ≤ 8 → 8 - i < f → gc_LI w u (gc_W u) (gc_W u + 8) i 1 i (fun j V => gc_op k (V (A j)) (V (B j)) false) v → ux_joinBundles_11 post (nI k) (nI x) (nI y) (nI (gc_W u)) f (nI i) v := by
    intro f
    induction f with
    | zero => intro i v _ h2; omega
    | succ f ih =>
      intro i v h1 h2 I
      have hA1 := hA.1
      have hB1 := hB.1
      refine uc_joinBundles_11 (pk_le 8 i (fun q => ?_) fun q => ?_)
      · have e : i = 8 := by omega
        subst e
        obtain ⟨G, G1, G2⟩ := gc_LI_fin I (Nat.le_refl _)
        exact K G v (gc_LI_go I rfl) G1 G2
      · have Ex := I.2.2.1
        have cx := Ex.2.1
        have cy := I.2.2.2.1
        have ha := (hA.2 i q).2
        have hb := (hB.2 i q).2
        have go : ∀ (fn : Bool → Bool → Bool) (_ : ∀ p q, fn p q = gc_op k p q false) r u', gc_Gr w v u' r (fun V => fn (V (A i)) (V (B i))) (fun d => gc_GL w v (A i) d ∧ gc_GL w v (B i) d) → vp_in (nI (gc_W u) + nI i) 8192 ∧ ∀ a : Nat → Int32, a = upd (qg_wire u') (nI (gc_W u) + nI i).toNatClampNeg (vp_nar .short (nI r).toInt16.toInt32) → ∀ t : Int32, t = nI i + 1 → ux_joinBundles_11 post (nI k) (nI x) (nI y) (nI (gc_W u)) f t (qs_wire u' a) := by
          intro fn hf r u' hr
          have hr2 := hr.2.1
          have := (gc_WFcn hr.1.1).1
          refine gc_wrt (nI_add _ _) (by omega) (by omega) (nm_r (nI_1 i) (ih (i + 1) _ (by omega) (by omega) ?_))
          refine gc_LI_st I (by omega) (gc_Nt_ng hr.1) hr2 (fun V hV => (hr.2.2.1 V hV).trans (hf _ _)) fun e he => (hr.2.2.2 e ⟨gc_GL_mo Ex (by omega) (he _ ha), gc_GL_mo Ex (by omega) (he _ hb)⟩).2 (I.2.2.2.2.2.1 e he)
        refine ⟨gc_vin (nI_add _ _) (by omega), nm_r (e' := nI (A i)) (gc_rdx (nI_add x i) (by omega) ((gc_Ex_wr Ex (by omega)).trans (hA.2 i q).1)) ⟨gc_vin (nI_add _ _) (by omega), nm_r (e' := nI (B i)) (gc_rdx (nI_add y i) (by omega) ((gc_Ex_wr Ex (by omega)).trans (hB.2 i q).1)) ?_⟩⟩
        rcases hk with rfl | rfl | rfl
        · exact br_t rfl (gc_and I.1 (by omega) (by omega) (by omega) (go (· && ·) fun _ _ => rfl))
        · exact br_f (by decide) (br_t rfl (gc_or I.1 (by omega) (by omega) (by omega) (go (· || ·) fun _ _ => rfl)))
        · exact br_f (by decide) (br_f (by decide) (gc_xor I.1 (by omega) (by omega) (by omega) (go (· ^^ ·) fun _ _ => rfl)))
  exact uc_joinBundles (gc_bundle h ⟨8 + 1, loop (8 + 1) 0 _ (by omega) (by omega) (gc_LI_0 h hm)⟩)
end
section
/-! numbers of bits: no program in sight -/
def gc_vl (f : Nat → Bool) : Nat → Nat
  | 0 => 0
  | n + 1 => gc_vl f n + (if f n then 2 ^ n else 0)
theorem gc_vl_lt (f : Nat → Bool) (n : Nat) : gc_vl f n < 2 ^ n := by
  induction n with
  | zero => exact Nat.one_pos
  | succ n ih =>
    have e : 2 ^ (n + 1) = 2 * 2 ^ n := by rw [Nat.pow_succ, Nat.mul_comm]
    show gc_vl f n + (if f n then 2 ^ n else 0) < _
    split <;> omega
theorem gc_vl_cg {f g : Nat → Bool} {n : Nat} (h : ∀ j, j < n → f j = g j) : gc_vl f n = gc_vl g n := by
  induction n with
  | zero => rfl
  | succ n ih =>
    show gc_vl f n + (if f n then 2 ^ n else 0) = gc_vl g n + (if g n then 2 ^ n else 0)
    rw [ih fun j hj => h j (by omega), h n (by omega)]
theorem gc_vl_inj {f g : Nat → Bool} {n : Nat} (h : gc_vl f n = gc_vl g n) : ∀ j, j < n → f j = g j := by
  induction n with
  | zero => intro j hj; omega
  | succ n ih =>
    have e : gc_vl f n + (if f n then 2 ^ n else 0) = gc_vl g n + (if g n then 2 ^ n else 0) := h
    have l1 := gc_vl_lt f n
    have l2 := gc_vl_lt g n
    have key : f n = g n ∧ gc_vl f n = gc_vl g n := by
      cases h1 : f n <;> cases h2 : g n <;> simp [h1, h2] at e ⊢ <;> omega
    intro j hj
    by_cases ej : j = n
    · rw [ej]; exact key.1
    · exact ih key.2 j (by omega)
theorem gc_vl_add (f : Nat → Bool) (n m : Nat) : gc_vl f (n + m) = gc_vl f n + 2 ^ n * gc_vl (fun i => f (n + i)) m := by
  induction m with
  | zero => show gc_vl f n = gc_vl f n + 2 ^ n * 0; omega
  | succ m ih =>
    show gc_vl f (n + m) + (if f (n + m) then 2 ^ (n + m) else 0) = gc_vl f n + 2 ^ n * (gc_vl (fun i => f (n + i)) m + (if f (n + m) then 2 ^ m else 0))
    rw [ih, Nat.mul_add, Nat.add_assoc]
    congr 2
    split
    · rw [Nat.pow_add]
    · rfl
theorem gc_vl_s (f : Nat → Bool) (n : Nat) : gc_vl f (n + 1) = (if f 0 then 1 else 0) + 2 * gc_vl (fun i => f (i + 1)) n := by
  have := gc_vl_add f 1 n
  rw [Nat.add_comm 1 n] at this
  rw [this]
  have e : gc_vl f 1 = if f 0 then 1 else 0 := by
    show 0 + (if f 0 then 2 ^ 0 else 0) = _
    rw [Nat.zero_add]
  rw [e]
  congr 2
  exact gc_vl_cg fun j _ => by rw [Nat.add_comm]
theorem gc_vl_mod (f : Nat → Bool) {m n : Nat} (h : m ≤ n) : gc_vl f n % 2 ^ m = gc_vl f m := by
  obtain ⟨k, rfl⟩ : ∃ k, n = m + k := ⟨n - m, by omega⟩
  rw [gc_vl_add, Nat.add_mul_mod_self_left]
  exact Nat.mod_eq_of_lt (gc_vl_lt f m)
theorem gc_vl_div (f : Nat → Bool) {m n : Nat} (h : m ≤ n) : gc_vl f n / 2 ^ m = gc_vl (fun i => f (m + i)) (n - m) := by
  obtain ⟨k, rfl⟩ : ∃ k, n = m + k := ⟨n - m, by omega⟩
  rw [gc_vl_add, Nat.add_mul_div_left _ _ (Nat.two_pow_pos m), Nat.div_eq_of_lt (gc_vl_lt f m), Nat.zero_add, Nat.add_sub_cancel_left]
theorem gc_vl_tb (x n : Nat) : gc_vl (fun j => x.testBit j) n = x % 2 ^ n := by
  induction n with
  | zero => rw [Nat.pow_zero, Nat.mod_one]; rfl
  | succ n ih =>
    show gc_vl (fun j => x.testBit j) n + (if x.testBit n then 2 ^ n else 0) = _
    rw [ih, Nat.pow_succ, Nat.mod_mul, Nat.testBit_eq_decide_div_mod_eq]
    rcases Nat.mod_two_eq_zero_or_one (x / 2 ^ n) with h | h <;> rw [h] <;> simp
theorem gc_tb_vl {f : Nat → Bool} {n j : Nat} (h : j < n) : (gc_vl f n).testBit j = f j := by
  have e : gc_vl (fun j => (gc_vl f n).testBit j) n = gc_vl f n := by
    rw [gc_vl_tb]; exact Nat.mod_eq_of_lt (gc_vl_lt f n)
  exact gc_vl_inj e j h
theorem gc_vl_0 {f : Nat → Bool} {n : Nat} (h : ∀ j, j < n → f j = false) : gc_vl f n = 0 := by
  induction n with
  | zero => rfl
  | succ n ih =>
    show gc_vl f n + (if f n then 2 ^ n else 0) = 0
    rw [ih fun j hj => h j (by omega), h n (by omega)]; rfl
def gc_cr (fa fb : Nat → Bool) (c : Bool) : Nat → Bool
  | 0 => c
  | n + 1 => (fa n && fb n) || ((fa n ^^ fb n) && gc_cr fa fb c n)
def gc_sm (fa fb : Nat → Bool) (c : Bool) (n j : Nat) : Bool := if j < n then (fa j ^^ fb j) ^^ gc_cr fa fb c j else gc_cr fa fb c n
theorem gc_cr_sum (fa fb : Nat → Bool) (c : Bool) (n : Nat) : gc_vl (fun j => (fa j ^^ fb j) ^^ gc_cr fa fb c j) n + (if gc_cr fa fb c n then 2 ^ n else 0) = gc_vl fa n + gc_vl fb n + (if c then 1 else 0) := by
  induction n with
  | zero => show 0 + (if c then 2 ^ 0 else 0) = 0 + 0 + (if c then 1 else 0); rw [Nat.pow_zero]
  | succ n ih =>
    have e : 2 ^ (n + 1) = 2 * 2 ^ n := by rw [Nat.pow_succ, Nat.mul_comm]
    show gc_vl (fun j => (fa j ^^ fb j) ^^ gc_cr fa fb c j) n + (if ((fa n ^^ fb n) ^^ gc_cr fa fb c n) then 2 ^ n else 0) + (if ((fa n && fb n) || ((fa n ^^ fb n) && gc_cr fa fb c n)) then 2 ^ (n + 1) else 0) = gc_vl fa n + (if fa n then 2 ^ n else 0) + (gc_vl fb n + (if fb n then 2 ^ n else 0)) + (if c then 1 else 0)
    rw [e]
    generalize (if c = true then 1 else 0) = cc at ih ⊢
    cases fa n <;> cases fb n <;> cases h : gc_cr fa fb c n <;> simp [h] at ih ⊢ <;> omega
theorem gc_sm_vl (fa fb : Nat → Bool) (c : Bool) (n : Nat) : gc_vl (gc_sm fa fb c n) (n + 1) = gc_vl fa n + gc_vl fb n + (if c then 1 else 0) := by
  rw [← gc_cr_sum]
  show gc_vl (gc_sm fa fb c n) n + (if gc_sm fa fb c n n then 2 ^ n else 0) = _
  rw [gc_vl_cg (f := gc_sm fa fb c n) (g := fun j => (fa j ^^ fb j) ^^ gc_cr fa fb c j) fun j hj => if_pos hj]
  have : gc_sm fa fb c n n = gc_cr fa fb c n := if_neg (by omega)
  rw [this]
def gc_up (fa : Nat → Bool) : Nat → Bool
  | 0 => true
  | n + 1 => fa n && gc_up fa n
theorem gc_up_sum (fa : Nat → Bool) (n : Nat) : gc_vl (fun j => fa j ^^ gc_up fa j) n + (if gc_up fa n then 2 ^ n else 0) = gc_vl fa n + 1 := by
  induction n with
  | zero => rfl
  | succ n ih =>
    have e : 2 ^ (n + 1) = 2 * 2 ^ n := by rw [Nat.pow_succ, Nat.mul_comm]
    show gc_vl (fun j => fa j ^^ gc_up fa j) n + (if (fa n ^^ gc_up fa n) then 2 ^ n else 0) + (if (fa n && gc_up fa n) then 2 ^ (n + 1) else 0) = gc_vl fa n + (if fa n then 2 ^ n else 0) + 1
    rw [e]
    cases fa n <;> cases h : gc_up fa n <;> simp [h] at ih ⊢ <;> omega
theorem gc_up_vl (fa : Nat → Bool) (n : Nat) : gc_vl (fun j => fa j ^^ gc_up fa j) n = (gc_vl fa n + 1) % 2 ^ n := by
  have h := gc_up_sum fa n
  have l := gc_vl_lt (fun j => fa j ^^ gc_up fa j) n
  cases e : gc_up fa n
  · rw [e] at h
    simp at h
    rw [← h, Nat.mod_eq_of_lt l]
  · rw [e] at h
    simp at h
    rw [← h, Nat.add_mod_right, Nat.mod_eq_of_lt l]
def gc_nb (f : Nat → Bool) (x : Nat) : Nat → Bool
  | 0 => true
  | n + 1 => gc_nb f x n && (f n == x.testBit n)
theorem gc_nb_t {f : Nat → Bool} {x n : Nat} : gc_nb f x n = true ↔ ∀ j, j < n → f j = x.testBit j := by
  induction n with
  | zero => exact ⟨fun _ j hj => absurd hj (by omega), fun _ => rfl⟩
  | succ n ih =>
    show (gc_nb f x n && (f n == x.testBit n)) = true ↔ _
    rw [Bool.and_eq_true, ih, beq_iff_eq]
    constructor
    · intro h j hj
      by_cases e : j = n
      · rw [e]; exact h.2
      · exact h.1 j (by omega)
    · intro h
      exact ⟨fun j hj => h j (by omega), h n (by omega)⟩
theorem gc_nb_v {f : Nat → Bool} {x n : Nat} (hx : x < 2 ^ n) : gc_nb f x n = decide (gc_vl f n = x) := by
  rw [Bool.eq_iff_iff, gc_nb_t, decide_eq_true_iff]
  have e : gc_vl (fun j => x.testBit j) n = x := by rw [gc_vl_tb]; exact Nat.mod_eq_of_lt hx
  constructor
  · intro h
    rw [← e]; exact (gc_vl_cg h).trans (by rw [e])
  · intro h
    exact gc_vl_inj (h.trans e.symm)
def gc_an (f : Nat → Bool) : Nat → Bool
  | 0 => f 0
  | n + 1 => gc_an f n || f (n + 1)
theorem gc_an_v (f : Nat → Bool) (n : Nat) : (!(gc_an f n)) = decide (gc_vl f (n + 1) = 0) := by
  have h : gc_an f n = false ↔ ∀ j, j < n + 1 → f j = false := by
    induction n with
    | zero => exact ⟨fun h j hj => (show j = 0 by omega) ▸ h, fun h => h 0 (by omega)⟩
    | succ n ih =>
      show (gc_an f n || f (n + 1)) = false ↔ _
      rw [Bool.or_eq_false_iff, ih]
      constructor
      · intro h j hj
        by_cases e : j = n + 1
        · rw [e]; exact h.2
        · exact h.1 j (by omega)
      · intro h
        exact ⟨fun j hj => h j (by omega), h (n + 1) (by omega)⟩
  rw [Bool.eq_iff_iff, decide_eq_true_iff, Bool.not_eq_true', h]
  constructor
  · exact fun h => gc_vl_0 h
  · intro h0
    have : gc_vl f (n + 1) = gc_vl (fun _ => false) (n + 1) := by rw [h0, gc_vl_0 (f := fun _ => false) fun _ _ => rfl]
    exact gc_vl_inj this
/-- three rows added, the carries apart -/
theorem gc_csa (a b c : Nat → Bool) (n : Nat) : gc_vl (fun j => (a j ^^ b j) ^^ c j) n + 2 * gc_vl (fun j => (a j && b j) || ((a j ^^ b j) && c j)) n = gc_vl a n + gc_vl b n + gc_vl c n := by
  induction n with
  | zero => rfl
  | succ n ih =>
    show gc_vl (fun j => (a j ^^ b j) ^^ c j) n + (if ((a n ^^ b n) ^^ c n) then 2 ^ n else 0) + 2 * (gc_vl (fun j => (a j && b j) || ((a j ^^ b j) && c j)) n + (if ((a n && b n) || ((a n ^^ b n) && c n)) then 2 ^ n else 0)) = gc_vl a n + (if a n then 2 ^ n else 0) + (gc_vl b n + (if b n then 2 ^ n else 0)) + (gc_vl c n + (if c n then 2 ^ n else 0))
    cases a n <;> cases b n <;> cases c n <;> simp at ih ⊢ <;> omega
theorem gc_csa16 {a b c s m : Nat → Bool} (hs : ∀ j, j < 16 → s j = ((a j ^^ b j) ^^ c j)) (h0 : m 0 = false) (hm : ∀ j, j < 15 → m (j + 1) = ((a j && b j) || ((a j ^^ b j) && c j))) : (gc_vl s 16 + gc_vl m 16) % 65536 = (gc_vl a 16 + gc_vl b 16 + gc_vl c 16) % 65536 := by
  rw [← gc_csa, gc_vl_cg hs, gc_vl_s m 15, h0, gc_vl_cg (f := fun i => m (i + 1)) (n := 15) hm]
  have e : gc_vl (fun j => (a j && b j) || ((a j ^^ b j) && c j)) 16 = gc_vl (fun j => (a j && b j) || ((a j ^^ b j) && c j)) 15 + (if ((a 15 && b 15) || ((a 15 ^^ b 15) && c 15)) then 2 ^ 15 else 0) := rfl
  rw [e]
  generalize gc_vl (fun j => (a j ^^ b j) ^^ c j) 16 = X
  generalize gc_vl (fun j => (a j && b j) || ((a j ^^ b j) && c j)) 15 = M
  generalize ((a 15 && b 15) || ((a 15 ^^ b 15) && c 15)) = q
  cases q
  · show (X + (0 + 2 * M)) % 65536 = (X + 2 * (M + 0)) % 65536
    omega
  · show (X + (0 + 2 * M)) % 65536 = (X + 2 * (M + 2 ^ 15)) % 65536
    omega
theorem gc_part {X : Nat → Bool} {y : Bool} {row : Nat} (hr : row < 8) : gc_vl (fun i => if row ≤ i ∧ i < row + 8 then (X (i - row) && y) else false) 16 = 2 ^ row * (if y then gc_vl X 8 else 0) := by
  have e16 : 16 = row + (8 + (8 - row)) := by omega
  rw [e16, gc_vl_add, gc_vl_add]
  rw [gc_vl_0 (n := row) fun j hj => if_neg (by omega)]
  rw [gc_vl_0 (n := 8 - row) fun j hj => if_neg (by omega)]
  rw [gc_vl_cg (n := 8) (g := fun j => X j && y) fun j hj => by
    show (if row ≤ row + j ∧ row + j < row + 8 then (X (row + j - row) && y) else false) = _
    rw [if_pos (by omega), Nat.add_sub_cancel_left]]
  cases y
  · rw [gc_vl_0 (n := 8) fun j _ => Bool.and_false _]; simp
  · rw [gc_vl_cg (n := 8) (g := X) fun j _ => Bool.and_true _]; simp
theorem gc_mrow {X vY vZ vH vS vH' p : Nat} {y s0 : Bool} (h : vZ + p * vH = X * vY) (hS : vS = vH + (if y then X else 0)) (hs : vS = (if s0 then 1 else 0) + 2 * vH') : vZ + (if s0 then p else 0) + 2 * p * vH' = X * (vY + (if y then p else 0)) := by
  have e1 : p * vS = p * vH + p * (if y then X else 0) := by rw [hS, Nat.mul_add]
  have e2 : p * vS = p * (if s0 then 1 else 0) + p * (2 * vH') := by rw [hs, Nat.mul_add]
  have e3 : p * (2 * vH') = 2 * p * vH' := by rw [← Nat.mul_assoc, Nat.mul_comm p 2]
  rw [Nat.mul_add]
  cases y <;> cases s0 <;> simp at e1 e2 ⊢
  · omega
  · omega
  · have := Nat.mul_comm p X; omega
  · have := Nat.mul_comm p X; omega
end
section
/-! sums bit after bit, counting up -/
theorem gc_LI_nt {w : Nat} {u0 u u1 : SX} {z Wn k k1 d d' i : Nat} {Q : Nat → (Nat → Bool) → Bool} (h : gc_LI w u0 z Wn k d i Q u) (hz : z ≤ 8192) (hg : gc_Nt w k1 u u1) (hl : ∀ e, gc_AL w u0 e → gc_AL w u1 (e + d')) : gc_LI w u0 z Wn (k + k1) d' i Q u1 := by
  obtain ⟨a1, a2, a3, a4, a5, a6, a7⟩ := h
  obtain ⟨b1, b2, b3, b4, b5, b6⟩ := hg
  refine ⟨b1, b2.trans a2, gc_Ex_tr a3 (gc_Ex_mo b3 hz (Or.inr (Nat.le_refl _)) (Or.inr (Nat.le_refl _))), by omega, b5.trans a5, hl, fun j hj => ?_⟩
  obtain ⟨g, g1, g2, g3⟩ := a7 j (by omega)
  exact ⟨g, by rw [b6]; exact g1, Nat.lt_of_lt_of_le g2 b3.2.1, fun V hV => g3 V (gc_Cs_mo b3 (by omega) hV)⟩
theorem gc_Gr_Cs {w : Nat} {u v : SX} {r : Nat} {f : (Nat → Bool) → Bool} {P : Nat → Prop} {V : Nat → Bool} (h : gc_Gr w u v r f P) (c : gc_Cs w v V) : gc_Cs w u V := gc_Cs_mo h.1.2.2.1 (by omega) c
theorem gc_Gr_GL {w : Nat} {u v : SX} {r g d : Nat} {f : (Nat → Bool) → Bool} {P : Nat → Prop} (h : gc_Gr w u v r f P) (c : gc_GL w u g d) : gc_GL w v g d := gc_GL_mo h.1.2.2.1 (by omega) c
theorem gc_Gr_cn {w : Nat} {u v : SX} {r : Nat} {f : (Nat → Bool) → Bool} {P : Nat → Prop} (h : gc_Gr w u v r f P) : gc_cn w u ≤ gc_cn w v ∧ gc_cn w v ≤ gc_cn w u + 1 ∧ r < gc_cn w v ∧ gc_cn w v ≤ 2560 := ⟨h.1.2.2.1.2.1, h.1.2.2.2, h.2.1, (gc_WFcn h.1.1).1⟩
theorem gc_vA {w : Nat} {u v : SX} {r a b : Nat} {P : Nat → Prop} {V : Nat → Bool} (h : gc_Gr w u v r (fun V => V a && V b) P) (c : gc_Cs w v V) : V r = (V a && V b) := h.2.2.1 V c
theorem gc_vO {w : Nat} {u v : SX} {r a b : Nat} {P : Nat → Prop} {V : Nat → Bool} (h : gc_Gr w u v r (fun V => V a || V b) P) (c : gc_Cs w v V) : V r = (V a || V b) := h.2.2.1 V c
theorem gc_vX {w : Nat} {u v : SX} {r a b : Nat} {P : Nat → Prop} {V : Nat → Bool} (h : gc_Gr w u v r (fun V => V a ^^ V b) P) (c : gc_Cs w v V) : V r = (V a ^^ V b) := h.2.2.1 V c
theorem gc_vN {w : Nat} {u v : SX} {r a : Nat} {P : Nat → Prop} {V : Nat → Bool} (h : gc_Gr w u v r (fun V => !(V a)) P) (c : gc_Cs w v V) : V r = !(V a) := h.2.2.1 V c
theorem gc_vC {w : Nat} {u v : SX} {r s a b : Nat} {P : Nat → Prop} {V : Nat → Bool} (h : gc_Gr w u v r (fun V => if V s then V a else V b) P) (c : gc_Cs w v V) : V r = if V s then V a else V b := h.2.2.1 V c
theorem gc_LI_le {w : Nat} {u0 u : SX} {z Wn k k' d d' i : Nat} {Q : Nat → (Nat → Bool) → Bool} (h : gc_LI w u0 z Wn k d i Q u) (hk : k ≤ k') (hd : d ≤ d') : gc_LI w u0 z Wn k' d' i Q u :=
  ⟨h.1, h.2.1, h.2.2.1, by have := h.2.2.2.1; omega, h.2.2.2.2.1, fun e he => gc_AL_le (h.2.2.2.2.2.1 e he) (by omega), h.2.2.2.2.2.2⟩
theorem gc_addS {post : Int32 → SX → Prop} {u : SX} {w x y c n : Nat} {A B : Nat → Nat} (h : gc_WF w u) (hA : gc_Bu w u x n A) (hB : gc_Bu w u y n B) (hc : c < gc_cn w u) (hk : gc_cn w u + 5 * n ≤ 2560) (hm : gc_W u + (n + 1) ≤ 8192)
    (K : ∀ G u', gc_Go w (5 * n) (n + 1) (1 + 2 * n) u u' → gc_Bu w u' (gc_W u) (n + 1) G → (∀ V, gc_Cs w u' V → ∀ j, j < n + 1 → V (G j) = gc_sm (fun j => V (A j)) (fun j => V (B j)) (V c) n j) → post (nI (gc_W u)) u') : wpX_addSlowly post u (nI x) (nI y) (nI c) (nI n) := by
  have hA1 := hA.1
  have hB1 := hB.1
  have loop : ∀ f i v q, i ≤ n → n - i < f → gc_LI w u (gc_W u) (gc_W u + (n + 1)) (5 * i) (1 + 2 * i) i (fun j V => gc_sm (fun j => V (A j)) (fun j => V (B j)) (V c) n j) v → q < gc_cn w v → (∀ V, gc_Cs w v V → V q = gc_cr (fun j => V (A j)) (fun j => V (B j)) (V c) i) → (∀ e, gc_AL w u e → gc_GL w v q (e + (1 + 2 * i))) → ux_addSlowly_16 post (nI x) (nI y) (nI n) (nI (gc_W u)) f (nI q) (nI i) v := by
    intro f
    induction f with
    | zero => intro i v q _ h2; omega
    | succ f ih =>
      intro i v q h1 h2 I hq sq lq
      have cv := (gc_WFcn I.1).1
      refine uc_addSlowly_16 (pk_le n i (fun z => ?_) fun z => ?_)
      · have e : i = n := by omega
        subst e
        refine gc_wrt (nI_add _ _) (by omega) (by omega) ?_
        have I2 := gc_LI_st (r := q) (d' := 1 + 2 * i) I (by omega) (gc_Nt_ng (gc_Ng_rf I.1 0)) hq (fun V hV => (sq V hV).trans (if_neg (by omega)).symm) I.2.2.2.2.2.1
        obtain ⟨G, G1, G2⟩ := gc_LI_fin I2 (Nat.le_refl _)
        exact K G _ (gc_LI_go I2 rfl) G1 G2
      · have Ex := I.2.2.1
        have cx := Ex.2.1
        have cy := I.2.2.2.1
        have ha := (hA.2 i z).2
        have hb := (hB.2 i z).2
        refine ⟨gc_vin (nI_add _ _) (by omega), nm_r (e' := nI (A i)) (gc_rdx (nI_add x i) (by omega) ((gc_Ex_wr Ex (by omega)).trans (hA.2 i z).1)) ⟨gc_vin (nI_add _ _) (by omega), nm_r (e' := nI (B i)) (gc_rdx (nI_add y i) (by omega) ((gc_Ex_wr Ex (by omega)).trans (hB.2 i z).1)) ?_⟩⟩
        refine gc_xor I.1 (by omega) (by omega) (by omega) fun r1 v1 g1 => ?_
        have n1 := gc_Gr_cn g1
        refine gc_and g1.1.1 (by omega) (x := A i) (y := B i) (by omega) (by omega) fun r2 v2 g2 => ?_
        have n2 := gc_Gr_cn g2
        refine gc_and g2.1.1 (by omega) (x := r1) (y := q) (by omega) (by omega) fun r3 v3 g3 => ?_
        have n3 := gc_Gr_cn g3
        refine gc_xor g3.1.1 (by omega) (x := r1) (y := q) (by omega) (by omega) fun r4 v4 g4 => ?_
        have n4 := gc_Gr_cn g4
        refine gc_wrt (nI_add _ _) (by omega) (by omega) ?_
        have N4 := gc_Nt_tr (gc_Nt_tr (gc_Nt_tr (gc_Nt_ng g1.1) (gc_Nt_ng g2.1)) (gc_Nt_ng g3.1)) (gc_Nt_ng g4.1)
        have lv : ∀ e, gc_AL w u e → gc_AL w v4 (e + 2 + 2 * i) ∧ gc_GL w v4 r2 (e + 2 + 2 * i) ∧ gc_GL w v4 r3 (e + 2 + 2 * i) := by
          intro e he
          have l1 := g1.2.2.2 (e + 2 * i) ⟨gc_GL_le (gc_GL_mo Ex (by omega) (he _ ha)) (by omega), gc_GL_le (gc_GL_mo Ex (by omega) (he _ hb)) (by omega)⟩
          have l2 := g2.2.2.2 (e + 2 * i) ⟨gc_GL_le (gc_Gr_GL g1 (gc_GL_mo Ex (by omega) (he _ ha))) (by omega), gc_GL_le (gc_Gr_GL g1 (gc_GL_mo Ex (by omega) (he _ hb))) (by omega)⟩
          have l3 := g3.2.2.2 (e + 2 * i + 1) ⟨gc_Gr_GL g2 l1.1, gc_GL_le (gc_Gr_GL g2 (gc_Gr_GL g1 (lq e he))) (by omega)⟩
          have l4 := g4.2.2.2 (e + 2 * i + 1) ⟨gc_Gr_GL g3 (gc_Gr_GL g2 l1.1), gc_GL_le (gc_Gr_GL g3 (gc_Gr_GL g2 (gc_Gr_GL g1 (lq e he)))) (by omega)⟩
          have A2 := l2.2 (l1.2 (gc_AL_le (I.2.2.2.2.2.1 e he) (by omega)))
          exact ⟨gc_AL_le (l4.2 (l3.2 (gc_AL_le A2 (by omega)))) (by omega), gc_GL_le (gc_Gr_GL g4 (gc_Gr_GL g3 l2.1)) (by omega), gc_GL_le (gc_Gr_GL g4 l3.1) (by omega)⟩
        have s1 : ∀ V, gc_Cs w v4 V → V r1 = (V (A i) ^^ V (B i)) := fun V hV => g1.2.2.1 V (gc_Gr_Cs g2 (gc_Gr_Cs g3 (gc_Gr_Cs g4 hV)))
        have s2 : ∀ V, gc_Cs w v4 V → V r2 = (V (A i) && V (B i)) := fun V hV => g2.2.2.1 V (gc_Gr_Cs g3 (gc_Gr_Cs g4 hV))
        have sv : ∀ V, gc_Cs w v4 V → V q = gc_cr (fun j => V (A j)) (fun j => V (B j)) (V c) i := fun V hV => sq V (gc_Gr_Cs g1 (gc_Gr_Cs g2 (gc_Gr_Cs g3 (gc_Gr_Cs g4 hV))))
        have I2 := gc_LI_st (r := r4) (d' := 2 + 2 * i) I (by omega) N4 n4.2.2.1 (fun V hV => by
          rw [gc_vX g4 hV, s1 V hV, sv V hV]
          exact (if_pos z).symm) fun e he => gc_AL_le (lv e he).1 (by omega)
        have e4 : gc_cn w (qs_wire v4 (upd (qg_wire v4) (gc_W u + i) (nI r4))) = gc_cn w v4 := rfl
        refine gc_or I2.1 (by omega) (x := r2) (y := r3) (by omega) (by omega) fun r5 v5 g5 => nm_r (nI_1 i) ?_
        have n5 := gc_Gr_cn g5
        have l5 : ∀ e, gc_AL w u e → gc_GL w v5 r5 (e + (1 + 2 * (i + 1))) ∧ gc_AL w v5 (e + (1 + 2 * (i + 1))) := by
          intro e he
          have := g5.2.2.2 (e + 2 + 2 * i) ⟨(lv e he).2.1, (lv e he).2.2⟩
          exact ⟨gc_GL_le this.1 (by omega), gc_AL_le (this.2 (gc_AL_le (u := qs_wire v4 (upd (qg_wire v4) (gc_W u + i) (nI r4))) (lv e he).1 (by omega))) (by omega)⟩
        refine ih (i + 1) v5 r5 (by omega) (by omega) (gc_LI_le (gc_LI_nt (d' := 1 + 2 * (i + 1)) I2 (by omega) (gc_Nt_ng g5.1) fun e he => (l5 e he).2) (by omega) (Nat.le_refl _)) n5.2.2.1 (fun V hV => ?_) fun e he => (l5 e he).1
        have c4' := gc_Gr_Cs g5 hV
        have c4 : gc_Cs w v4 V := c4'
        rw [gc_vO g5 hV, s2 V c4, gc_vA g3 (gc_Gr_Cs g4 c4), s1 V c4, sv V c4]
        rfl
  refine uc_addSlowly ?_
  rw [nI_1 n]
  refine gc_bundle h ⟨n + 1, loop (n + 1) 0 _ c (by omega) (by omega) (gc_LI_0 h hm) hc (fun V hV => rfl) fun e he => gc_GL_le (u := qs_wires u (nI (gc_W u + (n + 1)))) (he c hc) (by omega)⟩
theorem gc_cntUp {post : Int32 → SX → Prop} {u : SX} {w x n : Nat} {A : Nat → Nat} (h : gc_WF w u) (hA : gc_Bu w u x n A) (hk : gc_cn w u + 2 * n ≤ 2560) (hm : gc_W u + n ≤ 8192)
    (K : ∀ G u', gc_Go w (2 * n) n n u u' → gc_Bu w u' (gc_W u) n G → (∀ V, gc_Cs w u' V → ∀ j, j < n → V (G j) = (V (A j) ^^ gc_up (fun j => V (A j)) j)) → post (nI (gc_W u)) u') : wpX_countUp post u (nI x) (nI n) := by
  have hA1 := hA.1
  have loop : ∀ f i v q, i ≤ n → n - i < f → gc_LI w u (gc_W u) (gc_W u + n) (2 * i) i i (fun j V => V (A j) ^^ gc_up (fun j => V (A j)) j) v → q < gc_cn w v → (∀ V, gc_Cs w v V → V q = gc_up (fun j => V (A j)) i) → (∀ e, gc_AL w u e → gc_GL w v q (e + i)) → ux_countUp_12 post (nI x) (nI n) (nI (gc_W u)) f (nI q) (nI i) v := by
    intro f
    induction f with
    | zero => intro i v q _ h2; omega
    | succ f ih =>
      intro i v q h1 h2 I hq sq lq
      have cv := (gc_WFcn I.1).1
      refine uc_countUp_12 (pk_le n i (fun z => ?_) fun z => ?_)
      · have e : i = n := by omega
        subst e
        obtain ⟨G, G1, G2⟩ := gc_LI_fin I (Nat.le_refl _)
        exact K G _ (gc_LI_go I rfl) G1 G2
      · have Ex := I.2.2.1
        have cx := Ex.2.1
        have cy := I.2.2.2.1
        have ha := (hA.2 i z).2
        refine ⟨gc_vin (nI_add _ _) (by omega), nm_r (e' := nI (A i)) (gc_rdx (nI_add x i) (by omega) ((gc_Ex_wr Ex (by omega)).trans (hA.2 i z).1)) ?_⟩
        refine gc_xor I.1 (by omega) (x := A i) (y := q) (by omega) (by omega) fun r1 v1 g1 => ?_
        have n1 := gc_Gr_cn g1
        refine gc_wrt (nI_add _ _) (by omega) (by omega) ?_
        have lA : ∀ e, gc_AL w u e → gc_GL w v (A i) (e + i) := fun e he => gc_GL_le (gc_GL_mo Ex (by omega) (he _ ha)) (by omega)
        have I2 := gc_LI_st (r := r1) (d' := i + 1) I (by omega) (gc_Nt_ng g1.1) n1.2.2.1 (fun V hV => by
          rw [gc_vX g1 hV, sq V (gc_Gr_Cs g1 hV)]) fun e he => (g1.2.2.2 (e + i) ⟨lA e he, lq e he⟩).2 (gc_AL_le (I.2.2.2.2.2.1 e he) (by omega))
        have e4 : gc_cn w (qs_wire v1 (upd (qg_wire v1) (gc_W u + i) (nI r1))) = gc_cn w v1 := rfl
        refine gc_and I2.1 (by omega) (x := A i) (y := q) (by omega) (by omega) fun r2 v2 g2 => nm_r (nI_1 i) ?_
        have n2 := gc_Gr_cn g2
        have l2 : ∀ e, gc_AL w u e → gc_GL w v2 r2 (e + i + 1) ∧ gc_AL w v2 (e + i + 1) := by
          intro e he
          have p1 : gc_GL w v1 (A i) (e + i) := gc_Gr_GL g1 (lA e he)
          have p2 : gc_GL w v1 q (e + i) := gc_Gr_GL g1 (lq e he)
          have := g2.2.2.2 (e + i) ⟨p1, p2⟩
          exact ⟨this.1, this.2 (I2.2.2.2.2.2.1 e he)⟩
        refine ih (i + 1) v2 r2 (by omega) (by omega) (gc_LI_le (gc_LI_nt (d' := i + 1) I2 (by omega) (gc_Nt_ng g2.1) fun e he => (l2 e he).2) (by omega) (Nat.le_refl _)) n2.2.2.1 (fun V hV => ?_) fun e he => (l2 e he).1
        have hV1' := gc_Gr_Cs g2 hV
        have hV1 : gc_Cs w v1 V := hV1'
        rw [gc_vA g2 hV, sq V (gc_Gr_Cs g1 hV1)]
        rfl
  have := (gc_WFcn h).2.1
  exact uc_countUp (gc_bundle h ⟨n + 1, loop (n + 1) 0 _ 1 (by omega) (by omega) (gc_LI_0 h hm) (show 1 < gc_cn w u by omega) (fun V hV => hV.2.1) fun e he => gc_GL0 (by omega)⟩)
end
section
/-! a store into a temporary field changes nothing that matters -/
theorem gc_Sc_Nt {w : Nat} {u v : SX} (h : gc_WF w u) (e1 : qg_circuit v = qg_circuit u) (e2 : qg_tidy v = qg_tidy u) (e3 : qg_counts v = qg_counts u) (e4 : qg_kind v = qg_kind u) (e5 : qg_inA v = qg_inA u) (e6 : qg_inB v = qg_inB u) (e7 : qg_inC v = qg_inC u) (e8 : qg_hashHead v = qg_hashHead u) (e9 : qg_hashNext v = qg_hashNext u) (e10 : qg_wires v = qg_wires u) (e11 : qg_wire v = qg_wire u) (e12 : gc_el v = gc_el u) : gc_Nt w 0 u v := by
  have c : gc_cn w v = gc_cn w u := by unfold gc_cn; rw [e3]
  have W : gc_W v = gc_W u := by unfold gc_W; rw [e10]
  refine ⟨?_, e12, ⟨gc_lf e12, by omega, by omega, fun j _ => by rw [e3], fun j _ => by rw [e11], fun j _ => ⟨⟨by rw [e4], by rw [e6], by rw [e7]⟩, fun _ => by rw [e5]⟩⟩, by omega, W, e11⟩
  obtain ⟨⟨w1, w2, w3, w4, w5, w6, w7, w8⟩, hK, hG, hF, hH⟩ := h
  refine ⟨⟨w1, e1.trans w2, e2.trans w3, ?_, by omega, by omega, ?_, by omega⟩, ?_, ?_, ?_, ?_⟩
  · rw [c, e3]; exact w4
  · rw [W, e10]; exact w7
  · unfold gc_Ks; rw [e4]; exact hK
  · unfold gc_Gs gc_Gt; rw [c, e4, e5, e6, e7]; exact hG
  · unfold gc_Fs; rw [c, e5]; exact hF
  · unfold gc_Hs; rw [c, e8, e9]; exact hH
theorem gc_Nt_AL {w d : Nat} {u v : SX} (h : gc_Nt w 0 u v) (ha : gc_AL w u d) : gc_AL w v d := fun g hg => gc_GL_mo h.2.2.1 (by omega) (ha g (by have := h.2.2.2.1; omega))
theorem gc_Nt_cn {w : Nat} {u v : SX} (h : gc_Nt w 0 u v) : gc_cn w v = gc_cn w u := by have := h.2.2.2.1; have := h.2.2.1.2.1; omega
theorem gc_Nt_Cs {w k : Nat} {u v : SX} {V : Nat → Bool} (h : gc_Nt w k u v) (c : gc_Cs w v V) : gc_Cs w u V := gc_Cs_mo h.2.2.1 (by omega) c
theorem gc_Nt_GL {w k g d : Nat} {u v : SX} (h : gc_Nt w k u v) (c : gc_GL w u g d) : gc_GL w v g d := gc_GL_mo h.2.2.1 (by omega) c
theorem gc_Nt_jm {w : Nat} {u : SX} {x : Int32} (h : gc_WF w u) : gc_Nt w 0 u (qs_joinedMakes u x) := gc_Sc_Nt h rfl rfl rfl rfl rfl rfl rfl rfl rfl rfl rfl rfl
theorem gc_Nt_jl {w : Nat} {u : SX} {x : Int32} (h : gc_WF w u) : gc_Nt w 0 u (qs_joinedLets u x) := gc_Sc_Nt h rfl rfl rfl rfl rfl rfl rfl rfl rfl rfl rfl rfl
theorem gc_Nt_jj {w : Nat} {u : SX} {x y : Int32} (h : gc_WF w u) : gc_Nt w 0 u (qs_joinedMakes_joinedLets u x y) := gc_Sc_Nt h rfl rfl rfl rfl rfl rfl rfl rfl rfl rfl rfl rfl
theorem gc_Nt_ts {w : Nat} {u : SX} {x : Int32} (h : gc_WF w u) : gc_Nt w 0 u (qs_threeSum u x) := gc_Sc_Nt h rfl rfl rfl rfl rfl rfl rfl rfl rfl rfl rfl rfl
theorem gc_Nt_tc {w : Nat} {u : SX} {x : Int32} (h : gc_WF w u) : gc_Nt w 0 u (qs_threeCarry u x) := gc_Sc_Nt h rfl rfl rfl rfl rfl rfl rfl rfl rfl rfl rfl rfl
theorem gc_jj_m {u : SX} {x y : Int32} : qg_joinedMakes (qs_joinedMakes_joinedLets u x y) = x := rfl
theorem gc_jj_l {u : SX} {x y : Int32} : qg_joinedLets (qs_joinedMakes_joinedLets u x y) = y := rfl
theorem gc_jm_m {u : SX} {x : Int32} : qg_joinedMakes (qs_joinedMakes u x) = x := rfl
theorem gc_jl_l {u : SX} {x : Int32} : qg_joinedLets (qs_joinedLets u x) = x := rfl
theorem gc_jl_m {u : SX} {x : Int32} : qg_joinedMakes (qs_joinedLets u x) = qg_joinedMakes u := rfl
theorem gc_ts_s {u : SX} {x : Int32} : qg_threeSum (qs_threeSum u x) = x := rfl
theorem gc_tc_c {u : SX} {x : Int32} : qg_threeCarry (qs_threeCarry u x) = x := rfl
theorem gc_tc_s {u : SX} {x : Int32} : qg_threeSum (qs_threeCarry u x) = qg_threeSum u := rfl
theorem gc_eg_jm {u v : SX} (eg : gc_eg v = gc_eg u) : qg_joinedMakes v = qg_joinedMakes u := by have e := congrArg qg_joinedMakes eg; exact e
theorem gc_eg_jl {u v : SX} (eg : gc_eg v = gc_eg u) : qg_joinedLets v = qg_joinedLets u := by have e := congrArg qg_joinedLets eg; exact e
theorem gc_eg_ts {u v : SX} (eg : gc_eg v = gc_eg u) : qg_threeSum v = qg_threeSum u := by have e := congrArg qg_threeSum eg; exact e
theorem gc_eg_tc {u v : SX} (eg : gc_eg v = gc_eg u) : qg_threeCarry v = qg_threeCarry u := by have e := congrArg qg_threeCarry eg; exact e
end
section
/-! sums by ever longer rows -/
def gc_Lp (w : Nat) (u0 : SX) (z Wn k d : Nat) (u : SX) : Prop :=
  gc_WF w u ∧ gc_el u = gc_el u0 ∧ gc_Ex w z 0 0 u0 u ∧ gc_cn w u ≤ gc_cn w u0 + k ∧ gc_W u = Wn ∧ (∀ e, gc_AL w u0 e → gc_AL w u (e + d))
def gc_Wd (w : Nat) (u : SX) (p : Nat) (q : (Nat → Bool) → Bool) : Prop := ∃ g, qg_wire u p = nI g ∧ g < gc_cn w u ∧ ∀ V, gc_Cs w u V → V g = q V
theorem gc_Lp_nt {w : Nat} {u0 u u1 : SX} {z Wn k k1 d d' : Nat} (h : gc_Lp w u0 z Wn k d u) (hz : z ≤ 8192) (hg : gc_Nt w k1 u u1) (hl : ∀ e, gc_AL w u0 e → gc_AL w u1 (e + d')) : gc_Lp w u0 z Wn (k + k1) d' u1 := by
  obtain ⟨a1, a2, a3, a4, a5, a6⟩ := h
  obtain ⟨b1, b2, b3, b4, b5, b6⟩ := hg
  exact ⟨b1, b2.trans a2, gc_Ex_tr a3 (gc_Ex_mo b3 hz (Or.inr (Nat.le_refl _)) (Or.inr (Nat.le_refl _))), by omega, b5.trans a5, hl⟩
theorem gc_Lp_wr {w : Nat} {u0 u : SX} {z Wn k d p : Nat} {x : Int32} (h : gc_Lp w u0 z Wn k d u) (hp : z ≤ p) : gc_Lp w u0 z Wn k d (qs_wire u (upd (qg_wire u) p x)) := by
  obtain ⟨a1, a2, x1, a4, a5, a6⟩ := h
  refine ⟨a1, a2, ⟨x1.1, x1.2.1, x1.2.2.1, x1.2.2.2.1, fun j hj => ?_, x1.2.2.2.2.2⟩, a4, a5, a6⟩
  show upd (qg_wire u) p x j = _
  rw [pk_un (by omega)]; exact x1.2.2.2.2.1 j hj
theorem gc_Wd_nt {w k : Nat} {u v : SX} {p : Nat} {q : (Nat → Bool) → Bool} (h : gc_Wd w u p q) (hg : gc_Nt w k u v) : gc_Wd w v p q := by
  obtain ⟨g, g1, g2, g3⟩ := h
  exact ⟨g, by rw [hg.2.2.2.2.2]; exact g1, Nat.lt_of_lt_of_le g2 hg.2.2.1.2.1, fun V hV => g3 V (gc_Cs_mo hg.2.2.1 (by omega) hV)⟩
theorem gc_Wd_un {w : Nat} {u : SX} {p p' : Nat} {x : Int32} {q : (Nat → Bool) → Bool} (h : gc_Wd w u p q) (hp : p ≠ p') : gc_Wd w (qs_wire u (upd (qg_wire u) p' x)) p q := by
  obtain ⟨g, g1, g2, g3⟩ := h
  exact ⟨g, (pk_un hp).trans g1, g2, g3⟩
theorem gc_Wd_us {w : Nat} {u : SX} {p g : Nat} {q : (Nat → Bool) → Bool} (hg : g < gc_cn w u) (hs : ∀ V, gc_Cs w u V → V g = q V) : gc_Wd w (qs_wire u (upd (qg_wire u) p (nI g))) p q := ⟨g, pk_us, hg, hs⟩
theorem gc_Wd_ex {w b lo hi : Nat} {u v : SX} {p : Nat} {q : (Nat → Bool) → Bool} (h : gc_Wd w u p q) (hg : gc_Ex w b lo hi u v) (hh : hi ≤ 189) (hp : p < b) : gc_Wd w v p q := by
  obtain ⟨g, g1, g2, g3⟩ := h
  exact ⟨g, (gc_Ex_wr hg hp).trans g1, Nat.lt_of_lt_of_le g2 hg.2.1, fun V hV => g3 V (gc_Cs_mo hg hh hV)⟩
theorem gc_Wd_Bu {w : Nat} {u : SX} {z n : Nat} {Q : Nat → (Nat → Bool) → Bool} (h : gc_WF w u) (hz : z + n ≤ gc_W u) (H : ∀ j, j < n → gc_Wd w u (z + j) (Q j)) : ∃ G, gc_Bu w u z n G ∧ ∀ V, gc_Cs w u V → ∀ j, j < n → V (G j) = Q j V := by
  have hc := (gc_WFcn h).1
  have key : ∀ j, j < n → qg_wire u (z + j) = nI (qg_wire u (z + j)).toNatClampNeg ∧ (qg_wire u (z + j)).toNatClampNeg < gc_cn w u ∧ ∀ V, gc_Cs w u V → V (qg_wire u (z + j)).toNatClampNeg = Q j V := by
    intro j hj
    obtain ⟨g, g1, g2, g3⟩ := H j hj
    rw [g1, nI_clamp (by omega)]
    exact ⟨rfl, g2, g3⟩
  exact ⟨fun j => (qg_wire u (z + j)).toNatClampNeg, ⟨hz, fun i hi => ⟨(key i hi).1, (key i hi).2.1⟩⟩, fun V hV j hj => (key j hj).2.2 V hV⟩
theorem gc_Lp_go {w : Nat} {u0 u : SX} {Wn k d : Nat} (h : gc_Lp w u0 (gc_W u0) Wn k d u) {m : Nat} (hW : Wn = gc_W u0 + m) : gc_Go w k m d u0 u :=
  ⟨h.1, h.2.1, h.2.2.1, h.2.2.2.1, h.2.2.2.2.1.trans hW, h.2.2.2.2.2⟩
theorem gc_Go_Lp {w : Nat} {u0 u : SX} {m k d : Nat} (h : gc_Go w k m d u0 u) : gc_Lp w u0 (gc_W u0) (gc_W u0 + m) k d u :=
  ⟨h.1, h.2.1, h.2.2.1, h.2.2.2.1, h.2.2.2.2.1, h.2.2.2.2.2⟩
theorem gc_Lp_le {w : Nat} {u0 u : SX} {z Wn k d d' : Nat} (h : gc_Lp w u0 z Wn k d u) (hd : d ≤ d') : gc_Lp w u0 z Wn k d' u :=
  ⟨h.1, h.2.1, h.2.2.1, h.2.2.2.1, h.2.2.2.2.1, fun e he => gc_AL_le (h.2.2.2.2.2 e he) (by omega)⟩

theorem gc_Nt_le {w k l : Nat} {u v : SX} (h : gc_Nt w k u v) (hl : k ≤ l) : gc_Nt w l u v := ⟨h.1, h.2.1, h.2.2.1, Nat.le_trans h.2.2.2.1 (Nat.add_le_add_left hl _), h.2.2.2.2⟩
theorem gc_joinR {post : SX → Prop} {u : SX} {w m l n i far : Nat} {M L : Nat → Nat} (h : gc_WF w u) (hM : gc_Bu w u m n M) (hL : gc_Bu w u l n L) (hi : i < n) (hf : far < 8192) (hc : gc_cn w u + 3 ≤ 2560)
    (K : ∀ gm gl u', gc_Nt w 3 u u' → qg_joinedMakes u' = nI gm → qg_joinedLets u' = nI gl → gm < gc_cn w u' → gl < gc_cn w u' →
      (∀ V, gc_Cs w u' V → V gm = (if i < far then V (M i) else (V (M i) || (V (L i) && V (M (i - far))))) ∧ V gl = (if i < far then V (L i) else (V (L i) && V (L (i - far))))) →
      (∀ e, (∀ j, j < n → gc_GL w u (M j) e ∧ gc_GL w u (L j) e) → gc_AL w u (e + 2) → gc_AL w u' (e + 2)) → post u') : wpX_joinRows post u (nI m) (nI l) (nI i) (nI far) := by
  have hM1 := hM.1
  have hL1 := hL.1
  have cw := gc_WFcn h
  have mi := hM.2 i hi
  have li := hL.2 i hi
  refine uc_joinRows ⟨gc_vin (nI_add _ _) (by omega), nm_r (e' := nI (M i)) (gc_rdx (nI_add m i) (by omega) mi.1) ⟨gc_vin (nI_add _ _) (by omega), nm_r (e' := nI (L i)) (gc_rdx (nI_add l i) (by omega) li.1) (pk_lt i far (fun q => ?_) fun q => ?_)⟩⟩
  · have N := gc_Nt_jj (x := nI (M i)) (y := nI (L i)) h
    have cN := gc_Nt_cn N
    refine K (M i) (L i) _ (gc_Nt_le N (by omega)) gc_jj_m gc_jj_l (by rw [cN]; exact mi.2) (by rw [cN]; exact li.2) (fun V hV => ⟨(if_pos q).symm, (if_pos q).symm⟩) fun e _ h => gc_Nt_AL N h
  · have mf := hM.2 (i - far) (by omega)
    have lf := hL.2 (i - far) (by omega)
    have em : nI m + nI i - nI far = nI (m + (i - far)) := by rw [nI_add, pk_sub (by omega)]; exact congrArg nI (by omega)
    have el : nI l + nI i - nI far = nI (l + (i - far)) := by rw [nI_add, pk_sub (by omega)]; exact congrArg nI (by omega)
    refine ⟨gc_vin em (by omega), ?_⟩
    rw [gc_rdx em (by omega) mf.1]
    have N1 := gc_Nt_jj (x := nI (M i)) (y := nI (L i)) h
    have jm1 : qg_joinedMakes (qs_joinedMakes_joinedLets u (nI (M i)) (nI (L i))) = nI (M i) := gc_jj_m
    have jl1 : qg_joinedLets (qs_joinedMakes_joinedLets u (nI (M i)) (nI (L i))) = nI (L i) := gc_jj_l
    generalize qs_joinedMakes_joinedLets u (nI (M i)) (nI (L i)) = u1 at N1 jm1 jl1 ⊢
    have c1 := gc_Nt_cn N1
    refine gc_and N1.1 (by omega) (x := L i) (y := M (i - far)) (by omega) (by omega) fun r2 v2 g2 => ?_
    have n2 := gc_Gr_cn g2
    rw [gc_eg_jm g2.1.2.1, jm1]
    refine gc_or g2.1.1 (by omega) (x := M i) (y := r2) (by omega) (by omega) fun r3 v3 g3 => ?_
    have n3 := gc_Gr_cn g3
    refine ⟨gc_vin el (by omega), ?_⟩
    rw [gc_eg_jl g3.1.2.1, gc_eg_jl g2.1.2.1, jl1]
    have ew : qg_wire v3 (l + (i - far)) = nI (L (i - far)) := by
      rw [gc_Ng_wr g3.1, gc_Ng_wr g2.1, N1.2.2.2.2.2]; exact lf.1
    rw [gc_rdx el (by omega) ew]
    have N4 := gc_Nt_jm (x := nI r3) g3.1.1
    have jm4 : qg_joinedMakes (qs_joinedMakes v3 (nI r3)) = nI r3 := gc_jm_m
    generalize qs_joinedMakes v3 (nI r3) = u4 at N4 jm4 ⊢
    have c4 := gc_Nt_cn N4
    refine gc_and N4.1 (by omega) (x := L i) (y := L (i - far)) (by omega) (by omega) fun r5 v5 g5 => ?_
    have n5 := gc_Gr_cn g5
    have N5 := gc_Nt_jl (x := nI r5) g5.1.1
    have jm5 : qg_joinedMakes (qs_joinedLets v5 (nI r5)) = nI r3 := gc_jl_m.trans ((gc_eg_jm g5.1.2.1).trans jm4)
    have jl5 : qg_joinedLets (qs_joinedLets v5 (nI r5)) = nI r5 := gc_jl_l
    generalize qs_joinedLets v5 (nI r5) = v6 at N5 jm5 jl5 ⊢
    have c6 := gc_Nt_cn N5
    have N6 : gc_Nt w (0 + 1 + 1 + 0 + 1 + 0) u v6 := gc_Nt_tr (gc_Nt_tr (gc_Nt_tr (gc_Nt_tr (gc_Nt_tr N1 (gc_Nt_ng g2.1)) (gc_Nt_ng g3.1)) N4) (gc_Nt_ng g5.1)) N5
    refine K r3 r5 _ (gc_Nt_le N6 (by omega)) jm5 jl5 (by omega) (by omega) (fun V hV => ?_) fun e he hA => ?_
    · have c5 := gc_Nt_Cs N5 hV
      have cc4 := gc_Gr_Cs g5 c5
      have cc3 := gc_Nt_Cs N4 cc4
      rw [if_neg (by omega), if_neg (by omega), gc_vA g5 c5, gc_vO g3 cc3, gc_vA g2 (gc_Gr_Cs g3 cc3)]
      exact ⟨rfl, rfl⟩
    · have E1 : ∀ g, gc_GL w u g e → gc_GL w u1 g e := fun g hg => gc_Nt_GL N1 hg
      have E4 : ∀ g d, gc_GL w v3 g d → gc_GL w u4 g d := fun g d hg => gc_Nt_GL N4 hg
      have l2 := g2.2.2.2 e ⟨E1 _ (he i hi).2, E1 _ (he (i - far) (by omega)).1⟩
      have l2' := g2.2.2.2 (e + 1) ⟨gc_GL_le (E1 _ (he i hi).2) (by omega), gc_GL_le (E1 _ (he (i - far) (by omega)).1) (by omega)⟩
      have l3 := g3.2.2.2 (e + 1) ⟨gc_GL_le (gc_Gr_GL g2 (E1 _ (he i hi).1)) (by omega), l2.1⟩
      have l5 := g5.2.2.2 (e + 1) ⟨gc_GL_le (E4 _ _ (gc_Gr_GL g3 (gc_Gr_GL g2 (E1 _ (he i hi).2)))) (by omega), gc_GL_le (E4 _ _ (gc_Gr_GL g3 (gc_Gr_GL g2 (E1 _ (he (i - far) (by omega)).2)))) (by omega)⟩
      exact gc_Nt_AL N5 (l5.2 (gc_Nt_AL N4 (l3.2 (l2'.2 (gc_Nt_AL N1 hA)))))
end
section
/-! sums by ever longer rows: the loops -/
theorem gc_wsws {u : SX} {a b : Int32} : qs_wires (qs_wires u a) b = qs_wires u b := rfl
theorem gc_wrwr {u : SX} {a b : Nat → Int32} : qs_wire (qs_wire u a) b = qs_wire u b := rfl
theorem gc_Lp_lk {w : Nat} {u0 u : SX} {z Wn k k' d d' : Nat} (h : gc_Lp w u0 z Wn k d u) (hk : k ≤ k') (hd : d ≤ d') : gc_Lp w u0 z Wn k' d' u :=
  ⟨h.1, h.2.1, h.2.2.1, by have := h.2.2.2.1; omega, h.2.2.2.2.1, fun e he => gc_AL_le (h.2.2.2.2.2 e he) (by omega)⟩
theorem gc_aq254 {post : Int32 → SX → Prop} {u : SX} {w c n hf m l : Nat} {A B H M L : Nat → Nat} (hn : 1 ≤ n) (hH : gc_Bu w u hf n H) (hM : gc_Bu w u m n M) (hL : gc_Bu w u l n L) (hc : c < gc_cn w u) (hk : gc_cn w u + (1 + 3 * n) ≤ 2560) (hm : gc_W u + (n + 1) ≤ 8192)
    (sH : ∀ V, gc_Cs w u V → ∀ j, j < n → V (H j) = (V (A j) ^^ V (B j))) (sC : ∀ V, gc_Cs w u V → ∀ j, j < n → gc_cr (fun j => V (A j)) (fun j => V (B j)) (V c) (j + 1) = (V (M j) || (V (L j) && V c)))
    (K : ∀ G u', gc_Go w (1 + 3 * n) (n + 1) 3 u u' → gc_Bu w u' (gc_W u) (n + 1) G → (∀ V, gc_Cs w u' V → ∀ j, j < n + 1 → V (G j) = gc_sm (fun j => V (A j)) (fun j => V (B j)) (V c) n j) → post (nI (gc_W u)) u') :
    ∀ f i v, i ≤ n → n - i < f → gc_LI w u (gc_W u) (gc_W u + (n + 1)) (1 + 3 * i) 3 (i + 1) (fun j V => gc_sm (fun j => V (A j)) (fun j => V (B j)) (V c) n j) v → ux_addQuickly_254 post (nI c) (nI n) (nI hf) (nI m) (nI l) (nI (gc_W u)) f (nI i) v := by
  have hH1 := hH.1
  have hM1 := hM.1
  have hL1 := hL.1
  intro f
  induction f with
  | zero => intro i v _ h2; omega
  | succ f ih =>
    intro i v h1 h2 I
    have cv := (gc_WFcn I.1).1
    refine uc_addQuickly_254 (pk_le n i (fun z => ?_) fun z => ?_)
    · have e : i = n := by omega
      subst e
      obtain ⟨G, G1, G2⟩ := gc_LI_fin I (Nat.le_refl _)
      exact K G v (gc_LI_go I rfl) G1 G2
    · have Ex := I.2.2.1
      have cx := Ex.2.1
      have cy := I.2.2.2.1
      have hl := hL.2 i z
      have hmm := hM.2 i z
      refine ⟨gc_vin (nI_add _ _) (by omega), ?_⟩
      rw [gc_rdx (nI_add l i) (by omega) ((gc_Ex_wr Ex (by omega)).trans hl.1)]
      refine gc_and I.1 (by omega) (x := L i) (y := c) (by omega) (by omega) fun r1 v1 g1 => ⟨gc_vin (nI_add _ _) (by omega), ?_⟩
      have n1 := gc_Gr_cn g1
      rw [gc_rdx (nI_add m i) (by omega) (((congrFun (gc_Ng_wr g1.1) _).trans (gc_Ex_wr Ex (by omega))).trans hmm.1)]
      refine gc_or g1.1.1 (by omega) (x := M i) (y := r1) (by omega) (by omega) fun r2 v2 g2 => ?_
      have n2 := gc_Gr_cn g2
      have s2 : ∀ V, gc_Cs w v2 V → V r2 = gc_cr (fun j => V (A j)) (fun j => V (B j)) (V c) (i + 1) := fun V hV => by
        have c1 := gc_Gr_Cs g2 hV
        rw [gc_vO g2 hV, gc_vA g1 c1, sC V (gc_Cs_mo Ex (by omega) (gc_Gr_Cs g1 c1)) i z]
      have l2 : ∀ e, gc_AL w u e → gc_GL w v2 r2 (e + 2) ∧ gc_AL w v2 (e + 3) := by
        intro e he
        have a0 := I.2.2.2.2.2.1 e he
        have b1 := g1.2.2.2 e ⟨gc_GL_mo Ex (by omega) (he _ hl.2), gc_GL_mo Ex (by omega) (he _ hc)⟩
        have b1' := g1.2.2.2 (e + 2) ⟨gc_GL_le (gc_GL_mo Ex (by omega) (he _ hl.2)) (by omega), gc_GL_le (gc_GL_mo Ex (by omega) (he _ hc)) (by omega)⟩
        have gm := gc_Gr_GL g1 (gc_GL_mo Ex (by omega) (he _ hmm.2))
        have b2 := g2.2.2.2 (e + 1) ⟨gc_GL_le gm (by omega), b1.1⟩
        have b2' := g2.2.2.2 (e + 2) ⟨gc_GL_le gm (by omega), gc_GL_le b1.1 (by omega)⟩
        exact ⟨b2.1, b2'.2 (b1'.2 a0)⟩
      have ez : nI (gc_W u) + nI i + 1 = nI (gc_W u + (i + 1)) := by rw [nI_add, nI_1]; rfl
      have en : nI n - 1 = nI (n - 1) := pk_sub (b := 1) hn
      rw [en]
      refine pk_eq i (n - 1) (fun q => ?_) fun q => ?_
      · refine gc_wrt ez (by omega) (by omega) (nm_r (nI_1 i) (ih (i + 1) _ (by omega) (by omega) ?_))
        have I2 := gc_LI_st (r := r2) (d' := 3) I (by omega) (gc_Nt_tr (gc_Nt_ng g1.1) (gc_Nt_ng g2.1)) n2.2.2.1 (fun V hV => by
          rw [s2 V hV]
          have e : i + 1 = n := by omega
          show _ = gc_sm _ _ _ n (i + 1)
          unfold gc_sm
          rw [if_neg (by omega), e]) fun e he => (l2 e he).2
        exact ⟨I2.1, I2.2.1, I2.2.2.1, by have := I2.2.2.2.1; omega, I2.2.2.2.2⟩
      · have hh := hH.2 (i + 1) (by omega)
        have eh : nI hf + nI i + 1 = nI (hf + (i + 1)) := by rw [nI_add, nI_1]; rfl
        refine ⟨gc_vin eh (by omega), ?_⟩
        rw [gc_rdx eh (by omega) (((congrFun (gc_Ng_wr g2.1) _).trans ((congrFun (gc_Ng_wr g1.1) _).trans (gc_Ex_wr Ex (by omega)))).trans hh.1)]
        refine gc_xor g2.1.1 (by omega) (x := H (i + 1)) (y := r2) (by omega) (by omega) fun r3 v3 g3 => ?_
        have n3 := gc_Gr_cn g3
        refine gc_wrt ez (by omega) (by omega) (nm_r (nI_1 i) (ih (i + 1) _ (by omega) (by omega) ?_))
        have I2 := gc_LI_st (r := r3) (d' := 3) I (by omega) (gc_Nt_tr (gc_Nt_tr (gc_Nt_ng g1.1) (gc_Nt_ng g2.1)) (gc_Nt_ng g3.1)) n3.2.2.1 (fun V hV => by
          have c2 := gc_Gr_Cs g3 hV
          rw [gc_vX g3 hV, s2 V c2, sH V (gc_Cs_mo Ex (by omega) (gc_Gr_Cs g1 (gc_Gr_Cs g2 c2))) (i + 1) (by omega)]
          show _ = gc_sm _ _ _ n (i + 1)
          unfold gc_sm
          rw [if_pos (by omega)]) fun e he => (g3.2.2.2 (e + 2) ⟨gc_GL_le (gc_Gr_GL g2 (gc_Gr_GL g1 (gc_GL_mo Ex (by omega) (he _ hh.2)))) (by omega), (l2 e he).1⟩).2 (l2 e he).2
        exact ⟨I2.1, I2.2.1, I2.2.2.1, by have := I2.2.2.2.1; omega, I2.2.2.2.2⟩
theorem gc_aq149 {post : Int32 → SX → Prop} {J : Int32 → Int32 → Int32 → SX → Prop} {u : SX} {w c n hf m l far : Nat} {M L : Nat → Nat} (hM : gc_Bu w u m n M) (hL : gc_Bu w u l n L) (hfar : far < 4096) (hk : gc_cn w u + 3 * n ≤ 2560) (hm : gc_W u + (n + n) ≤ 8192)
    (K : ∀ M' L' u', gc_Go w (3 * n) (n + n) 2 u u' → gc_Bu w u' (gc_W u) n M' → gc_Bu w u' (gc_W u + n) n L' →
      (∀ V, gc_Cs w u' V → ∀ i, i < n → V (M' i) = (if i < far then V (M i) else (V (M i) || (V (L i) && V (M (i - far))))) ∧ V (L' i) = (if i < far then V (L i) else (V (L i) && V (L (i - far))))) →
      J (nI (gc_W u)) (nI (gc_W u + n)) (nI (far * 2)) u') :
    ∀ f i v, i ≤ n → n - i < f → gc_Lp w u (gc_W u) (gc_W u + (n + n)) (3 * i) 2 v →
      (∀ j, j < i → gc_Wd w v (gc_W u + j) (fun V => if j < far then V (M j) else (V (M j) || (V (L j) && V (M (j - far))))) ∧ gc_Wd w v (gc_W u + n + j) (fun V => if j < far then V (L j) else (V (L j) && V (L (j - far))))) →
      ux_addQuickly_149 post J (nI c) (nI n) (nI hf) (nI m) (nI l) (nI far) (nI (gc_W u)) (nI (gc_W u + n)) f (nI i) v := by
  have hM1 := hM.1
  have hL1 := hL.1
  intro f
  induction f with
  | zero => intro i v _ h2; omega
  | succ f ih =>
    intro i v h1 h2 I hW
    have cv := (gc_WFcn I.1).1
    have Ex := I.2.2.1
    refine uc_addQuickly_149 (pk_le n i (fun z => ?_) fun z => ?_)
    · have e : i = n := by omega
      subst e
      obtain ⟨G, G1, G2⟩ := gc_Wd_Bu I.1 (by rw [I.2.2.2.2.1]; omega) fun j hj => (hW j hj).1
      obtain ⟨G', G1', G2'⟩ := gc_Wd_Bu I.1 (by rw [I.2.2.2.2.1]; omega) fun j hj => (hW j hj).2
      exact nm_r (e' := nI (far * 2)) (pk_mul far 2) (K G G' v (gc_Lp_go I rfl) G1 G1' fun V hV j hj => ⟨G2 V hV j hj, G2' V hV j hj⟩)
    · have cx := Ex.2.1
      have cy := I.2.2.2.1
      refine gc_joinR I.1 (gc_Bu_mo Ex (by omega) hM) (gc_Bu_mo Ex (by omega) hL) z (by omega) (by omega) fun gm gl v1 N1 jm jl hgm hgl sv lv => ?_
      have c1 := (gc_WFcn N1.1).1
      rw [jm, jl]
      refine gc_wrt (nI_add _ _) (by omega) (by omega) ?_
      refine gc_wrt (nI_add _ _) (by omega) (by omega) (nm_r (nI_1 i) ?_)
      refine ih (i + 1) (qs_wire (qs_wire v1 (upd (qg_wire v1) (gc_W u + i) (nI gm))) (upd (qg_wire (qs_wire v1 (upd (qg_wire v1) (gc_W u + i) (nI gm)))) (gc_W u + n + i) (nI gl))) (by omega) (by omega) ?_ fun j hj => ?_
      · refine gc_Lp_wr (gc_Lp_wr ?_ (by omega)) (by omega)
        exact gc_Lp_lk (gc_Lp_nt (d' := 2) I (by omega) N1 fun e he => lv e (fun j hj => ⟨gc_GL_mo Ex (by omega) (he _ (hM.2 j hj).2), gc_GL_mo Ex (by omega) (he _ (hL.2 j hj).2)⟩) (I.2.2.2.2.2 e he)) (by omega) (Nat.le_refl _)
      · by_cases e : j = i
        · subst e
          exact ⟨gc_Wd_un (gc_Wd_us hgm fun V hV => (sv V hV).1) (by omega), gc_Wd_us (u := qs_wire v1 (upd (qg_wire v1) (gc_W u + j) (nI gm))) hgl fun V hV => (sv V hV).2⟩
        · have := hW j (by omega)
          exact ⟨gc_Wd_un (gc_Wd_un (gc_Wd_nt this.1 N1) (by omega)) (by omega), gc_Wd_un (gc_Wd_un (gc_Wd_nt this.2 N1) (by omega)) (by omega)⟩
theorem gc_aq123 {post : Int32 → SX → Prop} {w c n hf : Nat} {A B H : Nat → Nat} (hn : 1 ≤ n) (hn2 : n ≤ 64) {T : Nat} (hT : n ≤ 2 ^ T) (hT' : ∀ t, t < T → 2 ^ t < n) :
    ∀ r t u m l (M L : Nat → Nat), t + r = T → gc_WF w u → gc_Bu w u hf n H → gc_Bu w u m n M → gc_Bu w u l n L → c < gc_cn w u → gc_cn w u + (3 * n * r + (1 + 3 * n)) ≤ 2560 → gc_W u + ((n + n) * r + (n + 1)) ≤ 8192 →
    (∀ V, gc_Cs w u V → ∀ j, j < n → V (H j) = (V (A j) ^^ V (B j))) → (∀ V, gc_Cs w u V → ∀ j, j < n → gc_cr (fun j => V (A j)) (fun j => V (B j)) (V c) (j + 1) = (V (M j) || (V (L j) && gc_cr (fun j => V (A j)) (fun j => V (B j)) (V c) (j + 1 - 2 ^ t)))) →
    (∀ G u', gc_Go w (3 * n * r + (1 + 3 * n)) ((n + n) * r + (n + 1)) (2 * r + 3) u u' → gc_Bu w u' (gc_W u + (n + n) * r) (n + 1) G → (∀ V, gc_Cs w u' V → ∀ j, j < n + 1 → V (G j) = gc_sm (fun j => V (A j)) (fun j => V (B j)) (V c) n j) → post (nI (gc_W u + (n + n) * r)) u') →
    ux_addQuickly_123 post (nI c) (nI n) (nI hf) (r + 1) (nI m) (nI l) (nI (2 ^ t)) u := by
  intro r
  induction r with
  | zero =>
    intro t u m l M L ht h hH hM hL hc hk hm sH sC K
    have e : t = T := by omega
    subst e
    have ht2 : 2 ^ t < 4096 := by
      rcases Nat.eq_zero_or_pos t with rfl | hp
      · decide
      · have := hT' (t - 1) (by omega)
        have e2 : 2 ^ t = 2 * 2 ^ (t - 1) := by rw [← Nat.pow_succ']; congr 1; omega
        omega
    have cw := gc_WFcn h
    have hH1 := hH.1
    have hh := hH.2 0 (by omega)
    rw [Nat.mul_zero, Nat.zero_add] at hk hm
    refine uc_addQuickly_123 (br_t (nI_le hT (by omega)) ?_)
    rw [nI_1 n]
    refine gc_bundle h ⟨gc_vin rfl (by omega), ?_⟩
    have I0 : gc_LI w u (gc_W u) (gc_W u + (n + 1)) 0 3 0 (fun j V => gc_sm (fun j => V (A j)) (fun j => V (B j)) (V c) n j) (qs_wires u (nI (gc_W u + (n + 1)))) := gc_LI_0 h hm
    have Ex := I0.2.2.1
    rw [gc_rdx (f := qg_wire (qs_wires u (nI (gc_W u + (n + 1))))) (X := nI hf) (j := hf) rfl (by omega) hh.1]
    have ec : gc_cn w (qs_wires u (nI (gc_W u + (n + 1)))) = gc_cn w u := rfl
    refine gc_xor I0.1 (by omega) (x := H 0) (y := c) (by omega) (by omega) fun r1 v1 g1 => ?_
    have n1 := gc_Gr_cn g1
    refine gc_wrt (j := gc_W u) rfl (by omega) (by omega) ⟨n + 1, ?_⟩
    refine gc_aq254 hn hH hM hL hc hk hm sH (fun V hV j hj => ?_) (fun G u' hg hb hs => ?_) (n + 1) 0 _ (by omega) (by omega) ?_
    · rw [sC V hV j hj]
      have e0 : j + 1 - 2 ^ t = 0 := by omega
      rw [e0]; rfl
    · have := K G u'
      rw [Nat.mul_zero, Nat.mul_zero, Nat.mul_zero, Nat.zero_add, Nat.zero_add, Nat.zero_add, Nat.add_zero] at this
      exact this hg hb hs
    · refine gc_LI_le (gc_LI_st (r := r1) (d' := 3) I0 (by omega) (gc_Nt_ng g1.1) n1.2.2.1 (fun V hV => ?_) fun e he => ?_) (by omega) (Nat.le_refl _)
      · rw [gc_vX g1 hV, sH V (gc_Cs_mo Ex (by omega) (gc_Gr_Cs g1 hV)) 0 (by omega)]
        show _ = gc_sm _ _ _ n 0
        unfold gc_sm
        rw [if_pos (by omega)]; rfl
      · exact (g1.2.2.2 (e + 2) ⟨gc_GL_le (gc_GL_mo Ex (by omega) (he _ hh.2)) (by omega), gc_GL_le (gc_GL_mo Ex (by omega) (he _ hc)) (by omega)⟩).2 (I0.2.2.2.2.2.1 e he)
  | succ r ih =>
    intro t u m l M L ht h hH hM hL hc hk hm sH sC K
    have cw := gc_WFcn h
    have hp := hT' t (by omega)
    have hH1 := hH.1
    have e1 : 3 * n * (r + 1) = 3 * n * r + 3 * n := Nat.mul_succ _ _
    have e2 : (n + n) * (r + 1) = (n + n) * r + (n + n) := Nat.mul_succ _ _
    refine uc_addQuickly_123 (br_f (nI_ge hp (by omega)) ?_)
    refine gc_bundle h ?_
    have h1 : gc_WF w (qs_wires u (nI (gc_W u + n))) := gc_buWF h (by omega)
    have w1 : gc_W (qs_wires u (nI (gc_W u + n))) = gc_W u + n := gc_buW (by omega)
    refine gc_bundle h1 ⟨n + 1, ?_⟩
    rw [w1]
    have es : qs_wires (qs_wires u (nI (gc_W u + n))) (nI (gc_W u + n + n)) = qs_wires u (nI (gc_W u + (n + n))) := by rw [gc_wsws, Nat.add_assoc]
    rw [es]
    have I0 : gc_Lp w u (gc_W u) (gc_W u + (n + n)) (3 * 0) 2 (qs_wires u (nI (gc_W u + (n + n)))) := gc_Lp_le (gc_Go_Lp (gc_buGo h (by omega))) (by omega)
    refine gc_aq149 hM hL (by omega) (by omega) (by omega) (fun M' L' u' hg hM' hL' s' => ?_) (n + 1) 0 _ (by omega) (by omega) I0 fun j hj => absurd hj (by omega)
    have ew := gc_Go_W hg
    have ec := gc_Go_cn hg
    have ec2 := hg.2.2.2.1
    rw [show 2 ^ t * 2 = 2 ^ (t + 1) from (Nat.pow_succ 2 t).symm]
    refine ih (t + 1) u' _ _ M' L' (by omega) hg.1 (gc_Go_Bu hg hH) hM' hL' (by omega) (by omega) (by omega) (fun V hV => sH V (gc_Go_Cs hg hV)) (fun V hV j hj => ?_) fun G u'' hg2 hb hs => ?_
    · have s1 := sC V (gc_Go_Cs hg hV)
      obtain ⟨q1, q2⟩ := s' V hV j hj
      have e3 : 2 ^ (t + 1) = 2 * 2 ^ t := Nat.pow_succ'
      rw [q1, q2]
      by_cases hj2 : j < 2 ^ t
      · rw [if_pos hj2, if_pos hj2, s1 j hj]
        have a1 : j + 1 - 2 ^ t = 0 := by omega
        have a2 : j + 1 - 2 ^ (t + 1) = 0 := by omega
        rw [a1, a2]
      · rw [if_neg hj2, if_neg hj2, s1 j hj]
        have a1 : j + 1 - 2 ^ t = j - 2 ^ t + 1 := by omega
        have a2 : j + 1 - 2 ^ (t + 1) = j - 2 ^ t + 1 - 2 ^ t := by omega
        rw [a1, a2, s1 (j - 2 ^ t) (by omega)]
        cases V (M j) <;> cases V (L j) <;> cases V (M (j - 2 ^ t)) <;> rfl
    · have g := gc_Go_tr hg hg2
      have a1 : 3 * n + (3 * n * r + (1 + 3 * n)) = 3 * n * (r + 1) + (1 + 3 * n) := by omega
      have a2 : n + n + ((n + n) * r + (n + 1)) = (n + n) * (r + 1) + (n + 1) := by omega
      have a3 : 2 + (2 * r + 3) = 2 * (r + 1) + 3 := by omega
      have a4 : gc_W u' + (n + n) * r = gc_W u + (n + n) * (r + 1) := by omega
      rw [a1, a2, a3] at g
      rw [a4] at hb ⊢
      exact K G u'' g hb hs
theorem gc_aq27 {post : Int32 → SX → Prop} {u : SX} {w x y c n : Nat} {A B : Nat → Nat} (hA : gc_Bu w u x n A) (hB : gc_Bu w u y n B) (hk : gc_cn w u + 2 * n ≤ 2560) (hm : gc_W u + (n + n + n) ≤ 8192)
    (K : ∀ v, gc_Lp w u (gc_W u) (gc_W u + (n + n + n)) (2 * n) 1 v → (∀ j, j < n → gc_Wd w v (gc_W u + j) (fun V => V (A j) ^^ V (B j)) ∧ gc_Wd w v (gc_W u + n + j) (fun V => V (A j) && V (B j)) ∧ gc_Wd w v (gc_W u + n + n + j) (fun V => V (A j) ^^ V (B j))) → ∃ f, ux_addQuickly_123 post (nI c) (nI n) (nI (gc_W u)) f (nI (gc_W u + n)) (nI (gc_W u + n + n)) 1 v) :
    ∀ f i v, i ≤ n → n - i < f → gc_Lp w u (gc_W u) (gc_W u + (n + n + n)) (2 * i) 1 v → (∀ j, j < i → gc_Wd w v (gc_W u + j) (fun V => V (A j) ^^ V (B j)) ∧ gc_Wd w v (gc_W u + n + j) (fun V => V (A j) && V (B j)) ∧ gc_Wd w v (gc_W u + n + n + j) (fun V => V (A j) ^^ V (B j))) →
      ux_addQuickly_27 post (nI x) (nI y) (nI c) (nI n) (nI (gc_W u)) (nI (gc_W u + n)) (nI (gc_W u + n + n)) f (nI i) v := by
  have hA1 := hA.1
  have hB1 := hB.1
  intro f
  induction f with
  | zero => intro i v _ h2; omega
  | succ f ih =>
    intro i v h1 h2 I hW
    have cv := (gc_WFcn I.1).1
    have Ex := I.2.2.1
    have cx := Ex.2.1
    have cy := I.2.2.2.1
    refine uc_addQuickly_27 (pk_le n i (fun z => ?_) fun z => ?_)
    · have e : i = n := by omega
      subst e
      exact K v I hW
    · have ha := hA.2 i z
      have hb := hB.2 i z
      refine ⟨gc_vin (nI_add _ _) (by omega), nm_r (e' := nI (A i)) (gc_rdx (nI_add x i) (by omega) ((gc_Ex_wr Ex (by omega)).trans ha.1)) ⟨gc_vin (nI_add _ _) (by omega), nm_r (e' := nI (B i)) (gc_rdx (nI_add y i) (by omega) ((gc_Ex_wr Ex (by omega)).trans hb.1)) ?_⟩⟩
      refine gc_xor I.1 (by omega) (x := A i) (y := B i) (by omega) (by omega) fun r1 v1 g1 => ?_
      have n1 := gc_Gr_cn g1
      refine gc_wrt (nI_add _ _) (by omega) (by omega) ?_
      generalize hv2 : qs_wire v1 (upd (qg_wire v1) (gc_W u + i) (nI r1)) = v2
      have lA : ∀ e, gc_AL w u e → gc_GL w v (A i) e ∧ gc_GL w v (B i) e := fun e he => ⟨gc_GL_mo Ex (by omega) (he _ ha.2), gc_GL_mo Ex (by omega) (he _ hb.2)⟩
      have I1 := gc_Lp_nt (d' := 1) I (by omega) (gc_Nt_ng g1.1) fun e he => (g1.2.2.2 e (lA e he)).2 (I.2.2.2.2.2 e he)
      have I2 : gc_Lp w u (gc_W u) (gc_W u + (n + n + n)) (2 * i + 1) 1 v2 := by rw [← hv2]; exact gc_Lp_wr I1 (by omega)
      have D2 : gc_Wd w v2 (gc_W u + i) (fun V => V (A i) ^^ V (B i)) := by rw [← hv2]; exact gc_Wd_us n1.2.2.1 g1.2.2.1
      have wr2 : qg_wire v2 (gc_W u + i) = nI r1 := by rw [← hv2]; exact pk_us
      have e2 : gc_cn w v2 = gc_cn w v1 := by rw [← hv2]; rfl
      have hW2 : ∀ j, j < i → gc_Wd w v2 (gc_W u + j) (fun V => V (A j) ^^ V (B j)) ∧ gc_Wd w v2 (gc_W u + n + j) (fun V => V (A j) && V (B j)) ∧ gc_Wd w v2 (gc_W u + n + n + j) (fun V => V (A j) ^^ V (B j)) := fun j hj => by
        have := hW j hj
        rw [← hv2]
        exact ⟨gc_Wd_un (gc_Wd_nt this.1 (gc_Nt_ng g1.1)) (by omega), gc_Wd_un (gc_Wd_nt this.2.1 (gc_Nt_ng g1.1)) (by omega), gc_Wd_un (gc_Wd_nt this.2.2 (gc_Nt_ng g1.1)) (by omega)⟩
      have s2 : ∀ V, gc_Cs w v2 V → V r1 = (V (A i) ^^ V (B i)) := by rw [← hv2]; exact g1.2.2.1
      have lA2 : ∀ e, gc_AL w u e → gc_GL w v2 (A i) e ∧ gc_GL w v2 (B i) e := fun e he => ⟨gc_GL_mo I2.2.2.1 (by omega) (he _ ha.2), gc_GL_mo I2.2.2.1 (by omega) (he _ hb.2)⟩
      refine gc_and I2.1 (by omega) (x := A i) (y := B i) (by omega) (by omega) fun r2 v3 g2 => ?_
      have n2 := gc_Gr_cn g2
      refine gc_wrt (nI_add _ _) (by omega) (by omega) ⟨gc_vin (nI_add _ _) (by omega), ?_⟩
      have er : upd (qg_wire v3) (gc_W u + n + i) (nI r2) (gc_W u + i) = nI r1 := by
        rw [pk_un (by omega), gc_Ng_wr g2.1]; exact wr2
      rw [gc_rdx (nI_add (gc_W u) i) (by omega) er]
      refine gc_wrt' (nI_add _ _) (by omega) (by omega) (nm_r (nI_1 i) ?_)
      refine ih (i + 1) (qs_wire (qs_wire v3 (upd (qg_wire v3) (gc_W u + n + i) (nI r2))) (upd (qg_wire (qs_wire v3 (upd (qg_wire v3) (gc_W u + n + i) (nI r2)))) (gc_W u + n + n + i) (nI r1))) (by omega) (by omega) ?_ fun j hj => ?_
      · refine gc_Lp_wr (gc_Lp_wr ?_ (by omega)) (by omega)
        exact gc_Lp_lk (gc_Lp_nt (d' := 1) I2 (by omega) (gc_Nt_ng g2.1) fun e he => (g2.2.2.2 e (lA2 e he)).2 (I2.2.2.2.2.2 e he)) (by omega) (Nat.le_refl _)
      · by_cases e : j = i
        · subst e
          exact ⟨gc_Wd_un (gc_Wd_un (gc_Wd_nt D2 (gc_Nt_ng g2.1)) (by omega)) (by omega), gc_Wd_un (gc_Wd_us n2.2.2.1 g2.2.2.1) (by omega), gc_Wd_us (u := qs_wire v3 (upd (qg_wire v3) (gc_W u + n + j) (nI r2))) (show r1 < gc_cn w v3 by omega) fun V hV => s2 V (gc_Gr_Cs g2 hV)⟩
        · have := hW2 j (by omega)
          exact ⟨gc_Wd_un (gc_Wd_un (gc_Wd_nt this.1 (gc_Nt_ng g2.1)) (by omega)) (by omega), gc_Wd_un (gc_Wd_un (gc_Wd_nt this.2.1 (gc_Nt_ng g2.1)) (by omega)) (by omega), gc_Wd_un (gc_Wd_un (gc_Wd_nt this.2.2 (gc_Nt_ng g2.1)) (by omega)) (by omega)⟩
theorem gc_addQ {post : Int32 → SX → Prop} {u : SX} {w x y c n T : Nat} {A B : Nat → Nat} (h : gc_WF w u) (hA : gc_Bu w u x n A) (hB : gc_Bu w u y n B) (hc : c < gc_cn w u) (hn : 1 ≤ n) (hn2 : n ≤ 64) (hT : n ≤ 2 ^ T) (hT' : ∀ t, t < T → 2 ^ t < n) {kk mm : Nat} (ekk : kk = 2 * n + (3 * n * T + (1 + 3 * n))) (emm : mm = n + n + n + ((n + n) * T + (n + 1))) (hk : gc_cn w u + kk ≤ 2560) (hm : gc_W u + mm ≤ 8192)
    (K : ∀ G u', gc_Go w kk mm (1 + (2 * T + 3)) u u' → gc_Bu w u' (gc_W u + (mm - (n + 1))) (n + 1) G → (∀ V, gc_Cs w u' V → ∀ j, j < n + 1 → V (G j) = gc_sm (fun j => V (A j)) (fun j => V (B j)) (V c) n j) → post (nI (gc_W u + (mm - (n + 1)))) u') : wpX_addQuickly post u (nI x) (nI y) (nI c) (nI n) := by
  have cw := gc_WFcn h
  refine uc_addQuickly (gc_bundle h ?_)
  have h1 : gc_WF w (qs_wires u (nI (gc_W u + n))) := gc_buWF h (by omega)
  have w1 : gc_W (qs_wires u (nI (gc_W u + n))) = gc_W u + n := gc_buW (by omega)
  refine gc_bundle h1 ?_
  rw [w1]
  have h2 : gc_WF w (qs_wires (qs_wires u (nI (gc_W u + n))) (nI (gc_W u + n + n))) := gc_buWF h1 (by omega)
  have w2 : gc_W (qs_wires (qs_wires u (nI (gc_W u + n))) (nI (gc_W u + n + n))) = gc_W u + n + n := gc_buW (by omega)
  refine gc_bundle h2 ⟨n + 1, ?_⟩
  rw [w2]
  have es : qs_wires (qs_wires (qs_wires u (nI (gc_W u + n))) (nI (gc_W u + n + n))) (nI (gc_W u + n + n + n)) = qs_wires u (nI (gc_W u + (n + n + n))) := by rw [gc_wsws, gc_wsws]; exact congrArg (fun m => qs_wires u (nI m)) (by omega)
  rw [es]
  have I0 : gc_Lp w u (gc_W u) (gc_W u + (n + n + n)) (2 * 0) 1 (qs_wires u (nI (gc_W u + (n + n + n)))) := gc_Lp_le (gc_Go_Lp (gc_buGo h (by omega))) (by omega)
  refine gc_aq27 hA hB (by omega) (by omega) (fun v I hW => ?_) (n + 1) 0 _ (by omega) (by omega) I0 fun j hj => absurd hj (by omega)
  have Ex := I.2.2.1
  have ew := I.2.2.2.2.1
  have ec := I.2.2.2.1
  have cx := Ex.2.1
  obtain ⟨H, H1, H2⟩ := gc_Wd_Bu I.1 (by omega) fun j hj => (hW j hj).1
  obtain ⟨M, M1, M2⟩ := gc_Wd_Bu I.1 (by omega) fun j hj => (hW j hj).2.1
  obtain ⟨L, L1, L2⟩ := gc_Wd_Bu I.1 (by omega) fun j hj => (hW j hj).2.2
  refine ⟨T + 1, gc_aq123 (A := A) (B := B) hn hn2 hT hT' T 0 v _ _ M L (by omega) I.1 H1 M1 L1 (by omega) (by omega) (by omega) H2 (fun V hV j hj => ?_) fun G u' hg hb hs => ?_⟩
  · rw [M2 V hV j hj, L2 V hV j hj]
    rfl
  · have g := gc_Go_tr (gc_Lp_go I rfl) hg
    rw [← ekk, ← emm] at g
    have ez : gc_W v + (n + n) * T = gc_W u + (mm - (n + 1)) := by omega
    rw [ez] at hb ⊢
    exact K G u' g hb hs
end
section
/-! weak frames; sums of either kind; products row by row -/
def gc_Lq (w : Nat) (u0 : SX) (z k m d : Nat) (u : SX) : Prop :=
  gc_WF w u ∧ gc_el u = gc_el u0 ∧ gc_Ex w z 0 0 u0 u ∧ gc_cn w u ≤ gc_cn w u0 + k ∧ gc_W u ≤ gc_W u0 + m ∧ (∀ e, gc_AL w u0 e → gc_AL w u (e + d))
def gc_Gw (w k m d : Nat) (u u' : SX) : Prop := gc_Lq w u (gc_W u) k m d u'
theorem gc_Gw_go {w k m d : Nat} {u v : SX} (h : gc_Go w k m d u v) : gc_Gw w k m d u v := ⟨h.1, h.2.1, h.2.2.1, h.2.2.2.1, Nat.le_of_eq h.2.2.2.2.1, h.2.2.2.2.2⟩
theorem gc_Lq_rf {w : Nat} {u : SX} (h : gc_WF w u) (z : Nat) : gc_Lq w u z 0 0 0 u := ⟨h, rfl, gc_Ex_rf, by omega, by omega, fun _ h => h⟩
theorem gc_Lq_le {w : Nat} {u0 u : SX} {z k m d k' m' d' : Nat} (h : gc_Lq w u0 z k m d u) (hk : k ≤ k') (hm : m ≤ m') (hd : d ≤ d') : gc_Lq w u0 z k' m' d' u :=
  ⟨h.1, h.2.1, h.2.2.1, by have := h.2.2.2.1; omega, by have := h.2.2.2.2.1; omega, fun e he => gc_AL_le (h.2.2.2.2.2 e he) (by omega)⟩
theorem gc_Lq_tr {w : Nat} {u0 u v : SX} {z k m d k' m' d' : Nat} (h : gc_Lq w u0 z k m d u) (h' : gc_Gw w k' m' d' u v) (hz : z ≤ gc_W u) : gc_Lq w u0 z (k + k') (m + m') (d + d') v := by
  obtain ⟨a1, a2, a3, a4, a5, a6⟩ := h
  obtain ⟨b1, b2, b3, b4, b5, b6⟩ := h'
  refine ⟨b1, b2.trans a2, gc_Ex_tr a3 (gc_Ex_mo b3 hz (Or.inr (Nat.le_refl _)) (Or.inr (Nat.le_refl _))), by omega, by omega, fun e he => ?_⟩
  have := b6 _ (a6 e he)
  rw [Nat.add_assoc] at this
  exact this
theorem gc_Gw_tr {w : Nat} {u0 u v : SX} {k m d k' m' d' : Nat} (h : gc_Gw w k m d u0 u) (h' : gc_Gw w k' m' d' u v) : gc_Gw w (k + k') (m + m') (d + d') u0 v := gc_Lq_tr h h' h.2.2.1.2.2.1
theorem gc_Gw_le {w : Nat} {u0 u : SX} {k m d k' m' d' : Nat} (h : gc_Gw w k m d u0 u) (hk : k ≤ k') (hm : m ≤ m') (hd : d ≤ d') : gc_Gw w k' m' d' u0 u := gc_Lq_le h hk hm hd
theorem gc_Lq_wr {w : Nat} {u0 u : SX} {z k m d p : Nat} {x : Int32} (h : gc_Lq w u0 z k m d u) (hp : z ≤ p) : gc_Lq w u0 z k m d (qs_wire u (upd (qg_wire u) p x)) := by
  obtain ⟨a1, a2, x1, a4, a5, a6⟩ := h
  refine ⟨a1, a2, ⟨x1.1, x1.2.1, x1.2.2.1, x1.2.2.2.1, fun j hj => ?_, x1.2.2.2.2.2⟩, a4, a5, a6⟩
  show upd (qg_wire u) p x j = _
  rw [pk_un (by omega)]; exact x1.2.2.2.2.1 j hj
theorem gc_Lq_nt {w : Nat} {u0 u u1 : SX} {z m k k1 d d' : Nat} (h : gc_Lq w u0 z k m d u) (hz : z ≤ 8192) (hg : gc_Nt w k1 u u1) (hl : ∀ e, gc_AL w u0 e → gc_AL w u1 (e + d')) : gc_Lq w u0 z (k + k1) m d' u1 := by
  obtain ⟨a1, a2, a3, a4, a5, a6⟩ := h
  obtain ⟨b1, b2, b3, b4, b5, b6⟩ := hg
  exact ⟨b1, b2.trans a2, gc_Ex_tr a3 (gc_Ex_mo b3 hz (Or.inr (Nat.le_refl _)) (Or.inr (Nat.le_refl _))), by omega, by omega, hl⟩
theorem gc_Gw_Cs {w k m d : Nat} {u v : SX} {V : Nat → Bool} (h : gc_Gw w k m d u v) (c : gc_Cs w v V) : gc_Cs w u V := gc_Cs_mo h.2.2.1 (by omega) c
theorem gc_Gw_Bu {w k m d : Nat} {u v : SX} {x n : Nat} {G : Nat → Nat} (h : gc_Gw w k m d u v) (B : gc_Bu w u x n G) : gc_Bu w v x n G := gc_Bu_mo h.2.2.1 B.1 B
theorem gc_Gw_n {w k m d : Nat} {u v : SX} (h : gc_Gw w k m d u v) : gc_cn w u ≤ gc_cn w v ∧ gc_cn w v ≤ gc_cn w u + k ∧ gc_W u ≤ gc_W v ∧ gc_W v ≤ gc_W u + m := ⟨h.2.2.1.2.1, h.2.2.2.1, h.2.2.1.2.2.1, h.2.2.2.2.1⟩
theorem gc_Gw_gr {w : Nat} {u v : SX} {r : Nat} {f : (Nat → Bool) → Bool} {P : Nat → Prop} (hu : gc_WF w u) (h : gc_Gr w u v r f P) (hP : ∀ d, gc_AL w u d → P d) : gc_Gw w 1 0 1 u v := gc_Gw_go (gc_Go_gr hu h hP)
theorem gc_addB {post : Int32 → SX → Prop} {u : SX} {w x y c n T : Nat} {A B : Nat → Nat} (h : gc_WF w u) (hA : gc_Bu w u x n A) (hB : gc_Bu w u y n B) (hc : c < gc_cn w u) (hn : 1 ≤ n) (hn2 : n ≤ 64) (hT : n ≤ 2 ^ T) (hT' : ∀ t, t < T → 2 ^ t < n) {kk mm dd : Nat} (ekk : kk = 2 * n + (3 * n * T + (1 + 3 * n))) (emm : mm = n + n + n + ((n + n) * T + (n + 1))) (e1 : 5 * n ≤ kk) (e2 : n + 1 ≤ mm) (e3 : 1 + 2 * n ≤ dd) (e4 : 1 + (2 * T + 3) ≤ dd) (hk : gc_cn w u + kk ≤ 2560) (hm : gc_W u + mm ≤ 8192)
    (K : ∀ z G u', gc_W u ≤ z → gc_Gw w kk mm dd u u' → gc_Bu w u' z (n + 1) G → (∀ V, gc_Cs w u' V → gc_vl (fun j => V (G j)) (n + 1) = gc_vl (fun j => V (A j)) n + gc_vl (fun j => V (B j)) n + (if V c then 1 else 0)) → post (nI z) u') : wpX_addBundles post u (nI x) (nI y) (nI c) (nI n) := by
  have hw := h.1.1
  have w3 := h.1.2.2.1
  have hw' : w = 0 ∨ w = 1 := by omega
  rcases hw' with rfl | rfl
  · refine uc_addBundles (br_t (by rw [w3]; rfl) ?_)
    refine gc_addS h hA hB hc (by omega) (by omega) fun G u' hg hb hs => K _ G u' (Nat.le_refl _) (gc_Gw_le (gc_Gw_go hg) e1 e2 e3) hb fun V hV => ?_
    rw [gc_vl_cg (hs V hV), gc_sm_vl]
  · refine uc_addBundles (br_f (by rw [w3]; decide) ?_)
    refine gc_addQ h hA hB hc hn hn2 hT hT' ekk emm hk hm fun G u' hg hb hs => K _ G u' (by omega) (gc_Gw_le (gc_Gw_go hg) (Nat.le_refl _) (Nat.le_refl _) e4) hb fun V hV => ?_
    rw [gc_vl_cg (hs V hV), gc_sm_vl]
theorem gc_add8 {post : Int32 → SX → Prop} {u : SX} {w x y c : Nat} {A B : Nat → Nat} (h : gc_WF w u) (hA : gc_Bu w u x 8 A) (hB : gc_Bu w u y 8 B) (hc : c < gc_cn w u) (hk : gc_cn w u + 113 ≤ 2560) (hm : gc_W u + 81 ≤ 8192)
    (K : ∀ z G u', gc_W u ≤ z → gc_Gw w 113 81 17 u u' → gc_Bu w u' z 9 G → (∀ V, gc_Cs w u' V → gc_vl (fun j => V (G j)) 9 = gc_vl (fun j => V (A j)) 8 + gc_vl (fun j => V (B j)) 8 + (if V c then 1 else 0)) → post (nI z) u') : wpX_addBundles post u (nI x) (nI y) (nI c) 8 :=
  gc_addB (n := 8) (T := 3) h hA hB hc (by decide) (by decide) (by decide) (by decide) rfl rfl (by decide) (by decide) (by decide) (by decide) hk hm K
theorem gc_add4 {post : Int32 → SX → Prop} {u : SX} {w x y c : Nat} {A B : Nat → Nat} (h : gc_WF w u) (hA : gc_Bu w u x 4 A) (hB : gc_Bu w u y 4 B) (hc : c < gc_cn w u) (hk : gc_cn w u + 45 ≤ 2560) (hm : gc_W u + 33 ≤ 8192)
    (K : ∀ z G u', gc_W u ≤ z → gc_Gw w 45 33 9 u u' → gc_Bu w u' z 5 G → (∀ V, gc_Cs w u' V → gc_vl (fun j => V (G j)) 5 = gc_vl (fun j => V (A j)) 4 + gc_vl (fun j => V (B j)) 4 + (if V c then 1 else 0)) → post (nI z) u') : wpX_addBundles post u (nI x) (nI y) (nI c) 4 :=
  gc_addB (n := 4) (T := 2) h hA hB hc (by decide) (by decide) (by decide) (by decide) rfl rfl (by decide) (by decide) (by decide) (by decide) hk hm K

/-- wires that hold gates, without a bound -/
def gc_Bw (w : Nat) (u : SX) (x n : Nat) (G : Nat → Nat) : Prop := ∀ i, i < n → qg_wire u (x + i) = nI (G i) ∧ G i < gc_cn w u
theorem gc_Bw_ex {w b lo hi : Nat} {u v : SX} {x n : Nat} {G : Nat → Nat} (h : gc_Bw w u x n G) (E : gc_Ex w b lo hi u v) (hb : x + n ≤ b) : gc_Bw w v x n G := fun i hi => ⟨(gc_Ex_wr E (by omega)).trans (h i hi).1, Nat.lt_of_lt_of_le (h i hi).2 E.2.1⟩
theorem gc_Bw_un {w : Nat} {u : SX} {x n p : Nat} {y : Int32} {G : Nat → Nat} (h : gc_Bw w u x n G) (hp : p < x ∨ x + n ≤ p) : gc_Bw w (qs_wire u (upd (qg_wire u) p y)) x n G := fun i hi => ⟨(pk_un (by omega)).trans (h i hi).1, (h i hi).2⟩
theorem gc_Bu_un {w : Nat} {u : SX} {x n p : Nat} {y : Int32} {G : Nat → Nat} (h : gc_Bu w u x n G) (hp : p < x ∨ x + n ≤ p) : gc_Bu w (qs_wire u (upd (qg_wire u) p y)) x n G := ⟨h.1, gc_Bw_un h.2 hp⟩
theorem gc_Bw_us {w : Nat} {u : SX} {x n g : Nat} {G : Nat → Nat} (h : gc_Bw w u x n G) (hg : g < gc_cn w u) : gc_Bw w (qs_wire u (upd (qg_wire u) (x + n) (nI g))) x (n + 1) (fun j => if j = n then g else G j) := fun i hi => by
  show upd (qg_wire u) (x + n) (nI g) (x + i) = nI (if i = n then g else G i) ∧ (if i = n then g else G i) < gc_cn w u
  by_cases e : i = n
  · rw [e, if_pos rfl, pk_us]; exact ⟨rfl, hg⟩
  · rw [if_neg e, pk_un (by omega)]; exact h i (by omega)

theorem gc_ms63 {post : Int32 → SX → Prop} {J : Int32 → Int32 → SX → Prop} {u : SX} {w x y z hi row : Nat} {A B H : Nat → Nat} (hA : gc_Bu w u x 8 A) (hB : gc_Bu w u y 8 B) (hH : gc_Bu w u hi 8 H) (hr : row < 8) (hz : z + 16 ≤ gc_W u) (hk : gc_cn w u + 121 ≤ 2560) (hm : gc_W u + 89 ≤ 8192)
    (K : ∀ s G v, gc_W u ≤ s → gc_Gw w 121 89 18 u v → gc_Bu w v s 9 G → (∀ V, gc_Cs w v V → gc_vl (fun j => V (G j)) 9 = gc_vl (fun j => V (H j)) 8 + (if V (B row) then gc_vl (fun j => V (A j)) 8 else 0)) → J (nI (s + 1)) (nI (row + 1)) (qs_wire v (upd (qg_wire v) (z + row) (nI (G 0))))) :
    ∀ f i v, i ≤ 8 → 8 - i < f → gc_LI w u (gc_W u) (gc_W u + 8) i 1 i (fun j V => V (A j) && V (B row)) v → ux_multiplySlowly_63 post J (nI x) (nI y) (nI z) (nI hi) (nI row) (nI (gc_W u)) f (nI i) v := by
  have hA1 := hA.1
  have hB1 := hB.1
  have hH1 := hH.1
  intro f
  induction f with
  | zero => intro i v _ h2; omega
  | succ f ih =>
    intro i v h1 h2 I
    have cv := (gc_WFcn I.1)
    have Ex := I.2.2.1
    have cx := Ex.2.1
    have cy := I.2.2.2.1
    have wv := I.2.2.2.2.1
    refine uc_multiplySlowly_63 (pk_le 8 i (fun q => ?_) fun q => ?_)
    · have e : i = 8 := by omega
      subst e
      obtain ⟨P, P1, P2⟩ := gc_LI_fin I (Nat.le_refl _)
      refine gc_add8 (c := 0) I.1 (gc_Bu_mo Ex hH1 hH) P1 (by omega) (by omega) (by omega) fun s G v2 hs hg hb hv => ?_
      have g := gc_Gw_tr (gc_Gw_go (gc_LI_go I rfl)) hg
      have c2 := (gc_WFcn hg.1)
      have b0 := hb.2 0 (by omega)
      have hb1 := hb.1
      refine ⟨gc_vin (j := s) rfl (by omega), ?_⟩
      rw [gc_rdx (f := qg_wire v2) (X := nI s) (j := s) rfl (by omega) b0.1]
      refine gc_wrt' (nI_add _ _) (by omega) (by omega) (nm_r (nI_1 s) (nm_r (nI_1 row) (K s G v2 (by omega) g hb fun V hV => ?_)))
      have cI := gc_Gw_Cs hg hV
      rw [hv V hV, cI.1, gc_vl_cg (P2 V cI)]
      show _ + 0 = _
      rw [Nat.add_zero]
      congr 1
      cases V (B row)
      · exact gc_vl_0 fun j _ => Bool.and_false _
      · exact gc_vl_cg fun j _ => Bool.and_true _
    · have ha := hA.2 i q
      have hb := hB.2 row hr
      refine ⟨gc_vin (nI_add _ _) (by omega), gc_vin (nI_add _ _) (by omega), ?_⟩
      rw [gc_rdx (nI_add x i) (by omega) ((gc_Ex_wr Ex (by omega)).trans ha.1), gc_rdx (nI_add y row) (by omega) ((gc_Ex_wr Ex (by omega)).trans hb.1)]
      refine gc_and I.1 (by omega) (by omega) (by omega) fun r1 v1 g1 => ?_
      have n1 := gc_Gr_cn g1
      refine gc_wrt (nI_add _ _) (by omega) (by omega) (nm_r (nI_1 i) (ih (i + 1) _ (by omega) (by omega) ?_))
      exact gc_LI_st I (by omega) (gc_Nt_ng g1.1) n1.2.2.1 g1.2.2.1 fun e he => (g1.2.2.2 e ⟨gc_GL_mo Ex (by omega) (he _ ha.2), gc_GL_mo Ex (by omega) (he _ hb.2)⟩).2 (I.2.2.2.2.2.1 e he)
theorem gc_ms153 {post : Int32 → SX → Prop} {u : SX} {w z hi : Nat} {Z H : Nat → Nat} (hZ : gc_Bw w u z 8 Z) (hH : gc_Bu w u hi 8 H) (hz : z + 16 ≤ hi) (hw : gc_WF w u)
    (K : ∀ v, gc_Lq w u z 0 0 0 v → gc_Bu w v z 16 (fun j => if j < 8 then Z j else H (j - 8)) → post (nI z) v) :
    ∀ f i v, i ≤ 8 → 8 - i < f → gc_Lq w u z 0 0 0 v → gc_Bw w v z (8 + i) (fun j => if j < 8 then Z j else H (j - 8)) → gc_Bu w v hi 8 H → ux_multiplySlowly_153 post (nI z) (nI hi) f (nI i) v := by
  have cu := gc_WFcn hw
  have hH1 := hH.1
  intro f
  induction f with
  | zero => intro i v _ h2; omega
  | succ f ih =>
    intro i v h1 h2 I hB hH'
    have cv := (gc_WFcn I.1)
    have wv := I.2.2.1.2.2.1
    refine uc_multiplySlowly_153 (pk_le 8 i (fun q => ?_) fun q => ?_)
    · have e : i = 8 := by omega
      subst e
      exact K v I ⟨by omega, hB⟩
    · have hh := hH'.2 i q
      have ez : nI z + 8 + nI i = nI (z + (8 + i)) := by rw [show (8 : Int32) = nI 8 from rfl, nI_add, nI_add, Nat.add_assoc]
      refine ⟨gc_vin (nI_add _ _) (by omega), ?_⟩
      rw [gc_rdx (nI_add hi i) (by omega) hh.1]
      refine gc_wrt' ez (by omega) (by omega) (nm_r (nI_1 i) (ih (i + 1) _ (by omega) (by omega) (gc_Lq_wr I (by omega)) ?_ (gc_Bu_un hH' (by omega))))
      intro j hj
      have := gc_Bw_us hB hh.2 j (by omega)
      refine ⟨this.1.trans (congrArg nI ?_), Nat.lt_of_le_of_lt (Nat.le_of_eq ?_) this.2⟩
      · show (if j = 8 + i then H i else if j < 8 then Z j else H (j - 8)) = if j < 8 then Z j else H (j - 8)
        by_cases e : j = 8 + i
        · rw [if_pos e, if_neg (by omega), e, Nat.add_sub_cancel_left]
        · rw [if_neg e]
      · show (if j < 8 then Z j else H (j - 8)) = if j = 8 + i then H i else if j < 8 then Z j else H (j - 8)
        by_cases e : j = 8 + i
        · rw [if_pos e, if_neg (by omega), e, Nat.add_sub_cancel_left]
        · rw [if_neg e]
theorem gc_ms45 {post : Int32 → SX → Prop} {u : SX} {w x y : Nat} {A B : Nat → Nat} (hA : gc_Bu w u x 8 A) (hB : gc_Bu w u y 8 B) (hk : gc_cn w u + 968 ≤ 2560) (hm : gc_W u + 736 ≤ 8192)
    (K : ∀ G v, gc_Gw w 968 736 144 u v → gc_Bu w v (gc_W u) 16 G → (∀ V, gc_Cs w v V → gc_vl (fun j => V (G j)) 16 = gc_vl (fun j => V (A j)) 8 * gc_vl (fun j => V (B j)) 8) → post (nI (gc_W u)) v) :
    ∀ f row hi v (Z H : Nat → Nat), row ≤ 8 → 8 - row < f → gc_Lq w u (gc_W u) (121 * row) (24 + 89 * row) (18 * row) v → gc_W u + 16 ≤ hi → gc_Bu w v hi 8 H → gc_Bw w v (gc_W u) row Z →
      (∀ V, gc_Cs w v V → gc_vl (fun j => V (Z j)) row + 2 ^ row * gc_vl (fun j => V (H j)) 8 = gc_vl (fun j => V (A j)) 8 * gc_vl (fun j => V (B j)) row) →
      ux_multiplySlowly_45 post (nI x) (nI y) (nI (gc_W u)) f (nI hi) (nI row) v := by
  have hA1 := hA.1
  have hB1 := hB.1
  intro f
  induction f with
  | zero => intro row hi v Z H _ h2; omega
  | succ f ih =>
    intro row hi v Z H h1 h2 I hhi hH hZ hs
    have cv := (gc_WFcn I.1)
    have Ex := I.2.2.1
    have cx := Ex.2.1
    have cy := I.2.2.2.1
    have wv := I.2.2.2.2.1
    have hH1 := hH.1
    refine uc_multiplySlowly_45 (pk_le 8 row (fun q => ?_) fun q => ?_)
    · have e : row = 8 := by omega
      subst e
      refine ⟨9, gc_ms153 hZ hH hhi I.1 (fun v2 L hb => ?_) 9 0 v (by omega) (by omega) (gc_Lq_rf I.1 _) (fun j hj => ?_) hH⟩
      · refine K _ v2 ⟨L.1, L.2.1.trans I.2.1, gc_Ex_tr Ex L.2.2.1, by have := L.2.2.2.1; omega, by have := L.2.2.2.2.1; omega, fun e he => L.2.2.2.2.2 _ (I.2.2.2.2.2 e he)⟩ hb fun V hV => ?_
        have c1 := gc_Cs_mo L.2.2.1 (by omega) hV
        have := hs V c1
        have q1 : gc_vl (fun j => V (if j < 8 then Z j else H (j - 8))) 8 = gc_vl (fun j => V (Z j)) 8 := gc_vl_cg fun j hj => by show V (if j < 8 then Z j else H (j - 8)) = _; rw [if_pos hj]
        have q2 : gc_vl (fun i => V (if 8 + i < 8 then Z (8 + i) else H (8 + i - 8))) 8 = gc_vl (fun j => V (H j)) 8 := gc_vl_cg fun j hj => by show V (if 8 + j < 8 then Z (8 + j) else H (8 + j - 8)) = _; rw [if_neg (by omega), Nat.add_sub_cancel_left]
        have q3 := gc_vl_add (fun j => V (if j < 8 then Z j else H (j - 8))) 8 8
        rw [q1] at q3
        rw [← this, ← q2]
        exact q3
      · show qg_wire v (gc_W u + j) = nI (if j < 8 then Z j else H (j - 8)) ∧ (if j < 8 then Z j else H (j - 8)) < gc_cn w v
        rw [if_pos (by omega)]; exact hZ j (by omega)
    · refine gc_bundle (n := 8) I.1 ⟨9, ?_⟩
      refine gc_ms63 (gc_Bu_mo Ex hA1 hA) (gc_Bu_mo Ex hB1 hB) hH q (by omega) (by omega) (by omega) (fun s G v2 hs1 hg hb hv => ?_) 9 0 _ (by omega) (by omega) (gc_LI_0 I.1 (by omega))
      have L2 : gc_Lq w u (gc_W u) (121 * (row + 1)) (24 + 89 * (row + 1)) (18 * (row + 1)) v2 := gc_Lq_le (gc_Lq_tr I hg Ex.2.2.1) (by omega) (by omega) (by omega)
      refine ih (row + 1) (s + 1) _ (fun j => if j = row then G 0 else Z j) (fun j => G (1 + j)) (by omega) (by omega) (gc_Lq_wr L2 (by omega)) (by omega) (gc_Bu_un (gc_Bu_sb hb (by omega)) (by omega)) (gc_Bw_us (gc_Bw_ex hZ hg.2.2.1 (by omega)) (hb.2 0 (by omega)).2) fun V hV => ?_
      have hV2 : gc_Cs w v2 V := hV
      have h0 := hs V (gc_Gw_Cs hg hV2)
      have e9 : gc_vl (fun j => V (G j)) 9 = (if V (G 0) then 1 else 0) + 2 * gc_vl (fun j => V (G (j + 1))) 8 := gc_vl_s _ 8
      have key := gc_mrow h0 (hv V hV2) e9
      show gc_vl (fun j => V (if j = row then G 0 else Z j)) row + (if V (if row = row then G 0 else Z row) then 2 ^ row else 0) + 2 ^ (row + 1) * gc_vl (fun j => V (G (1 + j))) 8 = gc_vl (fun j => V (A j)) 8 * (gc_vl (fun j => V (B j)) row + (if V (B row) then 2 ^ row else 0))
      rw [if_pos rfl, Nat.pow_succ', gc_vl_cg (f := fun j => V (if j = row then G 0 else Z j)) (g := fun j => V (Z j)) (fun j hj => by show V (if j = row then G 0 else Z j) = _; rw [if_neg (by omega)]), gc_vl_cg (f := fun j => V (G (1 + j))) (g := fun j => V (G (j + 1))) (fun j hj => by show V (G (1 + j)) = _; rw [Nat.add_comm])]
      exact key
theorem gc_mulS {post : Int32 → SX → Prop} {u : SX} {w x y : Nat} {A B : Nat → Nat} (h : gc_WF w u) (hA : gc_Bu w u x 8 A) (hB : gc_Bu w u y 8 B) (hk : gc_cn w u + 968 ≤ 2560) (hm : gc_W u + 736 ≤ 8192)
    (K : ∀ G v, gc_Gw w 968 736 144 u v → gc_Bu w v (gc_W u) 16 G → (∀ V, gc_Cs w v V → gc_vl (fun j => V (G j)) 16 = gc_vl (fun j => V (A j)) 8 * gc_vl (fun j => V (B j)) 8) → post (nI (gc_W u)) v) : wpX_multiplySlowly post u (nI x) (nI y) := by
  have cu := gc_WFcn h
  have loop : ∀ f i v, i ≤ 8 → 8 - i < f → gc_Lq w u (gc_W u) 0 24 0 v → gc_W v = gc_W u + 24 → gc_Bw w v (gc_W u + 16) i (fun _ => 0) → ux_multiplySlowly_18 post (nI x) (nI y) (nI (gc_W u)) (nI (gc_W u + 16)) f (nI i) v := by
    intro f
    induction f with
    | zero => intro i v _ h2; omega
    | succ f ih =>
      intro i v h1 h2 I wv hB2
      have cv := gc_WFcn I.1
      refine uc_multiplySlowly_18 (pk_le 8 i (fun q => ⟨9, ?_⟩) fun q => ?_)
      · have e : i = 8 := by omega
        subst e
        refine gc_ms45 hA hB hk hm K 9 0 (gc_W u + 16) v (fun _ => 0) (fun _ => 0) (by omega) (by omega) I (by omega) ⟨by omega, hB2⟩ (fun j hj => absurd hj (by omega)) fun V hV => ?_
        rw [gc_vl_0 (n := 8) fun j _ => hV.1]
        rfl
      · refine gc_wrt' (r := 0) (nI_add _ _) (by omega) (by omega) (nm_r (nI_1 i) (ih (i + 1) _ (by omega) (by omega) (gc_Lq_wr I (by omega)) wv ?_))
        intro j hj
        have := gc_Bw_us (g := 0) hB2 (by omega) j (by omega)
        refine ⟨this.1.trans (congrArg nI ?_), show 0 < gc_cn w v by omega⟩
        show (if j = i then 0 else 0) = 0
        split <;> rfl
  refine uc_multiplySlowly (gc_bundle (n := 16) h ?_)
  have h1 : gc_WF w (qs_wires u (nI (gc_W u + 16))) := gc_buWF h (by omega)
  have w1 : gc_W (qs_wires u (nI (gc_W u + 16))) = gc_W u + 16 := gc_buW (by omega)
  refine gc_bundle (n := 8) h1 ⟨9, ?_⟩
  rw [w1]
  have es : qs_wires (qs_wires u (nI (gc_W u + 16))) (nI (gc_W u + 16 + 8)) = qs_wires u (nI (gc_W u + 24)) := gc_wsws
  rw [es]
  exact loop 9 0 _ (by omega) (by omega) (gc_Gw_go (gc_buGo h (by omega))) (gc_buW (by omega)) fun j hj => absurd hj (by omega)
end
section
/-! products with the carries kept apart -/
theorem gc_add3 {post : SX → Prop} {u : SX} {w a b c : Nat} (h : gc_WF w u) (hk : gc_cn w u + 5 ≤ 2560) (ha : a < gc_cn w u) (hb : b < gc_cn w u) (hc : c < gc_cn w u)
    (K : ∀ gs gk u', gc_Nt w 5 u u' → qg_threeSum u' = nI gs → qg_threeCarry u' = nI gk → gs < gc_cn w u' → gk < gc_cn w u' →
      (∀ V, gc_Cs w u' V → V gs = ((V a ^^ V b) ^^ V c) ∧ V gk = ((V a && V b) || ((V a ^^ V b) && V c))) →
      (∀ e, gc_GL w u a e → gc_GL w u b e → gc_GL w u c (e + 1) → gc_AL w u (e + 3) → gc_AL w u' (e + 3)) → post u') : wpX_addThree post u (nI a) (nI b) (nI c) := by
  refine uc_addThree ?_
  refine gc_xor h (by omega) ha hb fun r1 v1 g1 => ?_
  have n1 := gc_Gr_cn g1
  refine gc_and g1.1.1 (by omega) (x := a) (y := b) (by omega) (by omega) fun r2 v2 g2 => ?_
  have n2 := gc_Gr_cn g2
  refine gc_and g2.1.1 (by omega) (x := r1) (y := c) (by omega) (by omega) fun r3 v3 g3 => ?_
  have n3 := gc_Gr_cn g3
  refine gc_xor g3.1.1 (by omega) (x := r1) (y := c) (by omega) (by omega) fun r4 v4 g4 => ?_
  have n4 := gc_Gr_cn g4
  have N5 := gc_Nt_ts (x := nI r4) g4.1.1
  have t5 : qg_threeSum (qs_threeSum v4 (nI r4)) = nI r4 := gc_ts_s
  generalize qs_threeSum v4 (nI r4) = u5 at N5 t5 ⊢
  have c5 := gc_Nt_cn N5
  refine gc_or N5.1 (by omega) (x := r2) (y := r3) (by omega) (by omega) fun r6 v6 g6 => ?_
  have n6 := gc_Gr_cn g6
  have N7 := gc_Nt_tc (x := nI r6) g6.1.1
  have s7 : qg_threeSum (qs_threeCarry v6 (nI r6)) = nI r4 := gc_tc_s.trans ((gc_eg_ts g6.1.2.1).trans t5)
  have k7 : qg_threeCarry (qs_threeCarry v6 (nI r6)) = nI r6 := gc_tc_c
  generalize qs_threeCarry v6 (nI r6) = u7 at N7 s7 k7 ⊢
  have c7 := gc_Nt_cn N7
  have N6 : gc_Nt w (1 + 1 + 1 + 1 + 0 + 1 + 0) u u7 := gc_Nt_tr (gc_Nt_tr (gc_Nt_tr (gc_Nt_tr (gc_Nt_tr (gc_Nt_tr (gc_Nt_ng g1.1) (gc_Nt_ng g2.1)) (gc_Nt_ng g3.1)) (gc_Nt_ng g4.1)) N5) (gc_Nt_ng g6.1)) N7
  refine K r4 r6 _ (gc_Nt_le N6 (by omega)) s7 k7 (by omega) (by omega) (fun V hV => ?_) fun e la lb lc hA => ?_
  · have c6 := gc_Nt_Cs N7 hV
    have cc5 := gc_Gr_Cs g6 c6
    have cc4 := gc_Nt_Cs N5 cc5
    have cc3 := gc_Gr_Cs g4 cc4
    have cc2 := gc_Gr_Cs g3 cc3
    rw [gc_vX g4 cc4, gc_vO g6 c6, gc_vA g3 cc3, gc_vA g2 cc2, gc_vX g1 (gc_Gr_Cs g2 cc2)]
    exact ⟨rfl, rfl⟩
  · have m1 : ∀ g d, gc_GL w u g d → gc_GL w v1 g d := fun g d hg => gc_Gr_GL g1 hg
    have m5 : ∀ g d, gc_GL w v4 g d → gc_GL w u5 g d := fun g d hg => gc_Nt_GL N5 hg
    have l1 := g1.2.2.2 e ⟨la, lb⟩
    have l1' := g1.2.2.2 (e + 2) ⟨gc_GL_le la (by omega), gc_GL_le lb (by omega)⟩
    have l2 := g2.2.2.2 e ⟨m1 _ _ la, m1 _ _ lb⟩
    have l2' := g2.2.2.2 (e + 2) ⟨gc_GL_le (m1 _ _ la) (by omega), gc_GL_le (m1 _ _ lb) (by omega)⟩
    have lc2 := gc_Gr_GL g2 (m1 _ _ lc)
    have l3 := g3.2.2.2 (e + 1) ⟨gc_Gr_GL g2 l1.1, lc2⟩
    have l3' := g3.2.2.2 (e + 2) ⟨gc_GL_le (gc_Gr_GL g2 l1.1) (by omega), gc_GL_le lc2 (by omega)⟩
    have l4' := g4.2.2.2 (e + 2) ⟨gc_GL_le (gc_Gr_GL g3 (gc_Gr_GL g2 l1.1)) (by omega), gc_GL_le (gc_Gr_GL g3 lc2) (by omega)⟩
    have l6 := g6.2.2.2 (e + 2) ⟨gc_GL_le (m5 _ _ (gc_Gr_GL g4 (gc_Gr_GL g3 l2.1))) (by omega), m5 _ _ (gc_Gr_GL g4 l3.1)⟩
    exact gc_Nt_AL N7 (l6.2 (gc_Nt_AL N5 (l4'.2 (l3'.2 (l2'.2 (l1'.2 hA))))))
def gc_pt (A : Nat → Nat) (b row : Nat) (V : Nat → Bool) (i : Nat) : Bool := if row ≤ i ∧ i < row + 8 then (V (A (i - row)) && V b) else false
def gc_x3 (S C A : Nat → Nat) (b row : Nat) (V : Nat → Bool) (i : Nat) : Bool := (V (S i) ^^ V (C i)) ^^ gc_pt A b row V i
def gc_m3 (S C A : Nat → Nat) (b row : Nat) (V : Nat → Bool) (i : Nat) : Bool := (V (S i) && V (C i)) || ((V (S i) ^^ V (C i)) && gc_pt A b row V i)
theorem gc_mq89 {post : Int32 → SX → Prop} {J : Int32 → Int32 → Int32 → SX → Prop} {u : SX} {w x y s c row : Nat} {A B S C : Nat → Nat} (hA : gc_Bu w u x 8 A) (hB : gc_Bu w u y 8 B) (hS : gc_Bu w u s 16 S) (hC : gc_Bu w u c 16 C) (hr : row < 8) (hk : gc_cn w u + 96 ≤ 2560) (hm : gc_W u + 32 ≤ 8192)
    (K : ∀ v, gc_Lp w u (gc_W u) (gc_W u + 32) 96 3 v → (∀ j, j < 16 → gc_Wd w v (gc_W u + j) (fun V => gc_x3 S C A (B row) row V j)) → gc_Wd w v (gc_W u + 16) (fun _ => false) → (∀ j, j < 15 → gc_Wd w v (gc_W u + 16 + (j + 1)) (fun V => gc_m3 S C A (B row) row V j)) → J (nI (gc_W u)) (nI (gc_W u + 16)) (nI (row + 1)) v) :
    ∀ f i v, i ≤ 16 → 16 - i < f → gc_Lp w u (gc_W u) (gc_W u + 32) (6 * i) 3 v → (∀ j, j < i → gc_Wd w v (gc_W u + j) (fun V => gc_x3 S C A (B row) row V j)) → gc_Wd w v (gc_W u + 16) (fun _ => false) → (∀ j, j < i → j < 15 → gc_Wd w v (gc_W u + 16 + (j + 1)) (fun V => gc_m3 S C A (B row) row V j)) → ux_multiplyQuickly_89 post J (nI x) (nI y) (nI s) (nI c) (nI row) (nI (gc_W u)) (nI (gc_W u + 16)) f (nI i) v := by
  have hA1 := hA.1
  have hB1 := hB.1
  have hS1 := hS.1
  have hC1 := hC.1
  intro f
  induction f with
  | zero => intro i v _ h2; omega
  | succ f ih =>
    intro i v h1 h2 I d1 d2 d3
    have cv := (gc_WFcn I.1)
    have Ex := I.2.2.1
    have cx := Ex.2.1
    have cy := I.2.2.2.1
    refine uc_multiplyQuickly_89 (pk_le 16 i (fun q => ?_) fun q => ?_)
    · have e : i = 16 := by omega
      subst e
      exact nm_r (nI_1 row) (K v I d1 d2 fun j hj => d3 j (by omega) hj)
    · have b154 : ∀ g v1, gc_Nt w 1 v v1 → g < gc_cn w v1 → (∀ V, gc_Cs w v1 V → V g = gc_pt A (B row) row V i) → (∀ e, gc_AL w u e → gc_GL w v1 g (e + 1) ∧ gc_AL w v1 (e + 3)) → ux_multiplyQuickly_154 post J (ux_multiplyQuickly_89 post J (nI x) (nI y) (nI s) (nI c) (nI row) (nI (gc_W u)) (nI (gc_W u + 16)) f) (nI x) (nI y) (nI s) (nI c) (nI row) (nI (gc_W u)) (nI (gc_W u + 16)) (nI i) (nI g) v1 := by
        intro g v1 N1 hg sg lg
        have I1 := gc_Lp_nt (d' := 3) I (by omega) N1 fun e he => (lg e he).2
        have Ex1 := I1.2.2.1
        have n1 := N1.2.2.2.1
        have n1' := N1.2.2.1.2.1
        have hs := hS.2 i q
        have hc := hC.2 i q
        refine uc_multiplyQuickly_154 ⟨gc_vin (nI_add _ _) (by omega), gc_vin (nI_add _ _) (by omega), ?_⟩
        rw [gc_rdx (nI_add s i) (by omega) ((gc_Ex_wr Ex1 (by omega)).trans hs.1), gc_rdx (nI_add c i) (by omega) ((gc_Ex_wr Ex1 (by omega)).trans hc.1)]
        refine gc_add3 N1.1 (by omega) (by omega) (by omega) hg fun gs gk v2 N2 js jk hgs hgk sv lv => ?_
        have c2 := gc_WFcn N2.1
        rw [js, jk]
        have I2 : gc_Lp w u (gc_W u) (gc_W u + 32) (6 * i + 1 + 5) 3 v2 := gc_Lp_nt I1 (by omega) N2 fun e he => lv e (gc_GL_mo Ex1 (by omega) (he _ hs.2)) (gc_GL_mo Ex1 (by omega) (he _ hc.2)) (lg e he).1 (lg e he).2
        have N12 := gc_Nt_tr N1 N2
        have sx : ∀ V, gc_Cs w v2 V → V gs = gc_x3 S C A (B row) row V i ∧ V gk = gc_m3 S C A (B row) row V i := fun V hV => by
          have := sv V hV
          rw [sg V (gc_Cs_mo N2.2.2.1 (by omega) hV)] at this
          exact this
        refine gc_wrt (nI_add _ _) (by omega) (by omega) ?_
        have ei : nI i + 1 = nI (i + 1) := nI_1 i
        rw [ei]
        refine pk_le 16 (i + 1) (fun q2 => ?_) fun q2 => ?_
        · refine nm_e (ih (i + 1) _ (by omega) (by omega) (gc_Lp_wr I2 (by omega)) (fun j hj => ?_) (gc_Wd_un (gc_Wd_nt d2 N12) (by omega)) fun j hj hj2 => ?_)
          · by_cases e : j = i
            · subst e; exact gc_Wd_us hgs fun V hV => (sx V hV).1
            · exact gc_Wd_un (gc_Wd_nt (d1 j (by omega)) N12) (by omega)
          · exact gc_Wd_un (gc_Wd_nt (d3 j (by omega) hj2) N12) (by omega)
        · have em : nI (gc_W u + 16) + nI i + 1 = nI (gc_W u + 16 + (i + 1)) := by rw [nI_add, nI_1]; rfl
          refine gc_wrt em (by omega) (by omega) (nm_e ?_)
          refine ih (i + 1) (qs_wire (qs_wire v2 (upd (qg_wire v2) (gc_W u + i) (nI gs))) (upd (qg_wire (qs_wire v2 (upd (qg_wire v2) (gc_W u + i) (nI gs)))) (gc_W u + 16 + (i + 1)) (nI gk))) (by omega) (by omega) (gc_Lp_wr (gc_Lp_wr I2 (by omega)) (by omega)) (fun j hj => ?_) (gc_Wd_un (gc_Wd_un (gc_Wd_nt d2 N12) (by omega)) (by omega)) fun j hj hj2 => ?_
          · by_cases e : j = i
            · subst e; exact gc_Wd_un (gc_Wd_us hgs fun V hV => (sx V hV).1) (by omega)
            · exact gc_Wd_un (gc_Wd_un (gc_Wd_nt (d1 j (by omega)) N12) (by omega)) (by omega)
          · by_cases e : j = i
            · subst e; exact gc_Wd_us (u := qs_wire v2 (upd (qg_wire v2) (gc_W u + j) (nI gs))) hgk fun V hV => (sx V hV).2
            · exact gc_Wd_un (gc_Wd_un (gc_Wd_nt (d3 j (by omega) hj2) N12) (by omega)) (by omega)
      have out : ¬ (row ≤ i ∧ i < row + 8) → ux_multiplyQuickly_117 post J (ux_multiplyQuickly_89 post J (nI x) (nI y) (nI s) (nI c) (nI row) (nI (gc_W u)) (nI (gc_W u + 16)) f) (nI x) (nI y) (nI s) (nI c) (nI row) (nI (gc_W u)) (nI (gc_W u + 16)) (nI i) v := by
        intro ho
        refine uc_multiplyQuickly_117 (uc_multiplyQuickly_118 (br_t rfl ?_))
        exact b154 0 v (gc_Nt_ng (gc_Ng_rf I.1 1)) (by omega) (fun V hV => hV.1.trans (if_neg ho).symm) fun e he => ⟨gc_GL0 (by omega), I.2.2.2.2.2 e he⟩
      have e8 : nI row + 8 = nI (row + 8) := nI_add row 8
      rw [e8]
      refine pk_lt i row (fun q2 => out (by omega)) fun q2 => pk_le (row + 8) i (fun q3 => out (by omega)) fun q3 => ?_
      refine uc_multiplyQuickly_118 (br_f (by decide) ?_)
      have ha := hA.2 (i - row) (by omega)
      have hb := hB.2 row hr
      have ex : nI x + nI i - nI row = nI (x + (i - row)) := by rw [nI_add, pk_sub (by omega)]; exact congrArg nI (by omega)
      refine ⟨gc_vin ex (by omega), gc_vin (nI_add _ _) (by omega), ?_⟩
      rw [gc_rdx ex (by omega) ((gc_Ex_wr Ex (by omega)).trans ha.1), gc_rdx (nI_add y row) (by omega) ((gc_Ex_wr Ex (by omega)).trans hb.1)]
      refine gc_and I.1 (by omega) (by omega) (by omega) fun r1 v1 g1 => ?_
      have n1 := gc_Gr_cn g1
      refine b154 r1 v1 (gc_Nt_ng g1.1) n1.2.2.1 (fun V hV => (g1.2.2.1 V hV).trans (if_pos ⟨q2, q3⟩).symm) fun e he => ?_
      have la := gc_GL_mo Ex (by omega) (he _ ha.2)
      have lb := gc_GL_mo Ex (by omega) (he _ hb.2)
      exact ⟨(g1.2.2.2 e ⟨la, lb⟩).1, (g1.2.2.2 (e + 2) ⟨gc_GL_le la (by omega), gc_GL_le lb (by omega)⟩).2 (I.2.2.2.2.2 e he)⟩
theorem gc_mq55 {post : Int32 → SX → Prop} {u : SX} {w x y : Nat} {A B : Nat → Nat} (hA : gc_Bu w u x 8 A) (hB : gc_Bu w u y 8 B) (hk : gc_cn w u + 1041 ≤ 2560) (hm : gc_W u + 481 ≤ 8192)
    (K : ∀ z G v, gc_Gw w 1041 481 36 u v → gc_Bu w v z 16 G → (∀ V, gc_Cs w v V → gc_vl (fun j => V (G j)) 16 = gc_vl (fun j => V (A j)) 8 * gc_vl (fun j => V (B j)) 8) → post (nI z) v) :
    ∀ f row s c v (S C : Nat → Nat), row ≤ 8 → 8 - row < f → gc_Gw w (96 * row) (32 + 32 * row) (3 * row) u v → gc_Bu w v s 16 S → gc_Bu w v c 16 C →
      (∀ V, gc_Cs w v V → (gc_vl (fun j => V (S j)) 16 + gc_vl (fun j => V (C j)) 16) % 65536 = (gc_vl (fun j => V (A j)) 8 * gc_vl (fun j => V (B j)) row) % 65536) →
      ux_multiplyQuickly_55 post (nI x) (nI y) f (nI s) (nI c) (nI row) v := by
  intro f
  induction f with
  | zero => intro row s c v S C _ h2; omega
  | succ f ih =>
    intro row s c v S C h1 h2 I hS hC hs
    have cv := (gc_WFcn I.1)
    have gn := gc_Gw_n I
    have hS1 := hS.1
    have hC1 := hC.1
    refine uc_multiplyQuickly_55 (pk_le 8 row (fun q => ?_) fun q => ?_)
    · have e : row = 8 := by omega
      subst e
      refine gc_addQ (n := 16) (T := 4) (c := 0) (kk := 273) (mm := 193) I.1 hS hC (by omega) (by decide) (by decide) (by decide) (by decide) rfl rfl (by omega) (by omega) fun G v2 hg hb hv => ?_
      refine K _ G v2 (gc_Gw_le (gc_Gw_tr I (gc_Gw_go hg)) (by omega) (by omega) (by omega)) ⟨by have := hb.1; omega, fun i hi => hb.2 i (by omega)⟩ fun V hV => ?_
      have e1 := gc_vl_cg (n := 17) (hv V hV)
      rw [gc_sm_vl, (gc_Go_Cs hg hV).1] at e1
      have e2 := gc_vl_mod (fun j => V (G j)) (m := 16) (n := 17) (by decide)
      rw [← e2, e1]
      have e3 := hs V (gc_Go_Cs hg hV)
      have l1 := gc_vl_lt (fun j => V (A j)) 8
      have l2 := gc_vl_lt (fun j => V (B j)) 8
      have l3 : gc_vl (fun j => V (A j)) 8 * gc_vl (fun j => V (B j)) 8 < 65536 := by
        have := Nat.mul_lt_mul'' l1 l2
        exact Nat.lt_of_lt_of_le this (by decide)
      rw [Nat.mod_eq_of_lt l3] at e3
      exact e3
    · refine gc_bundle (n := 16) I.1 ?_
      have h1' : gc_WF w (qs_wires v (nI (gc_W v + 16))) := gc_buWF I.1 (by omega)
      have w1 : gc_W (qs_wires v (nI (gc_W v + 16))) = gc_W v + 16 := gc_buW (by omega)
      refine gc_bundle (n := 16) h1' ?_
      rw [w1]
      have es : qs_wires (qs_wires v (nI (gc_W v + 16))) (nI (gc_W v + 16 + 16)) = qs_wires v (nI (gc_W v + 32)) := gc_wsws
      rw [es]
      refine gc_wrt' (r := 0) (j := gc_W v + 16) rfl (by omega) (by omega) ⟨17, ?_⟩
      have I0 : gc_Lp w v (gc_W v) (gc_W v + 32) (6 * 0) 3 (qs_wires v (nI (gc_W v + 32))) := gc_Lp_le (gc_Go_Lp (gc_buGo I.1 (by omega))) (by omega)
      refine gc_mq89 (gc_Gw_Bu I hA) (gc_Gw_Bu I hB) hS hC q (by omega) (by omega) (fun v2 L d1 d2 d3 => ?_) 17 0 _ (by omega) (by omega) (gc_Lp_wr I0 (by omega)) (fun j hj => absurd hj (by omega)) (gc_Wd_us (u := qs_wires v (nI (gc_W v + 32))) (g := 0) (show 0 < gc_cn w v by omega) fun V hV => hV.1) fun j hj => absurd hj (by omega)
      have wv := L.2.2.2.2.1
      obtain ⟨S', S1, S2⟩ := gc_Wd_Bu (n := 16) L.1 (by omega) d1
      obtain ⟨C', C1, C2⟩ := gc_Wd_Bu (n := 16) (z := gc_W v + 16) (Q := fun j V => if j = 0 then false else gc_m3 S C A (B row) row V (j - 1)) L.1 (by omega) fun j hj => by
        by_cases e : j = 0
        · subst e; exact d2
        · have := d3 (j - 1) (by omega)
          have ej : j - 1 + 1 = j := by omega
          rw [ej] at this
          simp only [if_neg e]
          exact this
      refine ih (row + 1) _ _ v2 S' C' (by omega) (by omega) (gc_Gw_le (gc_Gw_tr I (gc_Gw_go (gc_Lp_go L rfl))) (by omega) (by omega) (by omega)) S1 C1 fun V hV => ?_
      have c0 := gc_Cs_mo L.2.2.1 (by omega) hV
      have key := gc_csa16 (a := fun j => V (S j)) (b := fun j => V (C j)) (c := fun j => gc_pt A (B row) row V j) (s := fun j => V (S' j)) (m := fun j => V (C' j)) (S2 V hV) ((C2 V hV 0 (by omega)).trans (if_pos rfl)) fun j hj => (C2 V hV (j + 1) (by omega)).trans (if_neg (by omega))
      rw [key]
      have ep : gc_vl (fun j => gc_pt A (B row) row V j) 16 = 2 ^ row * (if V (B row) then gc_vl (fun j => V (A j)) 8 else 0) := gc_part (X := fun j => V (A j)) q
      rw [ep, Nat.add_mod, hs V c0, ← Nat.add_mod]
      congr 1
      show _ = gc_vl (fun j => V (A j)) 8 * (gc_vl (fun j => V (B j)) row + (if V (B row) then 2 ^ row else 0))
      rw [Nat.mul_add]
      congr 1
      cases V (B row)
      · simp
      · simp [Nat.mul_comm]
theorem gc_mulQ {post : Int32 → SX → Prop} {u : SX} {w x y : Nat} {A B : Nat → Nat} (h : gc_WF w u) (hA : gc_Bu w u x 8 A) (hB : gc_Bu w u y 8 B) (hk : gc_cn w u + 1041 ≤ 2560) (hm : gc_W u + 481 ≤ 8192)
    (K : ∀ z G v, gc_Gw w 1041 481 36 u v → gc_Bu w v z 16 G → (∀ V, gc_Cs w v V → gc_vl (fun j => V (G j)) 16 = gc_vl (fun j => V (A j)) 8 * gc_vl (fun j => V (B j)) 8) → post (nI z) v) : wpX_multiplyQuickly post u (nI x) (nI y) := by
  have cu := gc_WFcn h
  have loop : ∀ f i v, i ≤ 16 → 16 - i < f → gc_Gw w 0 32 0 u v → gc_W v = gc_W u + 32 → gc_Bw w v (gc_W u) i (fun _ => 0) → gc_Bw w v (gc_W u + 16) i (fun _ => 0) → ux_multiplyQuickly_18 post (nI x) (nI y) (nI (gc_W u)) (nI (gc_W u + 16)) f (nI i) v := by
    intro f
    induction f with
    | zero => intro i v _ h2; omega
    | succ f ih =>
      intro i v h1 h2 I wv hB1 hB2
      have cv := gc_WFcn I.1
      refine uc_multiplyQuickly_18 (pk_le 16 i (fun q => ⟨9, ?_⟩) fun q => ?_)
      · have e : i = 16 := by omega
        subst e
        refine gc_mq55 hA hB hk hm K 9 0 _ _ v (fun _ => 0) (fun _ => 0) (by omega) (by omega) I ⟨by omega, hB1⟩ ⟨by omega, hB2⟩ fun V hV => ?_
        rw [gc_vl_0 (n := 16) fun j _ => hV.1]
        rfl
      · refine gc_wrt' (r := 0) (nI_add _ _) (by omega) (by omega) ?_
        refine gc_wrt' (r := 0) (nI_add _ _) (by omega) (by omega) (nm_r (nI_1 i) ?_)
        have z1 : ∀ (u1 : SX) (p : Nat), 0 < gc_cn w u1 → gc_Bw w u1 p i (fun _ => 0) → gc_Bw w (qs_wire u1 (upd (qg_wire u1) (p + i) (nI 0))) p (i + 1) (fun _ => 0) := fun u1 p h0 hb j hj => by
          have := gc_Bw_us (g := 0) hb h0 j hj
          refine ⟨this.1.trans (congrArg nI ?_), h0⟩
          show (if j = i then 0 else 0) = 0
          split <;> rfl
        exact ih (i + 1) (qs_wire (qs_wire v (upd (qg_wire v) (gc_W u + i) (nI 0))) (upd (qg_wire (qs_wire v (upd (qg_wire v) (gc_W u + i) (nI 0)))) (gc_W u + 16 + i) (nI 0))) (by omega) (by omega) (gc_Lq_wr (gc_Lq_wr I (by omega)) (by omega)) wv (gc_Bw_un (z1 v _ (by omega) hB1) (by omega)) (z1 _ _ (show 0 < gc_cn w v by omega) (gc_Bw_un hB2 (by omega)))
  refine uc_multiplyQuickly (gc_bundle (n := 16) h ?_)
  have h1 : gc_WF w (qs_wires u (nI (gc_W u + 16))) := gc_buWF h (by omega)
  have w1 : gc_W (qs_wires u (nI (gc_W u + 16))) = gc_W u + 16 := gc_buW (by omega)
  refine gc_bundle (n := 16) h1 ⟨17, ?_⟩
  rw [w1]
  have es : qs_wires (qs_wires u (nI (gc_W u + 16))) (nI (gc_W u + 16 + 16)) = qs_wires u (nI (gc_W u + 32)) := gc_wsws
  rw [es]
  exact loop 17 0 _ (by omega) (by omega) (gc_Gw_go (gc_buGo h (by omega))) (gc_buW (by omega)) (fun j hj => absurd hj (by omega)) fun j hj => absurd hj (by omega)
theorem gc_mul {post : Int32 → SX → Prop} {u : SX} {w x y : Nat} {A B : Nat → Nat} (h : gc_WF w u) (hA : gc_Bu w u x 8 A) (hB : gc_Bu w u y 8 B) (hk : gc_cn w u + 1041 ≤ 2560) (hm : gc_W u + 736 ≤ 8192)
    (K : ∀ z G v, gc_Gw w 1041 736 144 u v → gc_Bu w v z 16 G → (∀ V, gc_Cs w v V → gc_vl (fun j => V (G j)) 16 = gc_vl (fun j => V (A j)) 8 * gc_vl (fun j => V (B j)) 8) → post (nI z) v) : wpX_multiply post u (nI x) (nI y) := by
  have hw := h.1.1
  have w3 := h.1.2.2.1
  have hw' : w = 0 ∨ w = 1 := by omega
  rcases hw' with rfl | rfl
  · exact uc_multiply (br_t (by rw [w3]; rfl) (gc_mulS h hA hB (by omega) hm fun G v g b s => K _ G v (gc_Gw_le g (by omega) (by omega) (by omega)) b s))
  · exact uc_multiply (br_f (by rw [w3]; decide) (gc_mulQ h hA hB hk (by omega) fun z G v g b s => K z G v (gc_Gw_le g (by omega) (by omega) (by omega)) b s))
end
section
/-! is it a number, is it nothing, looking up, flip-flops -/
theorem gc_sml : ∀ n, n < 32 → ((nI n &&& 31).toBitVec.smod 32).toNat = n := by decide +kernel
theorem gc_bit {x i : Nat} (h : x < 2 ^ 31) (hi : i < 32) : (nI x >>> (nI i &&& 31)) &&& 1 = nI (x / 2 ^ i % 2) := by
  rw [pk_shrN h _ i (gc_sml i hi)]
  have : x / 2 ^ i ≤ x := Nat.div_le_self _ _
  exact pk_andN (by omega) (m := 1) 1 (by decide)
theorem gc_tb0 {x i : Nat} (h : x < 2 ^ 31) (hi : i < 32) : (nI x >>> (nI i &&& 31)) &&& 1 = 0 ↔ x.testBit i = false := by
  rw [gc_bit h hi, Nat.testBit_eq_decide_div_mod_eq]
  rcases Nat.mod_two_eq_zero_or_one (x / 2 ^ i) with e | e
  · rw [e]; decide
  · rw [e]; decide
theorem gc_Gw_ng {w k d : Nat} {u v : SX} (hu : gc_WF w u) (h : gc_Ng w k u v) (hl : ∀ e, gc_AL w u e → gc_AL w v (e + d)) : gc_Gw w k 0 d u v :=
  ⟨h.1, gc_gl h.2.1, gc_Ng_Ex h _ _ _ (gc_WFcn hu).2.2, h.2.2.2, Nat.le_of_eq (gc_Ng_W h), hl⟩
theorem gc_isNum {post : Int32 → SX → Prop} {u : SX} {w x n num : Nat} {A : Nat → Nat} (h : gc_WF w u) (hA : gc_Bu w u x n A) (hn : n ≤ 16) (hx : num < 65536) (hk : gc_cn w u + 2 * n ≤ 2560)
    (K : ∀ r u', gc_Ng w (2 * n) u u' → r < gc_cn w u' → (∀ V, gc_Cs w u' V → V r = gc_nb (fun j => V (A j)) num n) → (∀ e, gc_AL w u e → gc_AL w u' (e + n)) → post (nI r) u') : wpX_isNumber post u (nI x) (nI n) (nI num) := by
  have hA1 := hA.1
  have hW := (gc_WFcn h).2.2
  have loop : ∀ f i v q, i ≤ n → n - i < f → gc_Ng w (2 * i) u v → q < gc_cn w v → (∀ V, gc_Cs w v V → V q = gc_nb (fun j => V (A j)) num i) → (∀ e, gc_AL w u e → gc_AL w v (e + i) ∧ gc_GL w v q (e + i)) → ux_isNumber_6 post (nI x) (nI n) (nI num) f (nI q) (nI i) v := by
    intro f
    induction f with
    | zero => intro i v q _ h2; omega
    | succ f ih =>
      intro i v q h1 h2 N hq sq lq
      have cv := (gc_WFcn N.1).1
      have cn1 := N.2.2.2
      have cn2 := N.2.2.1.2.1
      refine uc_isNumber_6 (pk_le n i (fun z => ?_) fun z => ?_)
      · have e : i = n := by omega
        subst e
        exact K q v N hq sq fun e he => (lq e he).1
      · have ha := hA.2 i z
        have b43 : ∀ g v1, gc_Ng w 1 v v1 → g < gc_cn w v1 → (∀ V, gc_Cs w v1 V → V g = (V (A i) == num.testBit i)) → (∀ e, gc_AL w u e → gc_GL w v1 g (e + (i - 1) + 1) ∧ gc_AL w v1 (e + (i - 1) + 1)) → ux_isNumber_43 post (ux_isNumber_6 post (nI x) (nI n) (nI num) f) (nI x) (nI n) (nI num) (nI q) (nI i) (nI g) v1 := by
          intro g v1 N1 hg sg lg
          have n1 := N1.2.2.2
          have n1' := N1.2.2.1.2.1
          have N01 := gc_Ng_tr N N1
          refine uc_isNumber_43 (pk_eq i 0 (fun e0 => ?_) fun e0 => ?_)
          · refine nm_r (nI_1 i) (ih (i + 1) v1 g (by omega) (by omega) ⟨N01.1, N01.2.1, N01.2.2.1, by have := N01.2.2.2; omega⟩ hg (fun V hV => ?_) fun e he => ?_)
            · rw [sg V hV]
              subst e0
              show _ = (true && (V (A 0) == num.testBit 0))
              rw [Bool.true_and]
            · have := lg e he
              exact ⟨gc_AL_le this.2 (by omega), gc_GL_le this.1 (by omega)⟩
          · refine gc_and N1.1 (by omega) (x := q) (y := g) (by omega) (by omega) fun r2 v2 g2 => ?_
            have n2 := gc_Gr_cn g2
            have N02 := gc_Ng_tr N01 g2.1
            refine nm_r (nI_1 i) (ih (i + 1) v2 r2 (by omega) (by omega) ⟨N02.1, N02.2.1, N02.2.2.1, by have := N02.2.2.2; omega⟩ n2.2.2.1 (fun V hV => ?_) fun e he => ?_)
            · have c1 := gc_Gr_Cs g2 hV
              rw [gc_vA g2 hV, sg V c1, sq V (gc_Cs_mo N1.2.2.1 (by omega) c1)]
              rfl
            · have l1 := lg e he
              have l2 := g2.2.2.2 (e + i) ⟨gc_GL_mo N1.2.2.1 (by omega) (lq e he).2, gc_GL_le l1.1 (by omega)⟩
              exact ⟨gc_AL_le (l2.2 (gc_AL_le l1.2 (by omega))) (by omega), gc_GL_le l2.1 (by omega)⟩
        have lA : ∀ e, gc_AL w u e → gc_GL w v (A i) e := fun e he => gc_GL_mo N.2.2.1 (by omega) (he _ ha.2)
        refine ⟨gc_vin (nI_add _ _) (by omega), nm_r (e' := nI (A i)) (gc_rdx (nI_add x i) (by omega) ((congrFun (gc_Ng_wr N) _).trans ha.1)) ?_⟩
        refine ek_if (gc_tb0 (by omega) (by omega)) (fun tb => ?_) fun tb => ?_
        · refine gc_not N.1 (by omega) (by omega) fun r1 v1 g1 => ?_
          have n1 := gc_Gr_cn g1
          refine b43 r1 v1 g1.1 n1.2.2.1 (fun V hV => ?_) fun e he => ?_
          · rw [gc_vN g1 hV, tb]; cases V (A i) <;> rfl
          · have := g1.2.2.2 (e + (i - 1)) (gc_GL_le (lA e he) (by omega))
            exact ⟨this.1, this.2 (gc_AL_le (lq e he).1 (by omega))⟩
        · refine b43 (A i) v (gc_Ng_rf N.1 1) (by omega) (fun V hV => ?_) fun e he => ⟨gc_GL_le (lA e he) (by omega), gc_AL_le (lq e he).1 (by omega)⟩
          have tb' : num.testBit i = true := by cases hh : num.testBit i; exact absurd hh tb; rfl
          rw [tb']; cases V (A i) <;> rfl
  have := (gc_WFcn h).2.1
  exact uc_isNumber ⟨n + 1, loop (n + 1) 0 u 1 (by omega) (by omega) (gc_Ng_rf h _) (by omega) (fun V hV => hV.2.1) fun e he => ⟨he, gc_GL0 (by omega)⟩⟩
theorem gc_isNth {post : Int32 → SX → Prop} {u : SX} {w x : Nat} {A : Nat → Nat} (h : gc_WF w u) (hA : gc_Bu w u x 8 A) (hk : gc_cn w u + 8 ≤ 2560)
    (K : ∀ r u', gc_Gw w 8 0 8 u u' → r < gc_cn w u' → (∀ V, gc_Cs w u' V → V r = decide (gc_vl (fun j => V (A j)) 8 = 0)) → post (nI r) u') : wpX_isNothing post u (nI x) := by
  have hA1 := hA.1
  have hW := (gc_WFcn h).2.2
  have loop : ∀ f i v q, i ≤ 7 → 7 - i < f → gc_Ng w i u v → q < gc_cn w v → (∀ V, gc_Cs w v V → V q = gc_an (fun j => V (A j)) i) → (∀ e, gc_AL w u e → gc_AL w v (e + i)) → ux_isNothing_9 post (nI x) f (nI q) (nI (i + 1)) v := by
    intro f
    induction f with
    | zero => intro i v q _ h2; omega
    | succ f ih =>
      intro i v q h1 h2 N hq sq lq
      have cv := (gc_WFcn N.1).1
      have cn1 := N.2.2.2
      have cn2 := N.2.2.1.2.1
      refine uc_isNothing_9 (pk_le 8 (i + 1) (fun z => ?_) fun z => ?_)
      · have e : i = 7 := by omega
        subst e
        refine gc_not N.1 (by omega) hq fun r1 v1 g1 => ?_
        have n1 := gc_Gr_cn g1
        refine K r1 v1 (gc_Gw_ng h (gc_Ng_tr N g1.1) fun e he => ?_) n1.2.2.1 fun V hV => ?_
        · exact (g1.2.2.2 (e + 7) (lq e he q hq)).2 (gc_AL_le (lq e he) (by omega))
        · rw [gc_vN g1 hV, sq V (gc_Gr_Cs g1 hV)]
          exact gc_an_v _ 7
      · have ha := hA.2 (i + 1) (by omega)
        refine ⟨gc_vin (nI_add _ _) (by omega), ?_⟩
        rw [gc_rdx (nI_add x (i + 1)) (by omega) ((congrFun (gc_Ng_wr N) _).trans ha.1)]
        refine gc_or N.1 (by omega) hq (y := A (i + 1)) (by omega) fun r1 v1 g1 => ?_
        have n1 := gc_Gr_cn g1
        refine nm_r (nI_1 (i + 1)) (ih (i + 1) v1 r1 (by omega) (by omega) (gc_Ng_tr N g1.1) n1.2.2.1 (fun V hV => ?_) fun e he => ?_)
        · rw [gc_vO g1 hV, sq V (gc_Gr_Cs g1 hV)]
          rfl
        · exact (g1.2.2.2 (e + i) ⟨lq e he q hq, gc_GL_le (gc_GL_mo N.2.2.1 (by omega) (he _ ha.2)) (by omega)⟩).2 (gc_AL_le (lq e he) (by omega))
  have h0 := hA.2 0 (by omega)
  refine uc_isNothing ⟨gc_vin rfl (by omega), nm_r (e' := nI (A 0)) (gc_rdx (X := nI x) (j := x) rfl (by omega) h0.1) ⟨8, ?_⟩⟩
  exact loop 8 0 u (A 0) (by omega) (by omega) (gc_Ng_rf h 0) h0.2 (fun V hV => rfl) fun e he => he
end
section
/-! looking up, flip-flops -/
theorem gc_lk41 {post : Int32 → SX → Prop} {J : Int32 → Int32 → Int32 → SX → Prop} {u : SX} {w ad b i x L : Nat} {A X : Nat → Nat} (hA : gc_Bu w u ad b A) (hi : i < b) (hX : gc_Bu w u x (16 * L) X) (hL : L ≤ 64) (hk : gc_cn w u + 8 * L ≤ 2560) (hm : gc_W u + 8 * L ≤ 8192)
    (K : ∀ G v, gc_Go w (8 * L) (8 * L) 1 u v → gc_Bu w v (gc_W u) (8 * L) G → (∀ V, gc_Cs w v V → ∀ k, k < 8 * L → V (G k) = if V (A i) then V (X (k / 8 * 2 * 8 + k % 8 + 8)) else V (X (k / 8 * 2 * 8 + k % 8))) → J (nI (gc_W u)) (nI L) (nI (i + 1)) v) :
    ∀ f k v, k ≤ 8 * L → 8 * L - k < f → gc_LI w u (gc_W u) (gc_W u + 8 * L) k 1 k (fun k V => if V (A i) then V (X (k / 8 * 2 * 8 + k % 8 + 8)) else V (X (k / 8 * 2 * 8 + k % 8))) v → ux_lookUp_41 post J (nI ad) (nI b) (nI x) (nI (2 * L)) (nI i) (nI (gc_W u)) f (nI k) v := by
  have hA1 := hA.1
  have hX1 := hX.1
  intro f
  induction f with
  | zero => intro k v _ h2; omega
  | succ f ih =>
    intro k v h1 h2 I
    have cv := (gc_WFcn I.1)
    have Ex := I.2.2.1
    have cx := Ex.2.1
    have cy := I.2.2.2.1
    have e8 : (8 : Int32) * nI (2 * L) / 2 = nI (8 * L) := by
      rw [show (8 : Int32) = nI 8 from rfl, pk_mul, show (2 : Int32) = nI 2 from rfl, pk_div (by omega) (by omega) (by omega)]
      exact congrArg nI (by omega)
    refine uc_lookUp_41 ⟨by decide, ?_⟩
    rw [e8]
    refine pk_le (8 * L) k (fun q => ?_) fun q => ?_
    · have e : k = 8 * L := by omega
      subst e
      obtain ⟨G, G1, G2⟩ := gc_LI_fin I (Nat.le_refl _)
      refine ⟨by decide, nm_r (e' := nI L) ?_ (nm_r (nI_1 i) (K G v (gc_LI_go I rfl) G1 G2))⟩
      rw [show (2 : Int32) = nI 2 from rfl, pk_div (by omega) (by omega) (by omega)]
      exact congrArg nI (by omega)
    · have ep : nI k / 8 * 2 * 8 + (nI k - nI k / 8 * 8) = nI (k / 8 * 2 * 8 + k % 8) := by
        have e1 : nI k - nI k / 8 * 8 = nI (k % 8) := pk_rem (d := 8) (by omega) (by omega) (by omega)
        rw [e1, show (8 : Int32) = nI 8 from rfl, pk_div (by omega) (by omega) (by omega), show (2 : Int32) = nI 2 from rfl, pk_mul, pk_mul, nI_add]
      have ha := hA.2 i hi
      have hp := hX.2 (k / 8 * 2 * 8 + k % 8) (by omega)
      have hp8 := hX.2 (k / 8 * 2 * 8 + k % 8 + 8) (by omega)
      generalize hpp : k / 8 * 2 * 8 + k % 8 = p at ep hp hp8
      have hpb : p + 8 < 16 * L := by omega
      have ex : nI x + nI p + 8 = nI (x + (p + 8)) := by rw [show (8 : Int32) = nI 8 from rfl, nI_add, nI_add, Nat.add_assoc]
      refine ⟨by decide, by decide, nm_r (e' := nI p) ep ?_⟩
      rw [gc_rdx (nI_add ad i) (by omega) ((gc_Ex_wr Ex (by omega)).trans ha.1), gc_rdx ex (by omega) ((gc_Ex_wr Ex (by omega)).trans hp8.1), gc_rdx (nI_add x p) (by omega) ((gc_Ex_wr Ex (by omega)).trans hp.1)]
      refine ⟨gc_vin (nI_add _ _) (by omega), gc_vin ex (by omega), gc_vin (nI_add _ _) (by omega), ?_⟩
      refine gc_choice I.1 (by omega) (by omega) (by omega) (by omega) fun r v1 g1 => ?_
      have n1 := gc_Gr_cn g1
      refine gc_wrt (nI_add _ _) (by omega) (by omega) (nm_r (nI_1 k) (ih (k + 1) _ (by omega) (by omega) ?_))
      refine gc_LI_st I (by omega) (gc_Nt_ng g1.1) n1.2.2.1 (fun V hV => ?_) fun e he => (g1.2.2.2 e ⟨gc_GL_mo Ex (by omega) (he _ ha.2), gc_GL_mo Ex (by omega) (he _ hp8.2), gc_GL_mo Ex (by omega) (he _ hp.2)⟩).2 (I.2.2.2.2.2.1 e he)
      rw [gc_vC g1 hV]
      show _ = if V (A i) then V (X (k / 8 * 2 * 8 + k % 8 + 8)) else V (X (k / 8 * 2 * 8 + k % 8))
      rw [hpp]
theorem gc_lk19 {post : Int32 → SX → Prop} {w ad b from' : Nat} {A : Nat → Nat} :
    ∀ r i u x (X : Nat → Nat), i + r = b → r ≤ 4 → gc_WF w u → gc_Bu w u ad b A → gc_Bu w u x (8 * 2 ^ r) X →
    (∀ V, gc_Cs w u V → ∀ k, k < 8 * 2 ^ r → V (X k) = V (from' + 8 * (k / 8 * 2 ^ i + gc_vl (fun j => V (A j)) i) + k % 8)) →
    gc_cn w u + 8 * 2 ^ r ≤ 2560 → gc_W u + 8 * 2 ^ r ≤ 8192 →
    (∀ z G u', gc_Gw w (8 * 2 ^ r) (8 * 2 ^ r) r u u' → gc_Bu w u' z 8 G → (∀ V, gc_Cs w u' V → ∀ t, t < 8 → V (G t) = V (from' + 8 * gc_vl (fun j => V (A j)) b + t)) → post (nI z) u') →
    ux_lookUp_19 post (nI ad) (nI b) (r + 1) (nI x) (nI (2 ^ r)) (nI i) u := by
  intro r
  induction r with
  | zero =>
    intro i u x X hb hr h hA hX sX hk hm K
    have e : i = b := by omega
    subst e
    have := hA.1
    have := (gc_WFcn h).2.2
    refine uc_lookUp_19 (br_t (nI_le (Nat.le_refl _) (by omega)) ?_)
    refine K x X u (gc_Lq_le (gc_Lq_rf h _) (by omega) (by omega) (by omega)) hX fun V hV t ht => ?_
    rw [sX V hV t (by omega)]
    have e1 : t / 8 = 0 := by omega
    have e2 : t % 8 = t := by omega
    rw [e1, e2, Nat.zero_mul, Nat.zero_add]
  | succ r ih =>
    intro i u x X hb hr h hA hX sX hk hm K
    have hA1 := hA.1
    have cu := gc_WFcn h
    have e2 : 2 ^ (r + 1) = 2 * 2 ^ r := Nat.pow_succ'
    have hr16 : 2 ^ r ≤ 8 := by
      have : 2 ^ r ≤ 2 ^ 3 := Nat.pow_le_pow_right (by decide) (by omega)
      exact this
    rw [e2] at hX sX hk hm ⊢
    have e8 : (8 : Int32) * nI (2 * 2 ^ r) / 2 = nI (8 * 2 ^ r) := by
      rw [show (8 : Int32) = nI 8 from rfl, pk_mul, show (2 : Int32) = nI 2 from rfl, pk_div (by omega) (by omega) (by omega)]
      exact congrArg nI (by omega)
    refine uc_lookUp_19 (br_f (nI_ge (by omega) (by omega)) ⟨by decide, ?_⟩)
    rw [e8]
    refine gc_bundle h ⟨8 * 2 ^ r + 1, ?_⟩
    have e16 : 8 * (2 * 2 ^ r) = 16 * 2 ^ r := by omega
    rw [e16] at hX
    refine gc_lk41 hA (by omega) hX (by omega) (by omega) (by omega) (fun G v g hG sG => ?_) (8 * 2 ^ r + 1) 0 _ (by omega) (by omega) (gc_LI_0 h (by omega))
    have gw := gc_Gw_go g
    have gn := gc_Gw_n gw
    refine ih (i + 1) v _ G (by omega) (by omega) g.1 (gc_Go_Bu g hA) hG (fun V hV k hk2 => ?_) (by omega) (by omega) fun z G2 u' g2 hb2 s2 => ?_
    · have s1 := sX V (gc_Go_Cs g hV)
      rw [sG V hV k hk2]
      have a1 := s1 (k / 8 * 2 * 8 + k % 8) (by omega)
      have a2 := s1 (k / 8 * 2 * 8 + k % 8 + 8) (by omega)
      have d1 : (k / 8 * 2 * 8 + k % 8) / 8 = 2 * (k / 8) := by omega
      have d2 : (k / 8 * 2 * 8 + k % 8) % 8 = k % 8 := by omega
      have d3 : (k / 8 * 2 * 8 + k % 8 + 8) / 8 = 2 * (k / 8) + 1 := by omega
      have d4 : (k / 8 * 2 * 8 + k % 8 + 8) % 8 = k % 8 := by omega
      rw [a1, a2, d1, d2, d3, d4]
      have m1 : k / 8 * 2 ^ (i + 1) = 2 * (k / 8) * 2 ^ i := by rw [Nat.pow_succ', ← Nat.mul_assoc, Nat.mul_comm (k / 8) 2]
      have m2 : (2 * (k / 8) + 1) * 2 ^ i = 2 * (k / 8) * 2 ^ i + 2 ^ i := Nat.succ_mul _ _
      show _ = V (from' + 8 * (k / 8 * 2 ^ (i + 1) + (gc_vl (fun j => V (A j)) i + (if V (A i) then 2 ^ i else 0))) + k % 8)
      rw [m1, m2]
      generalize 2 * (k / 8) * 2 ^ i = P
      cases V (A i)
      · rfl
      · show V _ = V _
        exact congrArg V (by simp; omega)
    · exact K z G2 u' (gc_Gw_le (gc_Gw_tr gw g2) (by omega) (by omega) (by omega)) hb2 s2
theorem gc_look {post : Int32 → SX → Prop} {u : SX} {w ad b from' : Nat} {A : Nat → Nat} (h : gc_WF w u) (hA : gc_Bu w u ad b A) (hb : b ≤ 4) (hf : from' + 8 * 2 ^ b ≤ 215) (hk : gc_cn w u + 8 * 2 ^ b ≤ 2560) (hm : gc_W u + (8 * 2 ^ b + 8 * 2 ^ b) ≤ 8192)
    (K : ∀ z G u', gc_Gw w (8 * 2 ^ b) (8 * 2 ^ b + 8 * 2 ^ b) b u u' → gc_Bu w u' z 8 G → (∀ V, gc_Cs w u' V → ∀ t, t < 8 → V (G t) = V (from' + 8 * gc_vl (fun j => V (A j)) b + t)) → post (nI z) u') : wpX_lookUp post u (nI from') (nI ad) (nI b) := by
  have e1 : ∀ b, b < 5 → (8 : Int32) <<< (nI b &&& 31) = nI (8 * 2 ^ b) ∧ (1 : Int32) <<< (nI b &&& 31) = nI (2 ^ b) := by decide +kernel
  obtain ⟨e8, e0⟩ := e1 b (by omega)
  refine uc_lookUp ?_
  rw [e8]
  refine gc_bunFrom h hf (by omega) fun u1 g1 b1 => nm_r (e' := nI (2 ^ b)) e0 ⟨b + 1, ?_⟩
  have gw := gc_Gw_go g1
  have gn := gc_Gw_n gw
  refine gc_lk19 (from' := from') b 0 u1 _ (fun i => from' + i) (by omega) hb g1.1 (gc_Go_Bu g1 hA) b1 (fun V hV k hk2 => ?_) (by omega) (by omega) fun z G u' g2 hb2 s2 => ?_
  · exact congrArg V (by show from' + k = from' + 8 * (k / 8 * 2 ^ 0 + 0) + k % 8; omega)
  · exact K z G u' (gc_Gw_le (gc_Gw_tr gw g2) (by omega) (by omega) (by omega)) hb2 s2
/-- gates, wires, and the flip-flops from lo to hi -/
def gc_Gk (w lo hi k m d : Nat) (u u' : SX) : Prop := gc_WF w u' ∧ gc_el u' = gc_el u ∧ gc_Ex w (gc_W u) lo hi u u' ∧ gc_cn w u' ≤ gc_cn w u + k ∧ gc_W u' ≤ gc_W u + m ∧ ∀ e, gc_AL w u e → gc_AL w u' (e + d)
theorem gc_Gk_gw {w k m d : Nat} {u v : SX} (h : gc_Gw w k m d u v) (lo hi : Nat) : gc_Gk w lo hi k m d u v := ⟨h.1, h.2.1, gc_Ex_mo h.2.2.1 (Nat.le_refl _) (Or.inr (Nat.le_refl _)) (Or.inr (Nat.le_refl _)), h.2.2.2.1, h.2.2.2.2.1, h.2.2.2.2.2⟩
theorem gc_Gk_tr {w lo hi k m d k' m' d' : Nat} {u v x : SX} (h : gc_Gk w lo hi k m d u v) (h' : gc_Gk w lo hi k' m' d' v x) : gc_Gk w lo hi (k + k') (m + m') (d + d') u x := by
  obtain ⟨a1, a2, a3, a4, a5, a6⟩ := h
  obtain ⟨b1, b2, b3, b4, b5, b6⟩ := h'
  refine ⟨b1, b2.trans a2, gc_Ex_tr a3 (gc_Ex_mo b3 a3.2.2.1 (Or.inl (Nat.le_refl _)) (Or.inl (Nat.le_refl _))), by omega, by omega, fun e he => ?_⟩
  have := b6 _ (a6 e he)
  rw [Nat.add_assoc] at this
  exact this
theorem gc_Gk_mo {w lo hi lo' hi' k m d k' m' d' : Nat} {u v : SX} (h : gc_Gk w lo hi k m d u v) (hl : lo' ≤ lo) (hh : hi ≤ hi') (hk : k ≤ k') (hm : m ≤ m') (hd : d ≤ d') : gc_Gk w lo' hi' k' m' d' u v :=
  ⟨h.1, h.2.1, gc_Ex_mo h.2.2.1 (Nat.le_refl _) (Or.inl hl) (Or.inl hh), by have := h.2.2.2.1; omega, by have := h.2.2.2.2.1; omega, fun e he => gc_AL_le (h.2.2.2.2.2 e he) (by omega)⟩
theorem gc_Gk_Cs {w lo hi k m d : Nat} {u v : SX} {V : Nat → Bool} (h : gc_Gk w lo hi k m d u v) (hh : hi ≤ 189) (c : gc_Cs w v V) : gc_Cs w u V := gc_Cs_mo h.2.2.1 hh c
theorem gc_Gk_Bu {w lo hi k m d : Nat} {u v : SX} {x n : Nat} {G : Nat → Nat} (h : gc_Gk w lo hi k m d u v) (B : gc_Bu w u x n G) : gc_Bu w v x n G := gc_Bu_mo h.2.2.1 B.1 B
theorem gc_Gk_n {w lo hi k m d : Nat} {u v : SX} (h : gc_Gk w lo hi k m d u v) : gc_cn w u ≤ gc_cn w v ∧ gc_cn w v ≤ gc_cn w u + k ∧ gc_W u ≤ gc_W v ∧ gc_W v ≤ gc_W u + m := ⟨h.2.2.1.2.1, h.2.2.2.1, h.2.2.1.2.2.1, h.2.2.2.2.1⟩
/-- flip-flop i takes the value q next -/
def gc_Fl (w : Nat) (u : SX) (i : Nat) (q : (Nat → Bool) → Bool) : Prop := ∃ g, qg_inA u (w * 2560 + (26 + i)) = nI g ∧ g < gc_cn w u ∧ ∀ V, gc_Cs w u V → V g = q V
theorem gc_Fl_mo {w b lo hi i : Nat} {u v : SX} {q : (Nat → Bool) → Bool} (h : gc_Fl w u i q) (E : gc_Ex w b lo hi u v) (hh : hi ≤ 189) (hw : gc_WF w u) (hi2 : i < 189) (hi : i < lo ∨ hi ≤ i) : gc_Fl w v i q := by
  obtain ⟨g, g1, g2, g3⟩ := h
  have := (gc_WFcn hw).2.1
  refine ⟨g, ?_, Nat.lt_of_lt_of_le g2 E.2.1, fun V hV => g3 V (gc_Cs_mo E hh hV)⟩
  rw [(E.2.2.2.2.2 (w * 2560 + (26 + i)) (Or.inl (by omega))).2 (by omega)]
  exact g1
theorem gc_inA_el {u : SX} {a : Nat → Int32} : gc_el (qs_inA u a) = gc_el u := rfl
theorem gc_inA_g {u : SX} {a : Nat → Int32} : qg_circuit (qs_inA u a) = qg_circuit u ∧ qg_tidy (qs_inA u a) = qg_tidy u ∧ qg_counts (qs_inA u a) = qg_counts u ∧ qg_kind (qs_inA u a) = qg_kind u ∧ qg_inA (qs_inA u a) = a ∧ qg_inB (qs_inA u a) = qg_inB u ∧ qg_inC (qs_inA u a) = qg_inC u ∧ qg_hashHead (qs_inA u a) = qg_hashHead u ∧ qg_hashNext (qs_inA u a) = qg_hashNext u ∧ qg_wires (qs_inA u a) = qg_wires u ∧ qg_wire (qs_inA u a) = qg_wire u := ⟨rfl, rfl, rfl, rfl, rfl, rfl, rfl, rfl, rfl, rfl, rfl⟩
theorem gc_flip {w o g : Nat} {u : SX} (h : gc_WF w u) (ho : o < 189) (hg : g < gc_cn w u) : gc_Gk w o (o + 1) 0 0 0 u (qs_inA u (upd (qg_inA u) (w * 2560 + (26 + o)) (nI g))) ∧ qg_inA (qs_inA u (upd (qg_inA u) (w * 2560 + (26 + o)) (nI g))) (w * 2560 + (26 + o)) = nI g ∧ qg_wire (qs_inA u (upd (qg_inA u) (w * 2560 + (26 + o)) (nI g))) = qg_wire u := by
  have E := @gc_inA_g u (upd (qg_inA u) (w * 2560 + (26 + o)) (nI g))
  have el := @gc_inA_el u (upd (qg_inA u) (w * 2560 + (26 + o)) (nI g))
  generalize qs_inA u (upd (qg_inA u) (w * 2560 + (26 + o)) (nI g)) = v at E el ⊢
  obtain ⟨e1, e2, e3, e4, e5, e6, e7, e8, e9, e10, e11⟩ := E
  have c : gc_cn w v = gc_cn w u := by unfold gc_cn; rw [e3]
  have W : gc_W v = gc_W u := by unfold gc_W; rw [e10]
  have Ex : gc_Ex w (gc_W u) o (o + 1) u v := by
    refine ⟨gc_lf el, by omega, by omega, fun j _ => by rw [e3], fun j _ => by rw [e11], fun j _ => ⟨⟨by rw [e4], by rw [e6], by rw [e7]⟩, fun hj => ?_⟩⟩
    rw [e5, pk_un (by omega)]
  obtain ⟨⟨w1, w2, w3, w4, w5, w6, w7, w8⟩, hK, hG, hF, hH⟩ := h
  refine ⟨⟨⟨⟨w1, e1.trans w2, e2.trans w3, ?_, by omega, by omega, ?_, by omega⟩, ?_, ?_, ?_, ?_⟩, el, Ex, by omega, by omega, fun e he g hg => gc_GL_mo Ex (by omega) (he g (by omega))⟩, ?_, e11⟩
  · rw [c, e3]; exact w4
  · rw [W, e10]; exact w7
  · unfold gc_Ks; rw [e4]; exact hK
  · intro g h0 hg
    exact gc_Gt_mo Ex (by omega) h0 (by omega) (hG g h0 (by omega))
  · intro i hi
    by_cases e : i = o
    · subst e
      exact ⟨g, by rw [e5, pk_us], by omega⟩
    · obtain ⟨a, a1, a2⟩ := hF i hi
      exact ⟨a, by rw [e5, pk_un (by omega)]; exact a1, by omega⟩
  · unfold gc_Hs; rw [c, e8, e9]; exact hH
  · rw [e5, pk_us]
theorem gc_kOr {post : SX → Prop} {u : SX} {w o s x : Nat} (h : gc_WF w u) (hk : gc_cn w u + 1 ≤ 2560) (ho : o < 189) (hs : s < gc_cn w u) (hx : x < gc_cn w u)
    (K : ∀ u', gc_WF w u' → gc_el u' = gc_el u → gc_Ex w 8192 o (o + 1) u u' → gc_cn w u' ≤ gc_cn w u + 1 → gc_W u' = gc_W u → gc_Fl w u' o (fun V => if V s then V x else V (26 + o)) → (∀ e, gc_GL w u s e → gc_GL w u x e → gc_AL w u (e + 1) → gc_AL w u' (e + 1)) → post u') : wpX_keepOr post u (nI o) (nI s) (nI x) := by
  have cu := gc_WFcn h
  refine uc_keepOr (nm_r (e' := nI (26 + o)) (nI_add 26 o) ?_)
  refine gc_choice h hk hs hx (by omega) fun r v g => ?_
  have n1 := gc_Gr_cn g
  have ec : qg_circuit v * 2560 + nI (26 + o) = nI (w * 2560 + (26 + o)) := by rw [g.1.1.1.2.1]; exact gc_bs
  have hw := h.1.1
  rw [ec, nI_clamp (by omega)]
  refine ⟨vp_in_nI (by omega) (by decide), nm_r (e' := upd (qg_inA v) (w * 2560 + (26 + o)) (nI r)) (by rw [gc_sh (by omega)]) ?_⟩
  obtain ⟨F1, F2, wr2⟩ := gc_flip (o := o) g.1.1 ho n1.2.2.1
  generalize qs_inA v (upd (qg_inA v) (w * 2560 + (26 + o)) (nI r)) = v2 at F1 F2 wr2 ⊢
  have fn := gc_Gk_n F1
  have wv := gc_Ng_W g.1
  have Ex1 := gc_Ng_Ex g.1 8192 o (o + 1) (Nat.le_refl _)
  refine K v2 F1.1 (F1.2.1.trans (gc_gl g.1.2.1)) (gc_Ex_tr Ex1 ?_) (by omega) (by omega) ⟨r, F2, by omega, fun V hV => gc_vC g (gc_Cs_mo F1.2.2.1 (by omega) hV)⟩ fun e l1 l2 hA => ?_
  · exact ⟨F1.2.2.1.1, F1.2.2.1.2.1, F1.2.2.1.2.2.1, F1.2.2.1.2.2.2.1, fun j _ => congrFun wr2 j, F1.2.2.1.2.2.2.2.2⟩
  · exact F1.2.2.2.2.2 _ ((g.2.2.2 e ⟨l1, l2, gc_GL0 (by omega)⟩).2 hA)
end
section
/-! flip-flops of a bundle; the frame of the layout: fields and bundles that its parts share -/
theorem gc_kOB {post : SX → Prop} {u : SX} {w o s x n : Nat} {X : Nat → Nat} (h : gc_WF w u) (hX : gc_Bu w u x n X) (hs : s < gc_cn w u) (ho : o + n ≤ 189) (hk : gc_cn w u + n ≤ 2560)
    (K : ∀ u', gc_Gk w o (o + n) n 0 1 u u' → (∀ i, i < n → gc_Fl w u' (o + i) (fun V => if V s then V (X i) else V (26 + (o + i)))) → post u') : wpX_keepOrBundle post u (nI o) (nI s) (nI x) (nI n) := by
  have hX1 := hX.1
  have cu := gc_WFcn h
  have loop : ∀ f i v, i ≤ n → n - i < f → gc_WF w v → gc_el v = gc_el u → gc_Ex w (gc_W u) o (o + n) u v → gc_cn w v ≤ gc_cn w u + i → gc_W v = gc_W u → (∀ e, gc_AL w u e → gc_AL w v (e + 1)) → (∀ j, j < i → gc_Fl w v (o + j) (fun V => if V s then V (X j) else V (26 + (o + j)))) → ux_keepOrBundle_3 post (nI o) (nI s) (nI x) (nI n) f (nI i) v := by
    intro f
    induction f with
    | zero => intro i v _ h2; omega
    | succ f ih =>
      intro i v h1 h2 wf el Ex cv wv al fl
      have cx := Ex.2.1
      have cw := gc_WFcn wf
      refine uc_keepOrBundle_3 (pk_le n i (fun q => ?_) fun q => ?_)
      · have e : i = n := by omega
        subst e
        exact K v ⟨wf, el, Ex, cv, Nat.le_of_eq wv, al⟩ fl
      · have hx := hX.2 i q
        refine ⟨gc_vin (nI_add _ _) (by omega), ?_⟩
        rw [gc_rdx (nI_add x i) (by omega) ((gc_Ex_wr Ex (by omega)).trans hx.1), nI_add o i]
        refine gc_kOr wf (by omega) (by omega) (by omega) (by omega) fun v1 wf1 el1 Ex1 c1 w1 f1 l1 => nm_r (nI_1 i) ?_
        refine ih (i + 1) v1 (by omega) (by omega) wf1 (el1.trans el) (gc_Ex_tr Ex (gc_Ex_mo Ex1 (by omega) (Or.inl (by omega)) (Or.inl (by omega)))) (by omega) (by omega) (fun e he => l1 e (gc_GL_mo Ex (by omega) (he _ hs)) (gc_GL_mo Ex (by omega) (he _ hx.2)) (al e he)) fun j hj => ?_
        by_cases e : j = i
        · subst e; exact f1
        · exact gc_Fl_mo (fl j (by omega)) Ex1 (by omega) wf (by omega) (by omega)
  exact uc_keepOrBundle ⟨n + 1, loop (n + 1) 0 u (by omega) (by omega) h rfl gc_Ex_rf (by omega) rfl (fun e he => gc_AL_le he (by omega)) fun j hj => absurd hj (by omega)⟩

def gc_Gf (w lo hi k m d : Nat) (u u' : SX) : Prop := gc_WF w u' ∧ gc_Ex w (gc_W u) lo hi u u' ∧ gc_cn w u' ≤ gc_cn w u + k ∧ gc_W u' ≤ gc_W u + m ∧ ∀ e, gc_AL w u e → gc_AL w u' (e + d)
theorem gc_Gf_rf {w lo hi : Nat} {u : SX} (h : gc_WF w u) : gc_Gf w lo hi 0 0 0 u u := ⟨h, gc_Ex_rf, by omega, by omega, fun _ h => h⟩
theorem gc_Gf_gk {w lo hi k m d : Nat} {u v : SX} (h : gc_Gk w lo hi k m d u v) : gc_Gf w lo hi k m d u v := ⟨h.1, h.2.2⟩
theorem gc_Gf_gw {w k m d : Nat} {u v : SX} (h : gc_Gw w k m d u v) (lo hi : Nat) : gc_Gf w lo hi k m d u v := gc_Gf_gk (gc_Gk_gw h lo hi)
theorem gc_Gf_tr {w lo hi k m d k' m' d' : Nat} {u v x : SX} (h : gc_Gf w lo hi k m d u v) (h' : gc_Gf w lo hi k' m' d' v x) : gc_Gf w lo hi (k + k') (m + m') (d + d') u x := by
  obtain ⟨a1, a3, a4, a5, a6⟩ := h
  obtain ⟨b1, b3, b4, b5, b6⟩ := h'
  refine ⟨b1, gc_Ex_tr a3 (gc_Ex_mo b3 a3.2.2.1 (Or.inl (Nat.le_refl _)) (Or.inl (Nat.le_refl _))), by omega, by omega, fun e he => ?_⟩
  have := b6 _ (a6 e he)
  rw [Nat.add_assoc] at this
  exact this
theorem gc_Gf_mo {w lo hi lo' hi' k m d k' m' d' : Nat} {u v : SX} (h : gc_Gf w lo hi k m d u v) (hl : lo' ≤ lo ∨ hi ≤ lo) (hh : hi ≤ hi' ∨ hi ≤ lo) (hk : k ≤ k') (hm : m ≤ m') (hd : d ≤ d') : gc_Gf w lo' hi' k' m' d' u v :=
  ⟨h.1, gc_Ex_mo h.2.1 (Nat.le_refl _) hl hh, by have := h.2.2.1; omega, by have := h.2.2.2.1; omega, fun e he => gc_AL_le (h.2.2.2.2 e he) (by omega)⟩
theorem gc_Gf_Cs {w lo hi k m d : Nat} {u v : SX} {V : Nat → Bool} (h : gc_Gf w lo hi k m d u v) (hh : hi ≤ 189) (c : gc_Cs w v V) : gc_Cs w u V := gc_Cs_mo h.2.1 hh c
theorem gc_Gf_Bu {w lo hi k m d : Nat} {u v : SX} {x n : Nat} {G : Nat → Nat} (h : gc_Gf w lo hi k m d u v) (B : gc_Bu w u x n G) : gc_Bu w v x n G := gc_Bu_mo h.2.1 B.1 B
theorem gc_Gf_n {w lo hi k m d : Nat} {u v : SX} (h : gc_Gf w lo hi k m d u v) : gc_cn w u ≤ gc_cn w v ∧ gc_cn w v ≤ gc_cn w u + k ∧ gc_W u ≤ gc_W v ∧ gc_W v ≤ gc_W u + m ∧ gc_cn w v ≤ 2560 ∧ gc_W v ≤ 8192 := ⟨h.2.1.2.1, h.2.2.1, h.2.1.2.2.1, h.2.2.2.1, (gc_WFcn h.1).1, (gc_WFcn h.1).2.2⟩
theorem gc_Gf_Fl {w lo hi k m d i : Nat} {u v : SX} {q : (Nat → Bool) → Bool} (h : gc_Gf w lo hi k m d u v) (hu : gc_WF w u) (hh : hi ≤ 189) (hi2 : i < 189) (hi : i < lo ∨ hi ≤ i) (f : gc_Fl w u i q) : gc_Fl w v i q := gc_Fl_mo f h.2.1 hh hu hi2 hi
theorem gc_Sc_Gf {w : Nat} {u v : SX} (h : gc_WF w u) (e1 : qg_circuit v = qg_circuit u) (e2 : qg_tidy v = qg_tidy u) (e3 : qg_counts v = qg_counts u) (e4 : qg_kind v = qg_kind u) (e5 : qg_inA v = qg_inA u) (e6 : qg_inB v = qg_inB u) (e7 : qg_inC v = qg_inC u) (e8 : qg_hashHead v = qg_hashHead u) (e9 : qg_hashNext v = qg_hashNext u) (e10 : qg_wires v = qg_wires u) (e11 : qg_wire v = qg_wire u) (e12 : gc_ef v = gc_ef u) (lo hi : Nat) : gc_Gf w lo hi 0 0 0 u v := by
  have c : gc_cn w v = gc_cn w u := by unfold gc_cn; rw [e3]
  have W : gc_W v = gc_W u := by unfold gc_W; rw [e10]
  have Ex0 : gc_Ex w (gc_W u) 0 0 u v := ⟨e12, by omega, by omega, fun j _ => by rw [e3], fun j _ => by rw [e11], fun j _ => ⟨⟨by rw [e4], by rw [e6], by rw [e7]⟩, fun _ => by rw [e5]⟩⟩
  refine ⟨?_, gc_Ex_mo Ex0 (Nat.le_refl _) (Or.inr (Nat.le_refl _)) (Or.inr (Nat.le_refl _)), by omega, by omega, fun e he g hg => gc_GL_mo Ex0 (by omega) (he g (by omega))⟩
  obtain ⟨⟨w1, w2, w3, w4, w5, w6, w7, w8⟩, hK, hG, hF, hH⟩ := h
  refine ⟨⟨w1, e1.trans w2, e2.trans w3, ?_, by omega, by omega, ?_, by omega⟩, ?_, ?_, ?_, ?_⟩
  · rw [c, e3]; exact w4
  · rw [W, e10]; exact w7
  · unfold gc_Ks; rw [e4]; exact hK
  · unfold gc_Gs gc_Gt; rw [c, e4, e5, e6, e7]; exact hG
  · unfold gc_Fs; rw [c, e5]; exact hF
  · unfold gc_Hs; rw [c, e8, e9]; exact hH
theorem gc_Gf_co {w : Nat} {u : SX} {x : Int32} (h : gc_WF w u) (lo hi : Nat) : gc_Gf w lo hi 0 0 0 u (qs_carryOut u x) := gc_Sc_Gf h rfl rfl rfl rfl rfl rfl rfl rfl rfl rfl rfl rfl lo hi
theorem gc_Gf_rs {w : Nat} {u : SX} {x : Int32} (h : gc_WF w u) (lo hi : Nat) : gc_Gf w lo hi 0 0 0 u (qs_result u x) := gc_Sc_Gf h rfl rfl rfl rfl rfl rfl rfl rfl rfl rfl rfl rfl lo hi
theorem gc_Gf_ad {w : Nat} {u : SX} {x : Int32} (h : gc_WF w u) (lo hi : Nat) : gc_Gf w lo hi 0 0 0 u (qs_address u x) := gc_Sc_Gf h rfl rfl rfl rfl rfl rfl rfl rfl rfl rfl rfl rfl lo hi
theorem gc_Gf_ru {w : Nat} {u : SX} {x : Int32} (h : gc_WF w u) (lo hi : Nat) : gc_Gf w lo hi 0 0 0 u (qs_runs u x) := gc_Sc_Gf h rfl rfl rfl rfl rfl rfl rfl rfl rfl rfl rfl rfl lo hi
theorem gc_Gf_lt {w : Nat} {u : SX} {x : Int32} (h : gc_WF w u) (lo hi : Nat) : gc_Gf w lo hi 0 0 0 u (qs_left u x) := gc_Sc_Gf h rfl rfl rfl rfl rfl rfl rfl rfl rfl rfl rfl rfl lo hi
theorem gc_Gf_rt {w : Nat} {u : SX} {x : Int32} (h : gc_WF w u) (lo hi : Nat) : gc_Gf w lo hi 0 0 0 u (qs_right u x) := gc_Sc_Gf h rfl rfl rfl rfl rfl rfl rfl rfl rfl rfl rfl rfl lo hi
theorem gc_Gf_ol {w : Nat} {u : SX} {x : Int32} (h : gc_WF w u) (lo hi : Nat) : gc_Gf w lo hi 0 0 0 u (qs_opLines u x) := gc_Sc_Gf h rfl rfl rfl rfl rfl rfl rfl rfl rfl rfl rfl rfl lo hi
theorem gc_Gf_wo {w : Nat} {u : SX} {x y z : Int32} (h : gc_WF w u) (lo hi : Nat) : gc_Gf w lo hi 0 0 0 u (qs_wordD_wordS_wordM u x y z) := gc_Sc_Gf h rfl rfl rfl rfl rfl rfl rfl rfl rfl rfl rfl rfl lo hi
/-- the shared fields -/
def gc_Fi (u : SX) (ol wo lf rt rn : Nat) : Prop := qg_opLines u = nI ol ∧ qg_wordD u = nI (wo + 4) ∧ qg_wordS u = nI (wo + 6) ∧ qg_wordM u = nI (wo + 8) ∧ qg_left u = nI lf ∧ qg_right u = nI rt ∧ qg_runs u = nI rn
theorem gc_el_f {u v : SX} (h : gc_el v = gc_el u) : (qg_opLines v = qg_opLines u ∧ qg_wordD v = qg_wordD u ∧ qg_wordS v = qg_wordS u ∧ qg_wordM v = qg_wordM u ∧ qg_left v = qg_left u ∧ qg_right v = qg_right u ∧ qg_runs v = qg_runs u) ∧ qg_carryOut v = qg_carryOut u ∧ qg_result v = qg_result u ∧ qg_address v = qg_address u := by
  refine ⟨⟨?_, ?_, ?_, ?_, ?_, ?_, ?_⟩, ?_, ?_, ?_⟩
  · have e := congrArg qg_opLines h; exact e
  · have e := congrArg qg_wordD h; exact e
  · have e := congrArg qg_wordS h; exact e
  · have e := congrArg qg_wordM h; exact e
  · have e := congrArg qg_left h; exact e
  · have e := congrArg qg_right h; exact e
  · have e := congrArg qg_runs h; exact e
  · have e := congrArg qg_carryOut h; exact e
  · have e := congrArg qg_result h; exact e
  · have e := congrArg qg_address h; exact e
theorem gc_Fi_el {u v : SX} {ol wo lf rt rn : Nat} (h : gc_el v = gc_el u) (f : gc_Fi u ol wo lf rt rn) : gc_Fi v ol wo lf rt rn := by
  obtain ⟨⟨e1, e2, e3, e4, e5, e6, e7⟩, _⟩ := gc_el_f h
  obtain ⟨f1, f2, f3, f4, f5, f6, f7⟩ := f
  exact ⟨e1.trans f1, e2.trans f2, e3.trans f3, e4.trans f4, e5.trans f5, e6.trans f6, e7.trans f7⟩
theorem gc_co_f {u : SX} {x : Int32} : (qg_opLines (qs_carryOut u x) = qg_opLines u ∧ qg_wordD (qs_carryOut u x) = qg_wordD u ∧ qg_wordS (qs_carryOut u x) = qg_wordS u ∧ qg_wordM (qs_carryOut u x) = qg_wordM u ∧ qg_left (qs_carryOut u x) = qg_left u ∧ qg_right (qs_carryOut u x) = qg_right u ∧ qg_runs (qs_carryOut u x) = qg_runs u) ∧ qg_carryOut (qs_carryOut u x) = x := ⟨⟨rfl, rfl, rfl, rfl, rfl, rfl, rfl⟩, rfl⟩
theorem gc_rs_f {u : SX} {x : Int32} : (qg_opLines (qs_result u x) = qg_opLines u ∧ qg_wordD (qs_result u x) = qg_wordD u ∧ qg_wordS (qs_result u x) = qg_wordS u ∧ qg_wordM (qs_result u x) = qg_wordM u ∧ qg_left (qs_result u x) = qg_left u ∧ qg_right (qs_result u x) = qg_right u ∧ qg_runs (qs_result u x) = qg_runs u) ∧ qg_carryOut (qs_result u x) = qg_carryOut u ∧ qg_result (qs_result u x) = x ∧ qg_address (qs_result u x) = qg_address u := ⟨⟨rfl, rfl, rfl, rfl, rfl, rfl, rfl⟩, rfl, rfl, rfl⟩
theorem gc_ad_f {u : SX} {x : Int32} : (qg_opLines (qs_address u x) = qg_opLines u ∧ qg_wordD (qs_address u x) = qg_wordD u ∧ qg_wordS (qs_address u x) = qg_wordS u ∧ qg_wordM (qs_address u x) = qg_wordM u ∧ qg_left (qs_address u x) = qg_left u ∧ qg_right (qs_address u x) = qg_right u ∧ qg_runs (qs_address u x) = qg_runs u) ∧ qg_carryOut (qs_address u x) = qg_carryOut u ∧ qg_address (qs_address u x) = x := ⟨⟨rfl, rfl, rfl, rfl, rfl, rfl, rfl⟩, rfl, rfl⟩
theorem gc_Fi_co {u : SX} {x : Int32} {ol wo lf rt rn : Nat} (f : gc_Fi u ol wo lf rt rn) : gc_Fi (qs_carryOut u x) ol wo lf rt rn := by
  obtain ⟨⟨e1, e2, e3, e4, e5, e6, e7⟩, _⟩ := @gc_co_f u x
  obtain ⟨f1, f2, f3, f4, f5, f6, f7⟩ := f
  exact ⟨e1.trans f1, e2.trans f2, e3.trans f3, e4.trans f4, e5.trans f5, e6.trans f6, e7.trans f7⟩
theorem gc_Fi_rs {u : SX} {x : Int32} {ol wo lf rt rn : Nat} (f : gc_Fi u ol wo lf rt rn) : gc_Fi (qs_result u x) ol wo lf rt rn := by
  obtain ⟨⟨e1, e2, e3, e4, e5, e6, e7⟩, _⟩ := @gc_rs_f u x
  obtain ⟨f1, f2, f3, f4, f5, f6, f7⟩ := f
  exact ⟨e1.trans f1, e2.trans f2, e3.trans f3, e4.trans f4, e5.trans f5, e6.trans f6, e7.trans f7⟩
theorem gc_Fi_ad {u : SX} {x : Int32} {ol wo lf rt rn : Nat} (f : gc_Fi u ol wo lf rt rn) : gc_Fi (qs_address u x) ol wo lf rt rn := by
  obtain ⟨⟨e1, e2, e3, e4, e5, e6, e7⟩, _⟩ := @gc_ad_f u x
  obtain ⟨f1, f2, f3, f4, f5, f6, f7⟩ := f
  exact ⟨e1.trans f1, e2.trans f2, e3.trans f3, e4.trans f4, e5.trans f5, e6.trans f6, e7.trans f7⟩
def gc_Bs (w : Nat) (u : SX) (ol wo lf rt rn : Nat) (O L R : Nat → Nat) : Prop := gc_Bu w u wo 16 (fun i => 2 + i) ∧ gc_Bu w u ol 16 O ∧ gc_Bu w u lf 8 L ∧ gc_Bu w u rt 8 R ∧ rn < gc_cn w u
theorem gc_Bs_f {w lo hi k m d : Nat} {u v : SX} {ol wo lf rt rn : Nat} {O L R : Nat → Nat} (h : gc_Gf w lo hi k m d u v) (b : gc_Bs w u ol wo lf rt rn O L R) : gc_Bs w v ol wo lf rt rn O L R :=
  ⟨gc_Gf_Bu h b.1, gc_Gf_Bu h b.2.1, gc_Gf_Bu h b.2.2.1, gc_Gf_Bu h b.2.2.2.1, Nat.lt_of_lt_of_le b.2.2.2.2 h.2.1.2.1⟩
theorem gc_p1 (a : Nat) : nI a + 1 = nI (a + 1) := nI_add a 1
theorem gc_p2 (a : Nat) : nI a + 2 = nI (a + 2) := nI_add a 2
theorem gc_p3 (a : Nat) : nI a + 3 = nI (a + 3) := nI_add a 3
theorem gc_p4 (a : Nat) : nI a + 4 = nI (a + 4) := nI_add a 4
theorem gc_p5 (a : Nat) : nI a + 5 = nI (a + 5) := nI_add a 5
theorem gc_p6 (a : Nat) : nI a + 6 = nI (a + 6) := nI_add a 6
theorem gc_p7 (a : Nat) : nI a + 7 = nI (a + 7) := nI_add a 7
theorem gc_p8 (a : Nat) : nI a + 8 = nI (a + 8) := nI_add a 8
theorem gc_p9 (a : Nat) : nI a + 9 = nI (a + 9) := nI_add a 9
theorem gc_p10 (a : Nat) : nI a + 10 = nI (a + 10) := nI_add a 10
theorem gc_p11 (a : Nat) : nI a + 11 = nI (a + 11) := nI_add a 11
theorem gc_p12 (a : Nat) : nI a + 12 = nI (a + 12) := nI_add a 12
theorem gc_p13 (a : Nat) : nI a + 13 = nI (a + 13) := nI_add a 13
theorem gc_p14 (a : Nat) : nI a + 14 = nI (a + 14) := nI_add a 14
theorem gc_p15 (a : Nat) : nI a + 15 = nI (a + 15) := nI_add a 15
end
section
/-! the layout: sum, shift, move -/
theorem gc_andW {post : Int32 → SX → Prop} {u : SX} {w x y : Nat} (h : gc_WF w u) (hc : gc_cn w u + 1 ≤ 2560) (hx : x < gc_cn w u) (hy : y < gc_cn w u)
    (K : ∀ r u', gc_Gw w 1 0 1 u u' → r < gc_cn w u' → (∀ V, gc_Cs w u' V → V r = (V x && V y)) → post (nI r) u') : wpX_and post u (nI x) (nI y) :=
  gc_and h hc hx hy fun r v g => K r v (gc_Gw_gr h g fun d hd => ⟨hd _ hx, hd _ hy⟩) g.2.1 g.2.2.1
theorem gc_orW {post : Int32 → SX → Prop} {u : SX} {w x y : Nat} (h : gc_WF w u) (hc : gc_cn w u + 1 ≤ 2560) (hx : x < gc_cn w u) (hy : y < gc_cn w u)
    (K : ∀ r u', gc_Gw w 1 0 1 u u' → r < gc_cn w u' → (∀ V, gc_Cs w u' V → V r = (V x || V y)) → post (nI r) u') : wpX_or post u (nI x) (nI y) :=
  gc_or h hc hx hy fun r v g => K r v (gc_Gw_gr h g fun d hd => ⟨hd _ hx, hd _ hy⟩) g.2.1 g.2.2.1
theorem gc_xorW {post : Int32 → SX → Prop} {u : SX} {w x y : Nat} (h : gc_WF w u) (hc : gc_cn w u + 1 ≤ 2560) (hx : x < gc_cn w u) (hy : y < gc_cn w u)
    (K : ∀ r u', gc_Gw w 1 0 1 u u' → r < gc_cn w u' → (∀ V, gc_Cs w u' V → V r = (V x ^^ V y)) → post (nI r) u') : wpX_xor post u (nI x) (nI y) :=
  gc_xor h hc hx hy fun r v g => K r v (gc_Gw_gr h g fun d hd => ⟨hd _ hx, hd _ hy⟩) g.2.1 g.2.2.1
theorem gc_notW {post : Int32 → SX → Prop} {u : SX} {w x : Nat} (h : gc_WF w u) (hc : gc_cn w u + 1 ≤ 2560) (hx : x < gc_cn w u)
    (K : ∀ r u', gc_Gw w 1 0 1 u u' → r < gc_cn w u' → (∀ V, gc_Cs w u' V → V r = !(V x)) → post (nI r) u') : wpX_not post u (nI x) :=
  gc_not h hc hx fun r v g => K r v (gc_Gw_gr h g fun d hd => hd _ hx) g.2.1 g.2.2.1
theorem gc_chW {post : Int32 → SX → Prop} {u : SX} {w s x y : Nat} (h : gc_WF w u) (hc : gc_cn w u + 1 ≤ 2560) (hs : s < gc_cn w u) (hx : x < gc_cn w u) (hy : y < gc_cn w u)
    (K : ∀ r u', gc_Gw w 1 0 1 u u' → r < gc_cn w u' → (∀ V, gc_Cs w u' V → V r = if V s then V x else V y) → post (nI r) u') : wpX_choice post u (nI s) (nI x) (nI y) :=
  gc_choice h hc hs hx hy fun r v g => K r v (gc_Gw_gr h g fun d hd => ⟨hd _ hs, hd _ hx, hd _ hy⟩) g.2.1 g.2.2.1
theorem gc_Bw_cg {w : Nat} {u : SX} {x n : Nat} {G G' : Nat → Nat} (h : gc_Bw w u x n G) (e : ∀ j, j < n → G j = G' j) : gc_Bw w u x n G' := fun i hi => by rw [← e i hi]; exact h i hi
theorem gc_lSum {post : Int32 → SX → Prop} {u : SX} {w ol wo lf rt rn : Nat} {O L R : Nat → Nat} (h : gc_WF w u) (F : gc_Fi u ol wo lf rt rn) (B : gc_Bs w u ol wo lf rt rn O L R) (hk : gc_cn w u + 124 ≤ 2560) (hm : gc_W u + 89 ≤ 8192)
    (K : ∀ z G c u', gc_Gf w 0 0 124 89 21 u u' → gc_Fi u' ol wo lf rt rn → gc_Bu w u' z 9 G → qg_carryOut u' = nI c → c < gc_cn w u' → (∀ V, gc_Cs w u' V → gc_vl (fun j => V (G j)) 9 = gc_vl (fun j => V (L j)) 8 + gc_vl (fun j => V (R j) ^^ V (O 5)) 8 + (if (V (O 5) || (V (O 4) && V 187)) then 1 else 0) ∧ V c = (V (G 8) ^^ V (O 5))) → post (nI z) u') : wpX_layOutSum post u := by
  have cu := gc_WFcn h
  obtain ⟨B1, B2, B3, B4, B5⟩ := id B
  have o5 := B2.2 5 (by omega)
  have o4 := B2.2 4 (by omega)
  have b2 := B2.1
  have b3 := B3.1
  have b4 := B4.1
  have loop : ∀ f i v, i ≤ 8 → 8 - i < f → gc_LI w u (gc_W u) (gc_W u + 8) i 1 i (fun j V => V (R j) ^^ V (O 5)) v → ux_layOutSum_21 post (nI (O 5)) (nI (gc_W u)) f (nI i) v := by
    intro f
    induction f with
    | zero => intro i v _ h2; omega
    | succ f ih =>
      intro i v h1 h2 I
      have Ex := I.2.2.1
      have cx := Ex.2.1
      have cy := I.2.2.2.1
      have Fv := gc_Fi_el I.2.1 F
      refine uc_layOutSum_21 (pk_le 8 i (fun q => ?_) fun q => ?_)
      · have e : i = 8 := by omega
        subst e
        obtain ⟨P, P1, P2⟩ := gc_LI_fin I (Nat.le_refl _)
        have g0 := gc_Gw_go (gc_LI_go I rfl)
        rw [Fv.1, gc_rdx (gc_p4 ol) (by omega) ((gc_Ex_wr Ex (by omega)).trans o4.1)]
        refine ⟨gc_vin (gc_p4 ol) (by omega), ?_⟩
        refine gc_andW I.1 (by omega) (x := O 4) (y := 187) (by omega) (by omega) fun r1 v1 g1 h1 s1 => ?_
        have n1 := gc_Gw_n g1
        refine gc_orW g1.1 (by omega) (x := O 5) (y := r1) (by omega) (by omega) fun r2 v2 g2 h2 s2 => ?_
        have n2 := gc_Gw_n g2
        have F2 := gc_Fi_el g2.2.1 (gc_Fi_el g1.2.1 Fv)
        rw [F2.2.2.2.2.1]
        have g02 := gc_Gw_tr (gc_Gw_tr g0 g1) g2
        have wv : gc_W v = gc_W u + 8 := I.2.2.2.2.1
        refine gc_add8 g2.1 (gc_Gw_Bu g02 B3) (gc_Gw_Bu g2 (gc_Gw_Bu g1 P1)) h2 (by omega) (by omega) fun z G v3 hz g3 G1 G2 => ?_
        have n3 := gc_Gw_n g3
        have w3 := (gc_WFcn g3.1).2.2
        have z1 := G1.1
        have z8 := G1.2 8 (by omega)
        refine ⟨gc_vin (gc_p8 z) (by omega), ?_⟩
        rw [gc_rdx (gc_p8 z) (by omega) z8.1]
        refine gc_xorW g3.1 (by omega) (x := G 8) (y := O 5) (by omega) (by omega) fun r4 v4 g4 h4 s4 => ?_
        have g04 := gc_Gw_tr (gc_Gw_tr g02 g3) g4
        have G5 := gc_Gf_co (x := nI r4) g4.1 0 0
        have F5 := gc_Fi_co (x := nI r4) (gc_Fi_el g4.2.1 (gc_Fi_el g3.2.1 F2))
        have c5 := (@gc_co_f v4 (nI r4)).2
        generalize qs_carryOut v4 (nI r4) = v5 at G5 F5 c5 ⊢
        have n5 := gc_Gf_n G5
        refine K z G r4 v5 (gc_Gf_mo (gc_Gf_tr (gc_Gf_gw g04 0 0) G5) (Or.inl (by omega)) (Or.inl (by omega)) (by omega) (by omega) (by omega)) F5 (gc_Gf_Bu G5 (gc_Gw_Bu g4 G1)) c5 (by omega) fun V hV => ?_
        have V4 := gc_Gf_Cs G5 (by omega) hV
        have V3 := gc_Gw_Cs g4 V4
        have V2 := gc_Gw_Cs g3 V3
        have V1 := gc_Gw_Cs g2 V2
        rw [s4 V V4, G2 V V3, s2 V V2, s1 V V1, gc_vl_cg (P2 V (gc_Gw_Cs g1 V1))]
        exact ⟨rfl, rfl⟩
      · have hr := B4.2 i q
        rw [Fv.2.2.2.2.2.1, gc_rdx (nI_add rt i) (by omega) ((gc_Ex_wr Ex (by omega)).trans hr.1)]
        refine ⟨gc_vin (nI_add _ _) (by omega), ?_⟩
        refine gc_xor I.1 (by omega) (x := R i) (y := O 5) (by omega) (by omega) fun r1 v1 g1 => ?_
        have n1 := gc_Gr_cn g1
        refine gc_wrt (nI_add _ _) (by omega) (by omega) (nm_r (nI_1 i) (ih (i + 1) _ (by omega) (by omega) ?_))
        exact gc_LI_st I (by omega) (gc_Nt_ng g1.1) n1.2.2.1 g1.2.2.1 fun e he => (g1.2.2.2 e ⟨gc_GL_mo Ex (by omega) (he _ hr.2), gc_GL_mo Ex (by omega) (he _ o5.2)⟩).2 (I.2.2.2.2.2.1 e he)
  refine uc_layOutSum ?_
  rw [F.1]
  refine ⟨gc_vin (gc_p5 ol) (by omega), nm_r (e' := nI (O 5)) (gc_rdx (gc_p5 ol) (by omega) o5.1) ?_⟩
  exact gc_bundle (n := 8) h ⟨9, loop 9 0 _ (by omega) (by omega) (gc_LI_0 h (by omega))⟩
theorem gc_lShift {post : Int32 → SX → Prop} {u : SX} {w ol wo lf rt rn c : Nat} {O L R : Nat → Nat} (h : gc_WF w u) (F : gc_Fi u ol wo lf rt rn) (B : gc_Bs w u ol wo lf rt rn O L R) (hc : qg_carryOut u = nI c) (hc2 : c < gc_cn w u) (hk : gc_cn w u + 11 ≤ 2560) (hm : gc_W u + 24 ≤ 8192)
    (K : ∀ z G c' u', gc_Gf w 0 0 11 24 4 u u' → gc_Fi u' ol wo lf rt rn → gc_Bu w u' z 8 G → qg_carryOut u' = nI c' → c' < gc_cn w u' → (∀ V, gc_Cs w u' V → (∀ j, j < 8 → V (G j) = if V 10 then (if j = 7 then (V 11 && V 187) else V (L (j + 1))) else (if j = 0 then (V 11 && V 187) else V (L (j - 1)))) ∧ V c' = if V (O 9) then (if V 10 then V (L 0) else V (L 7)) else V c) → post (nI z) u') : wpX_layOutShift post u := by
  have cu := gc_WFcn h
  obtain ⟨B1, B2, B3, B4, B5⟩ := id B
  have m0 := B1.2 8 (by omega)
  have m1 := B1.2 9 (by omega)
  have b1 := B1.1
  have b2 := B2.1
  have b3 := B3.1
  refine uc_layOutShift ?_
  rw [F.2.2.2.1, gc_rdx (gc_p1 (wo + 8)) (by omega) m1.1]
  refine ⟨gc_vin (j := wo + 8) rfl (by omega), nm_r (e' := nI 10) (gc_rdx (X := nI (wo + 8)) (j := wo + 8) rfl (by omega) m0.1) ⟨gc_vin (gc_p1 (wo + 8)) (by omega), ?_⟩⟩
  refine gc_andW h (by omega) (x := 11) (y := 187) (by omega) (by omega) fun r1 v1 g1 h1 s1 => ?_
  have n1 := gc_Gw_n g1
  have F1 := gc_Fi_el g1.2.1 F
  have co1 := ((gc_el_f g1.2.1).2.1).trans hc
  refine gc_bundle (n := 8) g1.1 ?_
  have h2 : gc_WF w (qs_wires v1 (nI (gc_W v1 + 8))) := gc_buWF g1.1 (by omega)
  have w2 : gc_W (qs_wires v1 (nI (gc_W v1 + 8))) = gc_W v1 + 8 := gc_buW (by omega)
  refine gc_bundle (n := 8) h2 ⟨9, ?_⟩
  rw [w2]
  have es : qs_wires (qs_wires v1 (nI (gc_W v1 + 8))) (nI (gc_W v1 + 8 + 8)) = qs_wires v1 (nI (gc_W v1 + 16)) := gc_wsws
  rw [es]
  have hB3 := gc_Gw_Bu g1 B3
  have loop : ∀ f i v, i ≤ 8 → 8 - i < f → gc_Lq w v1 (gc_W v1) 0 16 0 v → gc_W v = gc_W v1 + 16 → gc_Bw w v (gc_W v1) i (fun j => if j = 0 then r1 else L (j - 1)) → gc_Bw w v (gc_W v1 + 8) i (fun j => if j = 7 then r1 else L (j + 1)) → ux_layOutShift_47 post (nI 10) (nI r1) (nI (gc_W v1)) (nI (gc_W v1 + 8)) f (nI i) v := by
    intro f
    induction f with
    | zero => intro i v _ h2; omega
    | succ f ih =>
      intro i v i1 i2 I wv hU hD
      have Ex := I.2.2.1
      have cx := Ex.2.1
      have cI := I.2.2.2.1
      have cv := gc_WFcn I.1
      have Fv := gc_Fi_el I.2.1 F1
      have cov := ((gc_el_f I.2.1).2.1).trans co1
      have hL := gc_Bu_mo Ex hB3.1 hB3
      refine uc_layOutShift_47 ?_
      rw [Fv.2.2.2.2.1]
      have e7 : nI lf + 8 - 1 = nI (lf + 7) := by rw [show (8 : Int32) = nI 8 from rfl, nI_add]; exact pk_sub (b := 1) (by omega)
      have l0 := hL.2 0 (by omega)
      have l7 := hL.2 7 (by omega)
      refine pk_le 8 i (fun q => ?_) fun q => ?_
      · have e : i = 8 := by omega
        subst e
        rw [e7, gc_rdx (X := nI (lf + 7)) (j := lf + 7) rfl (by omega) l7.1, gc_rdx (X := nI lf) (j := lf) rfl (by omega) l0.1]
        refine ⟨gc_vin (j := lf) rfl (by omega), gc_vin (j := lf + 7) rfl (by omega), ?_⟩
        have gI : gc_Gw w 0 16 0 v1 v := I
        refine gc_chW I.1 (by omega) (s := 10) (x := L 0) (y := L 7) (by omega) l0.2 l7.2 fun r2 v2 g2 h2 s2 => ?_
        have n2 := gc_Gw_n g2
        have F2 := gc_Fi_el g2.2.1 Fv
        have co2 := ((gc_el_f g2.2.1).2.1).trans cov
        have g12 := gc_Gw_tr gI g2
        have o9 := (gc_Gw_Bu g12 (gc_Gw_Bu g1 B2)).2 9 (by omega)
        rw [F2.1, co2, gc_rdx (gc_p9 ol) (by omega) o9.1]
        refine ⟨gc_vin (gc_p9 ol) (by omega), ?_⟩
        refine gc_chW g2.1 (by omega) (s := O 9) (x := r2) (y := c) o9.2 (by omega) (by omega) fun r3 v3 g3 h3 s3 => ?_
        have n3 := gc_Gw_n g3
        have G4 := gc_Gf_co (x := nI r3) g3.1 0 0
        have F4 := gc_Fi_co (x := nI r3) (gc_Fi_el g3.2.1 F2)
        have c4 := (@gc_co_f v3 (nI r3)).2
        have g13 := gc_Gw_tr g12 g3
        have BU := gc_Gf_Bu G4 (gc_Gw_Bu g3 (gc_Gw_Bu g2 (⟨by omega, hU⟩ : gc_Bu w v (gc_W v1) 8 (fun j => if j = 0 then r1 else L (j - 1)))))
        have BD := gc_Gf_Bu G4 (gc_Gw_Bu g3 (gc_Gw_Bu g2 (⟨by omega, hD⟩ : gc_Bu w v (gc_W v1 + 8) 8 (fun j => if j = 7 then r1 else L (j + 1)))))
        generalize qs_carryOut v3 (nI r3) = v4 at G4 F4 c4 BU BD ⊢
        have n4 := gc_Gf_n G4
        refine gc_chB (s := 10) (n := 8) G4.1 (by omega) BD BU (by omega) (by omega) fun G v5 g5 b5 s5 => ?_
        have gw5 := gc_Gw_go g5
        have n5 := gc_Gw_n gw5
        refine K _ G r3 v5 (gc_Gf_mo (gc_Gf_tr (gc_Gf_tr (gc_Gf_gw (gc_Gw_tr g1 g13) 0 0) G4) (gc_Gf_gw gw5 0 0)) (Or.inl (by omega)) (Or.inl (by omega)) (by omega) (by omega) (by omega)) (gc_Fi_el g5.2.1 F4) b5 (((gc_el_f g5.2.1).2.1).trans c4) (by omega) fun V hV => ?_
        have V4 := gc_Go_Cs g5 hV
        have V3 := gc_Gf_Cs G4 (by omega) V4
        have V2 := gc_Gw_Cs g3 V3
        have V1 := gc_Gw_Cs (gc_Gw_tr gI g2) V2
        refine ⟨fun j hj => ?_, by rw [s3 V V3, s2 V V2]⟩
        rw [s5 V hV j hj]
        have q1 := s1 V V1
        by_cases e1 : j = 7 <;> by_cases e2 : j = 0 <;> simp only [e1, e2, if_true, if_false, q1] <;> first | rfl | omega | (subst e1; rfl) | (subst e2; rfl)
      · have b85 : ∀ g, (if i = 0 then r1 else L (i - 1)) = g → g < gc_cn w v → ux_layOutShift_85 post (ux_layOutShift_47 post (nI 10) (nI r1) (nI (gc_W v1)) (nI (gc_W v1 + 8)) f) (nI 10) (nI r1) (nI (gc_W v1)) (nI (gc_W v1 + 8)) (nI i) (nI g) (nI (gc_W v1) + nI i) v := by
          intro g eg hg
          refine uc_layOutShift_85 (gc_wrt (nI_add _ _) (by omega) (by omega) ?_)
          have hU2 := gc_Bw_us hU hg
          have I2 := gc_Lq_wr (p := gc_W v1 + i) (x := nI g) I (by omega)
          have hD2 := gc_Bw_un (p := gc_W v1 + i) (y := nI g) hD (by omega)
          have hL2 := gc_Bu_un (p := gc_W v1 + i) (y := nI g) hL (by have := hB3.1; omega)
          obtain ⟨v9, hv9⟩ : ∃ v9, v9 = qs_wire v (upd (qg_wire v) (gc_W v1 + i) (nI g)) := ⟨_, rfl⟩
          rw [← hv9] at hU2 I2 hD2 hL2
          have c2 : gc_cn w v9 = gc_cn w v := by rw [hv9]; rfl
          have w2' : gc_W v9 = gc_W v := by rw [hv9]; rfl
          have ew : upd (qg_wire v) (gc_W v1 + i) (nI g) = qg_wire v9 := by rw [hv9]; rfl
          have sets : ∀ a, qs_wire v a = qs_wire v9 a := fun a => by rw [hv9]; rfl
          rw [Fv.2.2.2.2.1, ew]
          have go : ∀ g', (if i = 7 then r1 else L (i + 1)) = g' → g' < gc_cn w v9 → ux_layOutShift_47 post (nI 10) (nI r1) (nI (gc_W v1)) (nI (gc_W v1 + 8)) f (nI (i + 1)) (qs_wire v9 (upd (qg_wire v9) (gc_W v1 + 8 + i) (nI g'))) := by
            intro g' eg' hg'
            have hD3 := gc_Bw_us hD2 hg'
            refine ih (i + 1) _ (by omega) (by omega) (gc_Lq_wr I2 (by omega)) (w2'.trans wv) (gc_Bw_un (gc_Bw_cg hU2 fun j hj => ?_) (by omega)) (gc_Bw_cg hD3 fun j hj => ?_)
            · show (if j = i then g else if j = 0 then r1 else L (j - 1)) = if j = 0 then r1 else L (j - 1)
              by_cases e : j = i
              · rw [if_pos e, e]; exact eg.symm
              · rw [if_neg e]
            · show (if j = i then g' else if j = 7 then r1 else L (j + 1)) = if j = 7 then r1 else L (j + 1)
              by_cases e : j = i
              · rw [if_pos e, e]; exact eg'.symm
              · rw [if_neg e]
          refine pk_eq i 7 (fun q7 => ?_) fun q7 => ?_
          · refine gc_wrt (nI_add _ _) (by omega) (by omega) (nm_r (nI_1 i) ?_)
            rw [sets]
            exact go r1 (if_pos q7) (by omega)
          · have l1 := hL2.2 (i + 1) (by omega)
            have e1 : nI lf + nI i + 1 = nI (lf + (i + 1)) := by rw [nI_add, nI_1]; rfl
            refine ⟨gc_vin e1 (by omega), ?_⟩
            rw [gc_rdx e1 (by omega) l1.1]
            refine gc_wrt (nI_add _ _) (by omega) (by omega) (nm_r (nI_1 i) ?_)
            rw [sets]
            exact go (L (i + 1)) (if_neg q7) l1.2
        refine pk_eq i 0 (fun q0 => ?_) fun q0 => ?_
        · exact b85 r1 (if_pos q0) (by omega)
        · have l1 := hL.2 (i - 1) (by omega)
          have e1 : nI lf + nI i - 1 = nI (lf + (i - 1)) := by rw [nI_add]; exact (pk_sub (b := 1) (by omega)).trans (congrArg nI (by omega))
          refine ⟨gc_vin e1 (by omega), ?_⟩
          rw [gc_rdx e1 (by omega) l1.1]
          exact b85 (L (i - 1)) (if_neg q0) l1.2
  exact loop 9 0 _ (by omega) (by omega) (gc_Gw_go (gc_buGo g1.1 (by omega))) (gc_buW (by omega)) (fun j hj => absurd hj (by omega)) fun j hj => absurd hj (by omega)
theorem gc_lMove {post : Int32 → SX → Prop} {u : SX} {w ol wo lf rt rn : Nat} {O L R : Nat → Nat} (h : gc_WF w u) (F : gc_Fi u ol wo lf rt rn) (B : gc_Bs w u ol wo lf rt rn O L R) (hk : gc_cn w u + 1065 ≤ 2560) (hm : gc_W u + 768 ≤ 8192)
    (K : ∀ (z : Nat) (G P : Nat → Nat) (u' : SX), gc_Gw w 1065 768 147 u u' → gc_Bu w u' z 8 G → (∀ V, gc_Cs w u' V → gc_vl (fun j => V (P j)) 16 = gc_vl (fun j => V (L j)) 8 * gc_vl (fun j => V (R j)) 8 ∧ (∀ j, j < 8 → V (G j) = if V 11 then (if V 10 then V (R (7 - j)) else V (P (8 + j))) else (if V 10 then V (P j) else V (R j)))) → post (nI z) u') : wpX_layOutMove post u := by
  have cu := gc_WFcn h
  obtain ⟨B1, B2, B3, B4, B5⟩ := id B
  have b1 := B1.1
  have b4 := B4.1
  refine uc_layOutMove ?_
  rw [F.2.2.2.2.1, F.2.2.2.2.2.1]
  refine gc_mul h B3 B4 (by omega) (by omega) fun z P v1 g1 P1 P2 => ?_
  have n1 := gc_Gw_n g1
  have F1 := gc_Fi_el g1.2.1 F
  have c1 := gc_WFcn g1.1
  refine gc_bundle (n := 8) g1.1 ⟨9, ?_⟩
  have hB4 := gc_Gw_Bu g1 B4
  have hB1 := gc_Gw_Bu g1 B1
  have loop : ∀ f i v, i ≤ 8 → 8 - i < f → gc_Lq w v1 (gc_W v1) 0 8 0 v → gc_W v = gc_W v1 + 8 → gc_Bw w v (gc_W v1) i (fun j => R (7 - j)) → ux_layOutMove_22 post (nI z) (nI (gc_W v1)) f (nI i) v := by
    intro f
    induction f with
    | zero => intro i v _ h2; omega
    | succ f ih =>
      intro i v i1 i2 I wv hT
      have Ex := I.2.2.1
      have cx := Ex.2.1
      have cI := I.2.2.2.1
      have cv := gc_WFcn I.1
      have Fv := gc_Fi_el I.2.1 F1
      have gI : gc_Gw w 0 8 0 v1 v := I
      have hR := gc_Gw_Bu gI hB4
      have hM := gc_Gw_Bu gI hB1
      have m0 := hM.2 8 (by omega)
      refine uc_layOutMove_22 ?_
      rw [Fv.2.2.2.2.2.1, Fv.2.2.2.1]
      refine pk_le 8 i (fun q => ?_) fun q => ?_
      · have e : i = 8 := by omega
        subst e
        rw [gc_rdx (X := nI (wo + 8)) (j := wo + 8) rfl (by omega) m0.1]
        refine ⟨gc_vin (j := wo + 8) rfl (by omega), ?_⟩
        have hP := gc_Gw_Bu gI P1
        have hT' : gc_Bu w v (gc_W v1) 8 (fun j => R (7 - j)) := ⟨by omega, hT⟩
        refine gc_chB (s := 10) (n := 8) I.1 (by omega) ⟨by have := hP.1; omega, fun i hi => hP.2 i (by omega)⟩ hR (by omega) (by omega) fun G1 v2 g2 b2 s2 => ?_
        have gw2 := gc_Gw_go g2
        have n2 := gc_Gw_n gw2
        have F2 := gc_Fi_el g2.2.1 Fv
        have hM2 := gc_Go_Bu g2 hM
        rw [F2.2.2.2.1, gc_rdx (X := nI (wo + 8)) (j := wo + 8) rfl (by omega) (hM2.2 8 (by omega)).1]
        refine ⟨gc_vin (j := wo + 8) rfl (by omega), ?_⟩
        rw [gc_p8 z]
        refine gc_chB (s := 10) (n := 8) g2.1 (by omega) (gc_Go_Bu g2 hT') (gc_Bu_sb (k := 8) (m := 8) (gc_Go_Bu g2 hP) (by omega)) (by omega) (by omega) fun G2 v3 g3 b3 s3 => ?_
        have gw3 := gc_Gw_go g3
        have n3 := gc_Gw_n gw3
        have F3 := gc_Fi_el g3.2.1 F2
        have hM3 := gc_Go_Bu g3 hM2
        have b2' := gc_Go_Bu g3 b2
        rw [F3.2.2.2.1, gc_rdx (gc_p1 (wo + 8)) (by omega) (hM3.2 9 (by omega)).1]
        refine ⟨gc_vin (gc_p1 (wo + 8)) (by omega), ?_⟩
        refine gc_chB (s := 11) (n := 8) g3.1 (by omega) b3 b2' (by omega) (by omega) fun G3 v4 g4 b4 s4 => ?_
        have gw4 := gc_Gw_go g4
        refine K _ G3 P v4 (gc_Gw_le (gc_Gw_tr (gc_Gw_tr (gc_Gw_tr (gc_Gw_tr g1 gI) gw2) gw3) gw4) (by omega) (by omega) (by omega)) b4 fun V hV => ?_
        have V3 := gc_Go_Cs g4 hV
        have V2 := gc_Go_Cs g3 V3
        refine ⟨P2 V (gc_Gw_Cs gI (gc_Go_Cs g2 V2)), fun j hj => ?_⟩
        rw [s4 V hV j hj, s3 V V3 j hj, s2 V V2 j hj]
      · have r7 := hR.2 (7 - i) (by omega)
        have e1 : nI rt + 8 - 1 - nI i = nI (rt + (7 - i)) := by
          rw [gc_p8, show nI (rt + 8) - 1 = nI (rt + 7) from pk_sub (b := 1) (by omega), pk_sub (by omega)]
          exact congrArg nI (by omega)
        refine ⟨gc_vin e1 (by omega), ?_⟩
        rw [gc_rdx e1 (by omega) r7.1]
        refine gc_wrt' (nI_add _ _) (by omega) (by omega) (nm_r (nI_1 i) (ih (i + 1) _ (by omega) (by omega) (gc_Lq_wr I (by omega)) wv (gc_Bw_cg (gc_Bw_us hT r7.2) fun j hj => ?_)))
        show (if j = i then R (7 - i) else R (7 - j)) = R (7 - j)
        by_cases e : j = i
        · rw [if_pos e, e]
        · rw [if_neg e]
  exact loop 9 0 _ (by omega) (by omega) (gc_Gw_go (gc_buGo g1.1 (by omega))) (gc_buW (by omega)) fun j hj => absurd hj (by omega)
end
section
/-! the layout: the result -/
theorem gc_chO {post : Int32 → SX → Prop} {u : SX} {w ol wo lf rt rn x y k : Nat} {O L R A B' : Nat → Nat} {X : Int32} (h : gc_WF w u) (B : gc_Bs w u ol wo lf rt rn O L R) (hk : k < 16) (eX : X = nI (ol + k)) (hA : gc_Bu w u x 8 A) (hB : gc_Bu w u y 8 B') (hc : gc_cn w u + 8 ≤ 2560) (hm : gc_W u + 8 ≤ 8192)
    (K : ∀ (G : Nat → Nat) (u' : SX), gc_Gw w 8 8 1 u u' → gc_Bu w u' (gc_W u) 8 G → (∀ V, gc_Cs w u' V → ∀ j, j < 8 → V (G j) = if V (O k) then V (A j) else V (B' j)) → post (nI (gc_W u)) u') : vp_in X 8192 ∧ wpX_chooseBundle post u (qg_wire u X.toNatClampNeg) (nI x) (nI y) 8 := by
  have b2 := B.2.1.1
  have ok := B.2.1.2 k hk
  refine ⟨gc_vin eX (by omega), ?_⟩
  rw [gc_rdx eX (by omega) ok.1]
  exact gc_chB (n := 8) h ok.2 hA hB hc hm fun G v g b s => K G v (gc_Gw_go g) b s
/-- what the result, the address and the carry are, by the wires -/
def gc_RS (V : Nat → Bool) (O L R Rs Ad : Nat → Nat) (c : Nat) : Prop := ∃ sm P : Nat → Bool,
  gc_vl sm 9 = gc_vl (fun j => V (L j)) 8 + gc_vl (fun j => V (R j) ^^ V (O 5)) 8 + (if (V (O 5) || (V (O 4) && V 187)) then 1 else 0) ∧
  V c = (if V (O 9) then (if V 10 then V (L 0) else V (L 7)) else (sm 8 ^^ V (O 5))) ∧
  gc_vl P 16 = gc_vl (fun j => V (L j)) 8 * gc_vl (fun j => V (R j)) 8 ∧
  gc_vl (fun j => V (Ad j)) 5 = gc_vl (fun j => V (R j)) 4 + gc_vl (fun j => V (10 + j)) 4 ∧
  ∀ j, j < 8 → V (Rs j) = if V (O 1) then V (10 + j) else if V (O 2) then (if V 11 then (if V 10 then V (R (7 - j)) else P (8 + j)) else (if V 10 then P j else V (R j))) else if V (O 6) then (V (L j) && V (R j)) else if V (O 7) then (V (L j) || V (R j)) else if V (O 8) then (V (L j) ^^ V (R j)) else if V (O 9) then (if V 10 then (if j = 7 then (V 11 && V 187) else V (L (j + 1))) else (if j = 0 then (V 11 && V 187) else V (L (j - 1)))) else if V (O 10) then V (58 + 8 * gc_vl (fun j => V (Ad j)) 4 + j) else if V (O 15) then V (18 + j) else sm j
theorem gc_lRes {post : SX → Prop} {u : SX} {w ol wo lf rt rn : Nat} {O L R : Nat → Nat} (h : gc_WF w u) (F : gc_Fi u ol wo lf rt rn) (B : gc_Bs w u ol wo lf rt rn O L R) (hk : gc_cn w u + 1461 ≤ 2560) (hm : gc_W u + 1266 ≤ 8192)
    (K : ∀ (rs ad c : Nat) (Rs Ad : Nat → Nat) (u' : SX), gc_Gf w 0 0 1461 1266 196 u u' → gc_Fi u' ol wo lf rt rn → qg_result u' = nI rs → gc_Bu w u' rs 8 Rs → qg_address u' = nI ad → gc_Bu w u' ad 5 Ad → qg_carryOut u' = nI c → c < gc_cn w u' → (∀ V, gc_Cs w u' V → gc_RS V O L R Rs Ad c) → post u') : wpX_layOutResult post u := by
  refine uc_layOutResult ?_
  refine gc_lSum h F B (by omega) (by omega) fun z1 G1 c1 u1 g1 F1 b1 co1 hc1 s1 => ?_
  have n1 := gc_Gf_n g1
  have B1 := gc_Bs_f g1 B
  refine gc_lShift g1.1 F1 B1 co1 hc1 (by omega) (by omega) fun z2 G2 c2 u2 g2 F2 b2 co2 hc2 s2 => ?_
  have n2 := gc_Gf_n g2
  have B2 := gc_Bs_f g2 B1
  have b1 := gc_Gf_Bu g2 b1
  refine gc_lMove g2.1 F2 B2 (by omega) (by omega) fun z3 G3 P u3 gw3 b3 s3 => ?_
  have g3 := gc_Gf_gw gw3 0 0
  have n3 := gc_Gf_n g3
  have F3 := gc_Fi_el gw3.2.1 F2
  have co3 := ((gc_el_f gw3.2.1).2.1).trans co2
  have B3 := gc_Bs_f g3 B2
  have b1 := gc_Gf_Bu g3 b1
  have b2 := gc_Gf_Bu g3 b2
  rw [F3.2.2.2.2.2.1, F3.2.2.2.1]
  refine gc_add4 (c := 0) gw3.1 (gc_Bu_sb (k := 0) (m := 4) B3.2.2.2.1 (by omega)) (gc_Bu_sb (k := 8) (m := 4) B3.1 (by omega)) (by have := (gc_WFcn gw3.1).2.1; omega) (by omega) (by omega) fun z4 G4 u4 hz4 gw4 b4 s4 => ?_
  have g4 := gc_Gf_gw gw4 0 0
  have n4 := gc_Gf_n g4
  have F4 := gc_Fi_el gw4.2.1 F3
  have co4 := ((gc_el_f gw4.2.1).2.1).trans co3
  have g5 := gc_Gf_ad (x := nI z4) gw4.1 0 0
  have F5 := gc_Fi_ad (x := nI z4) F4
  have co5 := ((@gc_ad_f u4 (nI z4)).2.1).trans co4
  have ad5 := (@gc_ad_f u4 (nI z4)).2.2
  generalize qs_address u4 (nI z4) = u5 at g5 F5 co5 ad5 ⊢
  have n5 := gc_Gf_n g5
  have g45 := gc_Gf_tr g4 g5
  have B5 := gc_Bs_f g45 B3
  have b1 := gc_Gf_Bu g45 b1
  have b2 := gc_Gf_Bu g45 b2
  have b3 := gc_Gf_Bu g45 b3
  have b4 := gc_Gf_Bu g5 b4
  refine gc_look (b := 4) (from' := 58) g5.1 (A := G4) ⟨by have := b4.1; omega, fun i hi => b4.2 i (by omega)⟩ (by omega) (by omega) (by omega) (by omega) fun z6 G6 u6 gw6 b6 s6 => ?_
  have g6 := gc_Gf_gw gw6 0 0
  have n6 := gc_Gf_n g6
  have F6 := gc_Fi_el gw6.2.1 F5
  have co6 := ((gc_el_f gw6.2.1).2.1).trans co5
  have ad6 := ((gc_el_f gw6.2.1).2.2.2).trans ad5
  have B6 := gc_Bs_f g6 B5
  have b1 := gc_Gf_Bu g6 b1
  have b2 := gc_Gf_Bu g6 b2
  have b3 := gc_Gf_Bu g6 b3
  have b4 := gc_Gf_Bu g6 b4
  refine gc_bunFrom (g := 18) (n := 8) g6.1 (by omega) (by omega) fun u7 go7 b7 => ?_
  have gw7 := gc_Gw_go go7
  have g7 := gc_Gf_gw gw7 0 0
  have n7 := gc_Gf_n g7
  have F7 := gc_Fi_el gw7.2.1 F6
  have co7 := ((gc_el_f gw7.2.1).2.1).trans co6
  have ad7 := ((gc_el_f gw7.2.1).2.2.2).trans ad6
  have B7 := gc_Bs_f g7 B6
  have b1 := gc_Gf_Bu g7 b1
  have b2 := gc_Gf_Bu g7 b2
  have b3 := gc_Gf_Bu g7 b3
  have b4 := gc_Gf_Bu g7 b4
  have b6 := gc_Gf_Bu g7 b6
  rw [F7.2.2.2.2.1, F7.2.2.2.2.2.1]
  refine gc_joB (k := 4) g7.1 (by omega) B7.2.2.1 B7.2.2.2.1 (by omega) (by omega) fun G8 u8 go8 b8 s8 => ?_
  have gw8 := gc_Gw_go go8
  have g8 := gc_Gf_gw gw8 0 0
  have n8 := gc_Gf_n g8
  have F8 := gc_Fi_el gw8.2.1 F7
  have co8 := ((gc_el_f gw8.2.1).2.1).trans co7
  have ad8 := ((gc_el_f gw8.2.1).2.2.2).trans ad7
  have B8 := gc_Bs_f g8 B7
  have b1 := gc_Gf_Bu g8 b1
  have b2 := gc_Gf_Bu g8 b2
  have b3 := gc_Gf_Bu g8 b3
  have b4 := gc_Gf_Bu g8 b4
  have b6 := gc_Gf_Bu g8 b6
  have b7 := gc_Gf_Bu g8 b7
  rw [F8.2.2.2.2.1, F8.2.2.2.2.2.1]
  refine gc_joB (k := 5) g8.1 (by omega) B8.2.2.1 B8.2.2.2.1 (by omega) (by omega) fun G9 u9 go9 b9 s9 => ?_
  have gw9 := gc_Gw_go go9
  have g9 := gc_Gf_gw gw9 0 0
  have n9 := gc_Gf_n g9
  have F9 := gc_Fi_el gw9.2.1 F8
  have co9 := ((gc_el_f gw9.2.1).2.1).trans co8
  have ad9 := ((gc_el_f gw9.2.1).2.2.2).trans ad8
  have B9 := gc_Bs_f g9 B8
  have b1 := gc_Gf_Bu g9 b1
  have b2 := gc_Gf_Bu g9 b2
  have b3 := gc_Gf_Bu g9 b3
  have b4 := gc_Gf_Bu g9 b4
  have b6 := gc_Gf_Bu g9 b6
  have b7 := gc_Gf_Bu g9 b7
  have b8 := gc_Gf_Bu g9 b8
  rw [F9.2.2.2.2.1, F9.2.2.2.2.2.1]
  refine gc_joB (k := 6) g9.1 (by omega) B9.2.2.1 B9.2.2.2.1 (by omega) (by omega) fun G10 u10 go10 b10 s10 => ?_
  have gw10 := gc_Gw_go go10
  have g10 := gc_Gf_gw gw10 0 0
  have n10 := gc_Gf_n g10
  have F10 := gc_Fi_el gw10.2.1 F9
  have co10 := ((gc_el_f gw10.2.1).2.1).trans co9
  have ad10 := ((gc_el_f gw10.2.1).2.2.2).trans ad9
  have B10 := gc_Bs_f g10 B9
  have b1 := gc_Gf_Bu g10 b1
  have b2 := gc_Gf_Bu g10 b2
  have b3 := gc_Gf_Bu g10 b3
  have b4 := gc_Gf_Bu g10 b4
  have b6 := gc_Gf_Bu g10 b6
  have b7 := gc_Gf_Bu g10 b7
  have b8 := gc_Gf_Bu g10 b8
  have b9 := gc_Gf_Bu g10 b9
  have b1s : gc_Bu w u10 z1 8 G1 := ⟨by have := b1.1; omega, fun i hi => b1.2 i (by omega)⟩
  refine gc_chO (k := 15) g10.1 B10 (by omega) (by rw [F10.1]; exact gc_p15 ol) b7 b1s (by omega) (by omega) fun G11 u11 gw11 b11 s11 => ?_
  have g11 := gc_Gf_gw gw11 0 0
  have n11 := gc_Gf_n g11
  have F11 := gc_Fi_el gw11.2.1 F10
  have co11 := ((gc_el_f gw11.2.1).2.1).trans co10
  have ad11 := ((gc_el_f gw11.2.1).2.2.2).trans ad10
  have B11 := gc_Bs_f g11 B10
  have b1 := gc_Gf_Bu g11 b1
  have b2 := gc_Gf_Bu g11 b2
  have b3 := gc_Gf_Bu g11 b3
  have b4 := gc_Gf_Bu g11 b4
  have b6 := gc_Gf_Bu g11 b6
  have b7 := gc_Gf_Bu g11 b7
  have b8 := gc_Gf_Bu g11 b8
  have b9 := gc_Gf_Bu g11 b9
  have b10 := gc_Gf_Bu g11 b10
  refine gc_chO (k := 10) g11.1 B11 (by omega) (by rw [F11.1]; exact gc_p10 ol) b6 b11 (by omega) (by omega) fun G12 u12 gw12 b12 s12 => ?_
  have g12 := gc_Gf_gw gw12 0 0
  have n12 := gc_Gf_n g12
  have F12 := gc_Fi_el gw12.2.1 F11
  have co12 := ((gc_el_f gw12.2.1).2.1).trans co11
  have ad12 := ((gc_el_f gw12.2.1).2.2.2).trans ad11
  have B12 := gc_Bs_f g12 B11
  have b1 := gc_Gf_Bu g12 b1
  have b2 := gc_Gf_Bu g12 b2
  have b3 := gc_Gf_Bu g12 b3
  have b4 := gc_Gf_Bu g12 b4
  have b6 := gc_Gf_Bu g12 b6
  have b7 := gc_Gf_Bu g12 b7
  have b8 := gc_Gf_Bu g12 b8
  have b9 := gc_Gf_Bu g12 b9
  have b10 := gc_Gf_Bu g12 b10
  have b11 := gc_Gf_Bu g12 b11
  refine gc_chO (k := 9) g12.1 B12 (by omega) (by rw [F12.1]; exact gc_p9 ol) b2 b12 (by omega) (by omega) fun G13 u13 gw13 b13 s13 => ?_
  have g13 := gc_Gf_gw gw13 0 0
  have n13 := gc_Gf_n g13
  have F13 := gc_Fi_el gw13.2.1 F12
  have co13 := ((gc_el_f gw13.2.1).2.1).trans co12
  have ad13 := ((gc_el_f gw13.2.1).2.2.2).trans ad12
  have B13 := gc_Bs_f g13 B12
  have b1 := gc_Gf_Bu g13 b1
  have b2 := gc_Gf_Bu g13 b2
  have b3 := gc_Gf_Bu g13 b3
  have b4 := gc_Gf_Bu g13 b4
  have b6 := gc_Gf_Bu g13 b6
  have b7 := gc_Gf_Bu g13 b7
  have b8 := gc_Gf_Bu g13 b8
  have b9 := gc_Gf_Bu g13 b9
  have b10 := gc_Gf_Bu g13 b10
  have b11 := gc_Gf_Bu g13 b11
  have b12 := gc_Gf_Bu g13 b12
  refine gc_chO (k := 8) g13.1 B13 (by omega) (by rw [F13.1]; exact gc_p8 ol) b10 b13 (by omega) (by omega) fun G14 u14 gw14 b14 s14 => ?_
  have g14 := gc_Gf_gw gw14 0 0
  have n14 := gc_Gf_n g14
  have F14 := gc_Fi_el gw14.2.1 F13
  have co14 := ((gc_el_f gw14.2.1).2.1).trans co13
  have ad14 := ((gc_el_f gw14.2.1).2.2.2).trans ad13
  have B14 := gc_Bs_f g14 B13
  have b1 := gc_Gf_Bu g14 b1
  have b2 := gc_Gf_Bu g14 b2
  have b3 := gc_Gf_Bu g14 b3
  have b4 := gc_Gf_Bu g14 b4
  have b6 := gc_Gf_Bu g14 b6
  have b7 := gc_Gf_Bu g14 b7
  have b8 := gc_Gf_Bu g14 b8
  have b9 := gc_Gf_Bu g14 b9
  have b10 := gc_Gf_Bu g14 b10
  have b11 := gc_Gf_Bu g14 b11
  have b12 := gc_Gf_Bu g14 b12
  have b13 := gc_Gf_Bu g14 b13
  refine gc_chO (k := 7) g14.1 B14 (by omega) (by rw [F14.1]; exact gc_p7 ol) b9 b14 (by omega) (by omega) fun G15 u15 gw15 b15 s15 => ?_
  have g15 := gc_Gf_gw gw15 0 0
  have n15 := gc_Gf_n g15
  have F15 := gc_Fi_el gw15.2.1 F14
  have co15 := ((gc_el_f gw15.2.1).2.1).trans co14
  have ad15 := ((gc_el_f gw15.2.1).2.2.2).trans ad14
  have B15 := gc_Bs_f g15 B14
  have b1 := gc_Gf_Bu g15 b1
  have b2 := gc_Gf_Bu g15 b2
  have b3 := gc_Gf_Bu g15 b3
  have b4 := gc_Gf_Bu g15 b4
  have b6 := gc_Gf_Bu g15 b6
  have b7 := gc_Gf_Bu g15 b7
  have b8 := gc_Gf_Bu g15 b8
  have b9 := gc_Gf_Bu g15 b9
  have b10 := gc_Gf_Bu g15 b10
  have b11 := gc_Gf_Bu g15 b11
  have b12 := gc_Gf_Bu g15 b12
  have b13 := gc_Gf_Bu g15 b13
  have b14 := gc_Gf_Bu g15 b14
  refine gc_chO (k := 6) g15.1 B15 (by omega) (by rw [F15.1]; exact gc_p6 ol) b8 b15 (by omega) (by omega) fun G16 u16 gw16 b16 s16 => ?_
  have g16 := gc_Gf_gw gw16 0 0
  have n16 := gc_Gf_n g16
  have F16 := gc_Fi_el gw16.2.1 F15
  have co16 := ((gc_el_f gw16.2.1).2.1).trans co15
  have ad16 := ((gc_el_f gw16.2.1).2.2.2).trans ad15
  have B16 := gc_Bs_f g16 B15
  have b1 := gc_Gf_Bu g16 b1
  have b2 := gc_Gf_Bu g16 b2
  have b3 := gc_Gf_Bu g16 b3
  have b4 := gc_Gf_Bu g16 b4
  have b6 := gc_Gf_Bu g16 b6
  have b7 := gc_Gf_Bu g16 b7
  have b8 := gc_Gf_Bu g16 b8
  have b9 := gc_Gf_Bu g16 b9
  have b10 := gc_Gf_Bu g16 b10
  have b11 := gc_Gf_Bu g16 b11
  have b12 := gc_Gf_Bu g16 b12
  have b13 := gc_Gf_Bu g16 b13
  have b14 := gc_Gf_Bu g16 b14
  have b15 := gc_Gf_Bu g16 b15
  refine gc_chO (k := 2) g16.1 B16 (by omega) (by rw [F16.1]; exact gc_p2 ol) b3 b16 (by omega) (by omega) fun G17 u17 gw17 b17 s17 => ?_
  have g17 := gc_Gf_gw gw17 0 0
  have n17 := gc_Gf_n g17
  have F17 := gc_Fi_el gw17.2.1 F16
  have co17 := ((gc_el_f gw17.2.1).2.1).trans co16
  have ad17 := ((gc_el_f gw17.2.1).2.2.2).trans ad16
  have B17 := gc_Bs_f g17 B16
  have b1 := gc_Gf_Bu g17 b1
  have b2 := gc_Gf_Bu g17 b2
  have b3 := gc_Gf_Bu g17 b3
  have b4 := gc_Gf_Bu g17 b4
  have b6 := gc_Gf_Bu g17 b6
  have b7 := gc_Gf_Bu g17 b7
  have b8 := gc_Gf_Bu g17 b8
  have b9 := gc_Gf_Bu g17 b9
  have b10 := gc_Gf_Bu g17 b10
  have b11 := gc_Gf_Bu g17 b11
  have b12 := gc_Gf_Bu g17 b12
  have b13 := gc_Gf_Bu g17 b13
  have b14 := gc_Gf_Bu g17 b14
  have b15 := gc_Gf_Bu g17 b15
  have b16 := gc_Gf_Bu g17 b16
  rw [F17.2.2.2.1]
  refine gc_chO (k := 1) g17.1 B17 (by omega) (by rw [F17.1]; exact gc_p1 ol) (gc_Bu_sb (k := 8) (m := 8) B17.1 (by omega)) b17 (by omega) (by omega) fun G18 u18 gw18 b18 s18 => ?_
  have g18 := gc_Gf_gw gw18 0 0
  have n18 := gc_Gf_n g18
  have F18 := gc_Fi_el gw18.2.1 F17
  have co18 := ((gc_el_f gw18.2.1).2.1).trans co17
  have ad18 := ((gc_el_f gw18.2.1).2.2.2).trans ad17
  have B18 := gc_Bs_f g18 B17
  have b1 := gc_Gf_Bu g18 b1
  have b2 := gc_Gf_Bu g18 b2
  have b3 := gc_Gf_Bu g18 b3
  have b4 := gc_Gf_Bu g18 b4
  have b6 := gc_Gf_Bu g18 b6
  have b7 := gc_Gf_Bu g18 b7
  have b8 := gc_Gf_Bu g18 b8
  have b9 := gc_Gf_Bu g18 b9
  have b10 := gc_Gf_Bu g18 b10
  have b11 := gc_Gf_Bu g18 b11
  have b12 := gc_Gf_Bu g18 b12
  have b13 := gc_Gf_Bu g18 b13
  have b14 := gc_Gf_Bu g18 b14
  have b15 := gc_Gf_Bu g18 b15
  have b16 := gc_Gf_Bu g18 b16
  have b17 := gc_Gf_Bu g18 b17
  have g19 := gc_Gf_rs (x := nI (gc_W u17)) g18.1 0 0
  have F19 := gc_Fi_rs (x := nI (gc_W u17)) F18
  have co19 := ((@gc_rs_f u18 (nI (gc_W u17))).2.1).trans co18
  have rs19 := (@gc_rs_f u18 (nI (gc_W u17))).2.2.1
  have ad19 := ((@gc_rs_f u18 (nI (gc_W u17))).2.2.2).trans ad18
  generalize qs_result u18 (nI (gc_W u17)) = u19 at g19 F19 co19 rs19 ad19 ⊢
  have n19 := gc_Gf_n g19
  have gA := gc_Gf_tr (gc_Gf_tr (gc_Gf_tr (gc_Gf_tr (gc_Gf_tr (gc_Gf_tr (gc_Gf_tr (gc_Gf_tr (gc_Gf_tr (gc_Gf_tr (gc_Gf_tr (gc_Gf_tr (gc_Gf_tr (gc_Gf_tr (gc_Gf_tr (gc_Gf_tr (gc_Gf_tr (gc_Gf_tr g1 g2) g3) g4) g5) g6) g7) g8) g9) g10) g11) g12) g13) g14) g15) g16) g17) g18) g19
  refine K _ _ _ G18 G4 u19 (gc_Gf_mo gA (Or.inl (by omega)) (Or.inl (by omega)) (by omega) (by omega) (by omega)) F19 rs19 (gc_Gf_Bu g19 b18) ad19 (gc_Gf_Bu g19 b4) co19 (by omega) fun V V19 => ?_
  have V18 := gc_Gf_Cs g19 (by omega) V19
  have V17 := gc_Gf_Cs g18 (by omega) V18
  have V16 := gc_Gf_Cs g17 (by omega) V17
  have V15 := gc_Gf_Cs g16 (by omega) V16
  have V14 := gc_Gf_Cs g15 (by omega) V15
  have V13 := gc_Gf_Cs g14 (by omega) V14
  have V12 := gc_Gf_Cs g13 (by omega) V13
  have V11 := gc_Gf_Cs g12 (by omega) V12
  have V10 := gc_Gf_Cs g11 (by omega) V11
  have V9 := gc_Gf_Cs g10 (by omega) V10
  have V8 := gc_Gf_Cs g9 (by omega) V9
  have V7 := gc_Gf_Cs g8 (by omega) V8
  have V6 := gc_Gf_Cs g7 (by omega) V7
  have V5 := gc_Gf_Cs g6 (by omega) V6
  have V4 := gc_Gf_Cs g5 (by omega) V5
  have V3 := gc_Gf_Cs g4 (by omega) V4
  have V2 := gc_Gf_Cs g3 (by omega) V3
  have V1 := gc_Gf_Cs g2 (by omega) V2
  obtain ⟨p1, p2⟩ := s1 V V1
  obtain ⟨q1, q2⟩ := s2 V V2
  obtain ⟨r1, r2⟩ := s3 V V3
  refine ⟨fun j => V (G1 j), fun j => V (P j), p1, by rw [q2, p2], r1, ?_, fun j hj => ?_⟩
  · rw [s4 V V4, V3.1]
    have t1 : gc_vl (fun j => V (R (0 + j))) 4 = gc_vl (fun j => V (R j)) 4 := gc_vl_cg fun j _ => by rw [Nat.zero_add]
    have t2 : gc_vl (fun j => V (2 + (8 + j))) 4 = gc_vl (fun j => V (10 + j)) 4 := gc_vl_cg fun j _ => by rw [← Nat.add_assoc]
    show gc_vl (fun j => V (R (0 + j))) 4 + gc_vl (fun j => V (2 + (8 + j))) 4 + 0 = _
    rw [t1, t2, Nat.add_zero]
  · rw [s18 V V18 j hj, s17 V V17 j hj, s16 V V16 j hj, s15 V V15 j hj, s14 V V14 j hj, s13 V V13 j hj, s12 V V12 j hj, s11 V V11 j hj, r2 j hj, s8 V V8 j hj, s9 V V9 j hj, s10 V V10 j hj, q1 j hj, s6 V V6 j hj, ← Nat.add_assoc 2 8 j]
    rfl
end
section
/-! the layout: stores -/
def gc_Ct (w : Nat) (u : SX) (ol wo lf rt rn rs ad c : Nat) (O L R Rs Ad : Nat → Nat) : Prop := gc_Fi u ol wo lf rt rn ∧ gc_Bs w u ol wo lf rt rn O L R ∧ (qg_result u = nI rs ∧ qg_address u = nI ad ∧ qg_carryOut u = nI c) ∧ gc_Bu w u rs 8 Rs ∧ gc_Bu w u ad 5 Ad ∧ c < gc_cn w u
theorem gc_Ct_k {w lo hi k m d : Nat} {u v : SX} {ol wo lf rt rn rs ad c : Nat} {O L R Rs Ad : Nat → Nat} (g : gc_Gk w lo hi k m d u v) (h : gc_Ct w u ol wo lf rt rn rs ad c O L R Rs Ad) : gc_Ct w v ol wo lf rt rn rs ad c O L R Rs Ad := by
  obtain ⟨h1, h2, ⟨h3, h4, h5⟩, h6, h7, h8⟩ := h
  have gf := gc_Gf_gk g
  obtain ⟨_, e5, e3, e4⟩ := gc_el_f g.2.1
  exact ⟨gc_Fi_el g.2.1 h1, gc_Bs_f gf h2, ⟨e3.trans h3, e4.trans h4, e5.trans h5⟩, gc_Gf_Bu gf h6, gc_Gf_Bu gf h7, Nat.lt_of_lt_of_le h8 g.2.2.1.2.1⟩
def gc_ws (V : Nat → Bool) (O : Nat → Nat) : Nat → Bool
  | 0 => V (O 10) || (V (O 15) && !(V 10))
  | i + 1 => gc_ws V O i || V (O (i + 1))
theorem gc_lSt143 {post : SX → Prop} {u : SX} {w ol wo lf rt rn rs ad c : Nat} {O L R Rs Ad : Nat → Nat} (C : gc_Ct w u ol wo lf rt rn rs ad c O L R Rs Ad) (hk : gc_cn w u + 272 ≤ 2560)
    (K : ∀ u', gc_Gk w 32 160 272 0 96 u u' → (∀ a, a < 16 → ∀ i, i < 8 → gc_Fl w u' (32 + 8 * a + i) (fun V => if (gc_nb (fun j => V (Ad j)) a 4 && V (O 11)) then V (L i) else V (26 + (32 + 8 * a + i)))) → post u') :
    ∀ f a v, a ≤ 16 → 16 - a < f → gc_Gk w 32 160 (17 * a) 0 (6 * a) u v → (∀ a', a' < a → ∀ i, i < 8 → gc_Fl w v (32 + 8 * a' + i) (fun V => if (gc_nb (fun j => V (Ad j)) a' 4 && V (O 11)) then V (L i) else V (26 + (32 + 8 * a' + i)))) → ux_layOutStores_143 post f (nI a) v := by
  intro f
  induction f with
  | zero => intro a v _ h2; omega
  | succ f ih =>
    intro a v h1 h2 g fl
    have n0 := gc_Gk_n g
    have C0 := gc_Ct_k g C
    refine uc_layOutStores_143 (pk_le 16 a (fun q => ?_) fun q => ?_)
    · have e : a = 16 := by omega
      subst e
      exact K v g fl
    · obtain ⟨F, B, ⟨e1, e2, e3⟩, b1, b2, b3⟩ := id C0
      have cv := gc_WFcn g.1
      rw [e2]
      refine gc_isNum (n := 4) g.1 (A := Ad) ⟨by have := b2.1; omega, fun i hi => b2.2 i (by omega)⟩ (by omega) (by omega) (by omega) fun r1 v1 N1 hr1 s1 l1 => ?_
      have gw1 := gc_Gw_ng g.1 N1 l1
      have n1 := gc_Gw_n gw1
      have F1 := gc_Fi_el gw1.2.1 F
      have B1 := gc_Bs_f (gc_Gf_gw gw1 0 0) B
      have o11 := B1.2.1.2 11 (by omega)
      have ob := B1.2.1.1
      have cv1 := gc_WFcn gw1.1
      rw [F1.1, gc_rdx (gc_p11 ol) (by omega) o11.1]
      refine ⟨gc_vin (gc_p11 ol) (by omega), ?_⟩
      refine gc_andW gw1.1 (by omega) hr1 o11.2 fun r2 v2 gw2 hr2 s2 => ?_
      have n2 := gc_Gw_n gw2
      have F2 := gc_Fi_el gw2.2.1 F1
      have B2 := gc_Bs_f (gc_Gf_gw gw2 0 0) B1
      have eo : (32 : Int32) + 8 * nI a = nI (32 + 8 * a) := by
        rw [show (8 : Int32) = nI 8 from rfl, pk_mul, show (32 : Int32) = nI 32 from rfl, nI_add]
      rw [eo, F2.2.2.2.2.1]
      refine gc_kOB (n := 8) gw2.1 B2.2.2.1 hr2 (by omega) (by omega) fun v3 g3 fl3 => nm_r (nI_1 a) ?_
      have gA := gc_Gk_tr (gc_Gk_tr (gc_Gk_tr g (gc_Gk_gw gw1 32 160)) (gc_Gk_gw gw2 32 160)) (gc_Gk_mo (lo' := 32) (hi' := 160) g3 (by omega) (by omega) (Nat.le_refl _) (Nat.le_refl _) (Nat.le_refl _))
      refine ih (a + 1) v3 (by omega) (by omega) (gc_Gk_mo gA (Nat.le_refl _) (Nat.le_refl _) (by omega) (by omega) (by omega)) fun a' ha' i hi => ?_
      by_cases e : a' = a
      · subst e
        obtain ⟨gg, q1, q2, q3⟩ := fl3 i hi
        refine ⟨gg, q1, q2, fun V hV => (q3 V hV).trans ?_⟩
        have V2 := gc_Gk_Cs g3 (by omega) hV
        have V1 := gc_Gw_Cs gw2 V2
        show (if V r2 then V (L i) else V (26 + (32 + 8 * a' + i))) = _
        rw [s2 V V2, s1 V V1]
      · have t := fl a' (by omega) i hi
        have t1 := gc_Gf_Fl (gc_Gf_gw gw1 0 0) g.1 (by omega) (by omega) (Or.inr (by omega)) t
        have t2 := gc_Gf_Fl (gc_Gf_gw gw2 0 0) gw1.1 (by omega) (by omega) (Or.inr (by omega)) t1
        exact gc_Gf_Fl (gc_Gf_gk g3) gw2.1 (by omega) (by omega) (by omega) t2
theorem gc_lSt87 {post : SX → Prop} {u : SX} {w ol wo lf rt rn rs ad c wt : Nat} {O L R Rs Ad : Nat → Nat} (C : gc_Ct w u ol wo lf rt rn rs ad c O L R Rs Ad) (hwt : wt < gc_cn w u) (hk : gc_cn w u + 324 ≤ 2560)
    (K : ∀ u', gc_Gk w 0 160 324 0 112 u u' → (∀ r, r < 4 → ∀ i, i < 8 → gc_Fl w u' (8 * r + i) (fun V => if (gc_nb (fun j => V (2 + (4 + j))) r 2 && V wt) then V (Rs i) else V (26 + (8 * r + i)))) → (∀ a, a < 16 → ∀ i, i < 8 → gc_Fl w u' (32 + 8 * a + i) (fun V => if (gc_nb (fun j => V (Ad j)) a 4 && V (O 11)) then V (L i) else V (26 + (32 + 8 * a + i)))) → post u') :
    ∀ f a v, a ≤ 4 → 4 - a < f → gc_Gk w 0 160 (13 * a) 0 (4 * a) u v → (∀ a', a' < a → ∀ i, i < 8 → gc_Fl w v (8 * a' + i) (fun V => if (gc_nb (fun j => V (2 + (4 + j))) a' 2 && V wt) then V (Rs i) else V (26 + (8 * a' + i)))) → ux_layOutStores_87 post (nI wt) f (nI a) v := by
  intro f
  induction f with
  | zero => intro a v _ h2; omega
  | succ f ih =>
    intro a v h1 h2 g fl
    have n0 := gc_Gk_n g
    have C0 := gc_Ct_k g C
    refine uc_layOutStores_87 (pk_le 4 a (fun q => ⟨17, ?_⟩) fun q => ?_)
    · have e : a = 4 := by omega
      subst e
      refine gc_lSt143 C0 (by omega) (fun v2 g2 fl2 => ?_) 17 0 v (by omega) (by omega) (gc_Gk_mo (gc_Gk_gw (k := 0) (m := 0) (d := 0) (gc_Lq_rf g.1 _) 32 160) (by omega) (by omega) (by omega) (by omega) (by omega)) fun a' ha' => absurd ha' (by omega)
      refine K v2 (gc_Gk_mo (gc_Gk_tr g (gc_Gk_mo (lo' := 0) (hi' := 160) g2 (by omega) (by omega) (Nat.le_refl _) (Nat.le_refl _) (Nat.le_refl _))) (by omega) (by omega) (by omega) (by omega) (by omega)) (fun r hr i hi => ?_) fl2
      exact gc_Gf_Fl (gc_Gf_gk g2) g.1 (by omega) (by omega) (by omega) (fl r hr i hi)
    · obtain ⟨F, B, ⟨e1, e2, e3⟩, b1, b2, b3⟩ := id C0
      have cv := gc_WFcn g.1
      rw [F.2.1]
      refine gc_isNum (n := 2) g.1 (gc_Bu_sb (k := 4) (m := 2) B.1 (by omega)) (by omega) (by omega) (by omega) fun r1 v1 N1 hr1 s1 l1 => ?_
      have gw1 := gc_Gw_ng g.1 N1 l1
      have n1 := gc_Gw_n gw1
      have F1 := gc_Fi_el gw1.2.1 F
      have B1 := gc_Bs_f (gc_Gf_gw gw1 0 0) B
      have cv1 := gc_WFcn gw1.1
      refine gc_andW gw1.1 (by omega) hr1 (y := wt) (by omega) fun r2 v2 gw2 hr2 s2 => ?_
      have n2 := gc_Gw_n gw2
      have F2 := gc_Fi_el gw2.2.1 F1
      have B2 := gc_Bs_f (gc_Gf_gw gw2 0 0) B1
      have eo : (0 : Int32) + 8 * nI a = nI (8 * a) := by
        rw [show (8 : Int32) = nI 8 from rfl, pk_mul, Int32.zero_add]
      have er : qg_result v2 = nI rs := (gc_el_f gw2.2.1).2.2.1.trans ((gc_el_f gw1.2.1).2.2.1.trans e1)
      rw [eo, er]
      refine gc_kOB (n := 8) gw2.1 (gc_Gw_Bu gw2 (gc_Gw_Bu gw1 b1)) hr2 (by omega) (by omega) fun v3 g3 fl3 => nm_r (nI_1 a) ?_
      have gA := gc_Gk_tr (gc_Gk_tr (gc_Gk_tr g (gc_Gk_gw gw1 0 160)) (gc_Gk_gw gw2 0 160)) (gc_Gk_mo (lo' := 0) (hi' := 160) g3 (by omega) (by omega) (Nat.le_refl _) (Nat.le_refl _) (Nat.le_refl _))
      refine ih (a + 1) v3 (by omega) (by omega) (gc_Gk_mo gA (Nat.le_refl _) (Nat.le_refl _) (by omega) (by omega) (by omega)) fun a' ha' i hi => ?_
      by_cases e : a' = a
      · subst e
        obtain ⟨gg, q1, q2, q3⟩ := fl3 i hi
        refine ⟨gg, q1, q2, fun V hV => (q3 V hV).trans ?_⟩
        have V2 := gc_Gk_Cs g3 (by omega) hV
        have V1 := gc_Gw_Cs gw2 V2
        show (if V r2 then V (Rs i) else V (26 + (8 * a' + i))) = _
        rw [s2 V V2, s1 V V1]
      · have t := fl a' (by omega) i hi
        have t1 := gc_Gf_Fl (gc_Gf_gw gw1 0 0) g.1 (by omega) (by omega) (Or.inr (by omega)) t
        have t2 := gc_Gf_Fl (gc_Gf_gw gw2 0 0) gw1.1 (by omega) (by omega) (Or.inr (by omega)) t1
        exact gc_Gf_Fl (gc_Gf_gk g3) gw2.1 (by omega) (by omega) (by omega) t2
theorem gc_lSto {post : SX → Prop} {u : SX} {w ol wo lf rt rn rs ad c : Nat} {O L R Rs Ad : Nat → Nat} (h : gc_WF w u) (C : gc_Ct w u ol wo lf rt rn rs ad c O L R Rs Ad) (hk : gc_cn w u + 336 ≤ 2560)
    (K : ∀ u', gc_Gk w 0 160 336 0 124 u u' → (∀ r, r < 4 → ∀ i, i < 8 → gc_Fl w u' (8 * r + i) (fun V => if (gc_nb (fun j => V (2 + (4 + j))) r 2 && gc_ws V O 9) then V (Rs i) else V (26 + (8 * r + i)))) → (∀ a, a < 16 → ∀ i, i < 8 → gc_Fl w u' (32 + 8 * a + i) (fun V => if (gc_nb (fun j => V (Ad j)) a 4 && V (O 11)) then V (L i) else V (26 + (32 + 8 * a + i)))) → post u') : wpX_layOutStores post u := by
  have cu := gc_WFcn h
  have loop : ∀ f i v q, i ≤ 9 → 9 - i < f → gc_Gw w (3 + i) 0 (3 + i) u v → q < gc_cn w v → (∀ V, gc_Cs w v V → V q = gc_ws V O i) → ux_layOutStores_53 post f (nI q) (nI (i + 1)) v := by
    intro f
    induction f with
    | zero => intro i v q _ h2; omega
    | succ f ih =>
      intro i v q h1 h2 g hq sq
      have n0 := gc_Gw_n g
      have C0 := gc_Ct_k (gc_Gk_gw g 0 0) C
      have cv := gc_WFcn g.1
      refine uc_layOutStores_53 (pk_le 10 (i + 1) (fun z => ⟨5, ?_⟩) fun z => ?_)
      · have e : i = 9 := by omega
        subst e
        refine gc_lSt87 C0 hq (by omega) (fun v2 g2 fl1 fl2 => ?_) 5 0 v (by omega) (by omega) (gc_Gk_gw (gc_Lq_rf g.1 _) 0 160) fun a' ha' => absurd ha' (by omega)
        refine K v2 (gc_Gk_mo (gc_Gk_tr (gc_Gk_gw g 0 160) g2) (by omega) (by omega) (by omega) (by omega) (by omega)) (fun r hr i hi => ?_) fl2
        obtain ⟨gg, q1, q2, q3⟩ := fl1 r hr i hi
        refine ⟨gg, q1, q2, fun V hV => (q3 V hV).trans ?_⟩
        show (if (gc_nb (fun j => V (2 + (4 + j))) r 2 && V q) = true then V (Rs i) else V (26 + (8 * r + i))) = _
        rw [sq V (gc_Gk_Cs g2 (by omega) hV)]
      · obtain ⟨F, B, _⟩ := id C0
        have oi := B.2.1.2 (i + 1) (by omega)
        have ob := B.2.1.1
        rw [F.1, gc_rdx (nI_add ol (i + 1)) (by omega) oi.1]
        refine ⟨gc_vin (nI_add ol (i + 1)) (by omega), ?_⟩
        refine gc_orW g.1 (by omega) hq oi.2 fun r1 v1 gw1 hr1 s1 => nm_r (nI_1 (i + 1)) ?_
        refine ih (i + 1) v1 r1 (by omega) (by omega) (gc_Gw_tr g gw1) hr1 fun V hV => ?_
        rw [s1 V hV, sq V (gc_Gw_Cs gw1 hV)]
        rfl
  obtain ⟨F, B, _⟩ := id C
  have m0 := B.1.2 8 (by omega)
  have mb := B.1.1
  refine uc_layOutStores ?_
  rw [F.2.2.2.1, gc_rdx (X := nI (wo + 8)) (j := wo + 8) rfl (by omega) m0.1]
  refine ⟨gc_vin (j := wo + 8) rfl (by omega), ?_⟩
  refine gc_notW h (by omega) (x := 10) (by omega) fun r1 v1 gw1 hr1 s1 => ?_
  have n1 := gc_Gw_n gw1
  have C1 := gc_Ct_k (gc_Gk_gw gw1 0 0) C
  have o15 := C1.2.1.2.1.2 15 (by omega)
  have ob := C1.2.1.2.1.1
  have cv1 := gc_WFcn gw1.1
  rw [C1.1.1, gc_rdx (gc_p15 ol) (by omega) o15.1]
  refine ⟨gc_vin (gc_p15 ol) (by omega), ?_⟩
  refine gc_andW gw1.1 (by omega) o15.2 hr1 fun r2 v2 gw2 hr2 s2 => ?_
  have n2 := gc_Gw_n gw2
  have C2 := gc_Ct_k (gc_Gk_gw gw2 0 0) C1
  have o10 := C2.2.1.2.1.2 10 (by omega)
  have cv2 := gc_WFcn gw2.1
  rw [C2.1.1, gc_rdx (gc_p10 ol) (by omega) o10.1]
  refine ⟨gc_vin (gc_p10 ol) (by omega), ?_⟩
  refine gc_orW gw2.1 (by omega) o10.2 hr2 fun r3 v3 gw3 hr3 s3 => ⟨10, ?_⟩
  refine loop 10 0 v3 r3 (by omega) (by omega) (gc_Gw_tr (gc_Gw_tr gw1 gw2) gw3) hr3 fun V hV => ?_
  have V2 := gc_Gw_Cs gw3 hV
  rw [s3 V hV, s2 V V2, s1 V (gc_Gw_Cs gw2 V2)]
  rfl
end
section
/-! the layout: flags, counter, ports -/
theorem gc_kOrK {post : SX → Prop} {u : SX} {w o s x : Nat} (h : gc_WF w u) (hk : gc_cn w u + 1 ≤ 2560) (ho : o < 189) (hs : s < gc_cn w u) (hx : x < gc_cn w u)
    (K : ∀ u', gc_Gk w o (o + 1) 1 0 1 u u' → gc_Fl w u' o (fun V => if V s then V x else V (26 + o)) → post u') : wpX_keepOr post u (nI o) (nI s) (nI x) :=
  gc_kOr h hk ho hs hx fun v wf el Ex c W f l => K v ⟨wf, el, gc_Ex_mo Ex (gc_WFcn h).2.2 (Or.inl (Nat.le_refl _)) (Or.inl (Nat.le_refl _)), c, Nat.le_of_eq W, fun e he => l e (he _ hs) (he _ hx) (gc_AL_le he (by omega))⟩ f
theorem gc_eith {post : Int32 → SX → Prop} {u : SX} {w ol wo lf rt rn a b : Nat} {O L R : Nat → Nat} (h : gc_WF w u) (F : gc_Fi u ol wo lf rt rn) (B : gc_Bs w u ol wo lf rt rn O L R) (ha : a < 16) (hb : b < 16) (hk : gc_cn w u + 1 ≤ 2560)
    (K : ∀ r u', gc_Gw w 1 0 1 u u' → r < gc_cn w u' → (∀ V, gc_Cs w u' V → V r = (V (O a) || V (O b))) → post (nI r) u') : wpX_either post u (nI a) (nI b) := by
  have cu := gc_WFcn h
  have oa := B.2.1.2 a ha
  have ob := B.2.1.2 b hb
  have bb := B.2.1.1
  refine uc_either ?_
  rw [F.1, gc_rdx (nI_add ol a) (by omega) oa.1, gc_rdx (nI_add ol b) (by omega) ob.1]
  exact ⟨gc_vin (nI_add ol a) (by omega), gc_vin (nI_add ol b) (by omega), gc_orW h hk oa.2 ob.2 K⟩
theorem gc_orO {post : Int32 → SX → Prop} {u : SX} {w ol wo lf rt rn k q : Nat} {O L R : Nat → Nat} {X : Int32} (h : gc_WF w u) (B : gc_Bs w u ol wo lf rt rn O L R) (hk : k < 16) (eX : X = nI (ol + k)) (hq : q < gc_cn w u) (hc : gc_cn w u + 1 ≤ 2560)
    (K : ∀ r u', gc_Gw w 1 0 1 u u' → r < gc_cn w u' → (∀ V, gc_Cs w u' V → V r = (V q || V (O k))) → post (nI r) u') : vp_in X 8192 ∧ wpX_or post u (nI q) (qg_wire u X.toNatClampNeg) := by
  have cu := gc_WFcn h
  have oa := B.2.1.2 k hk
  have bb := B.2.1.1
  rw [gc_rdx eX (by omega) oa.1]
  exact ⟨gc_vin eX (by omega), gc_orW h hc hq oa.2 K⟩
theorem gc_Oor {post : Int32 → SX → Prop} {u : SX} {w ol wo lf rt rn k q : Nat} {O L R : Nat → Nat} {X : Int32} (h : gc_WF w u) (B : gc_Bs w u ol wo lf rt rn O L R) (hk : k < 16) (eX : X = nI (ol + k)) (hq : q < gc_cn w u) (hc : gc_cn w u + 1 ≤ 2560)
    (K : ∀ r u', gc_Gw w 1 0 1 u u' → r < gc_cn w u' → (∀ V, gc_Cs w u' V → V r = (V (O k) || V q)) → post (nI r) u') : vp_in X 8192 ∧ wpX_or post u (qg_wire u X.toNatClampNeg) (nI q) := by
  have cu := gc_WFcn h
  have oa := B.2.1.2 k hk
  have bb := B.2.1.1
  rw [gc_rdx eX (by omega) oa.1]
  exact ⟨gc_vin eX (by omega), gc_orW h hc oa.2 hq K⟩
theorem gc_Oand {post : Int32 → SX → Prop} {u : SX} {w ol wo lf rt rn k q : Nat} {O L R : Nat → Nat} {X : Int32} (h : gc_WF w u) (B : gc_Bs w u ol wo lf rt rn O L R) (hk : k < 16) (eX : X = nI (ol + k)) (hq : q < gc_cn w u) (hc : gc_cn w u + 1 ≤ 2560)
    (K : ∀ r u', gc_Gw w 1 0 1 u u' → r < gc_cn w u' → (∀ V, gc_Cs w u' V → V r = (V (O k) && V q)) → post (nI r) u') : vp_in X 8192 ∧ wpX_and post u (qg_wire u X.toNatClampNeg) (nI q) := by
  have cu := gc_WFcn h
  have oa := B.2.1.2 k hk
  have bb := B.2.1.1
  rw [gc_rdx eX (by omega) oa.1]
  exact ⟨gc_vin eX (by omega), gc_andW h hc oa.2 hq K⟩
def gc_sc (V : Nat → Bool) (O : Nat → Nat) : Bool := ((V (O 3) || V (O 4)) || V (O 5)) || V (O 9)
def gc_lg (V : Nat → Bool) (O : Nat → Nat) : Bool := (V (O 6) || V (O 7)) || V (O 8)
theorem gc_lFla {post : SX → Prop} {u : SX} {w ol wo lf rt rn rs ad c : Nat} {O L R Rs Ad : Nat → Nat} (h : gc_WF w u) (C : gc_Ct w u ol wo lf rt rn rs ad c O L R Rs Ad) (hk : gc_cn w u + 16 ≤ 2560)
    (K : ∀ u', gc_Gk w 160 162 16 0 16 u u' → gc_Fl w u' 160 (fun V => if (gc_sc V O || gc_lg V O) then decide (gc_vl (fun j => V (Rs j)) 8 = 0) else V (26 + 160)) → gc_Fl w u' 161 (fun V => if gc_sc V O then V c else V (26 + 161)) → post u') : wpX_layOutFlags post u := by
  refine uc_layOutFlags ?_
  refine gc_eith (a := 3) (b := 4) h C.1 C.2.1 (by omega) (by omega) (by omega) fun r1 u1 g1 h1 s1 => ?_
  have n1 := gc_Gw_n g1
  have C1 := gc_Ct_k (gc_Gk_gw g1 160 162) C
  refine gc_orO (k := 5) g1.1 C1.2.1 (by omega) (by rw [C1.1.1]; exact gc_p5 ol) h1 (by omega) fun r2 u2 g2 h2 s2 => ?_
  have n2 := gc_Gw_n g2
  have C2 := gc_Ct_k (gc_Gk_gw g2 160 162) C1
  refine gc_orO (k := 9) g2.1 C2.2.1 (by omega) (by rw [C2.1.1]; exact gc_p9 ol) h2 (by omega) fun r3 u3 g3 h3 s3 => ?_
  have n3 := gc_Gw_n g3
  have C3 := gc_Ct_k (gc_Gk_gw g3 160 162) C2
  refine gc_eith (a := 6) (b := 7) g3.1 C3.1 C3.2.1 (by omega) (by omega) (by omega) fun r4 u4 g4 h4 s4 => ?_
  have n4 := gc_Gw_n g4
  have C4 := gc_Ct_k (gc_Gk_gw g4 160 162) C3
  refine gc_orO (k := 8) g4.1 C4.2.1 (by omega) (by rw [C4.1.1]; exact gc_p8 ol) h4 (by omega) fun r5 u5 g5 h5 s5 => ?_
  have n5 := gc_Gw_n g5
  have C5 := gc_Ct_k (gc_Gk_gw g5 160 162) C4
  refine gc_orW g5.1 (by omega) (x := r3) (y := r5) (by omega) h5 fun r6 u6 g6 h6 s6 => ?_
  have n6 := gc_Gw_n g6
  have C6 := gc_Ct_k (gc_Gk_gw g6 160 162) C5
  rw [C6.2.2.1.1]
  refine gc_isNth g6.1 C6.2.2.2.1 (by omega) fun r7 u7 g7 h7 s7 => ?_
  have n7 := gc_Gw_n g7
  have C7 := gc_Ct_k (gc_Gk_gw g7 160 162) C6
  refine gc_kOrK (o := 160) (s := r6) (x := r7) g7.1 (by omega) (by omega) (by omega) h7 fun u8 g8 f8 => ?_
  have n8 := gc_Gk_n g8
  have C8 := gc_Ct_k g8 C7
  have c8 := C8.2.2.2.2.2
  rw [C8.2.2.1.2.2]
  refine gc_kOrK (o := 161) (s := r3) (x := c) g8.1 (by omega) (by omega) (by omega) c8 fun u9 g9 f9 => ?_
  have gA := gc_Gk_tr (gc_Gk_tr (gc_Gk_gw (gc_Gw_tr (gc_Gw_tr (gc_Gw_tr (gc_Gw_tr (gc_Gw_tr (gc_Gw_tr g1 g2) g3) g4) g5) g6) g7) 160 162) (gc_Gk_mo (lo' := 160) (hi' := 162) g8 (by omega) (by omega) (Nat.le_refl _) (Nat.le_refl _) (Nat.le_refl _))) (gc_Gk_mo (lo' := 160) (hi' := 162) g9 (by omega) (by omega) (Nat.le_refl _) (Nat.le_refl _) (Nat.le_refl _))
  have sem : ∀ V, gc_Cs w u8 V → V r3 = gc_sc V O ∧ V r6 = (gc_sc V O || gc_lg V O) ∧ V r7 = decide (gc_vl (fun j => V (Rs j)) 8 = 0) := fun V V8 => by
    have V7 := gc_Gk_Cs g8 (by omega) V8
    have V6 := gc_Gw_Cs g7 V7
    have V5 := gc_Gw_Cs g6 V6
    have V4 := gc_Gw_Cs g5 V5
    have V3 := gc_Gw_Cs g4 V4
    have V2 := gc_Gw_Cs g3 V3
    have V1 := gc_Gw_Cs g2 V2
    rw [s7 V V7, s6 V V6, s5 V V5, s4 V V4, s3 V V3, s2 V V2, s1 V V1]
    exact ⟨rfl, rfl, rfl⟩
  refine K u9 (gc_Gk_mo gA (by omega) (by omega) (by omega) (by omega) (by omega)) (gc_Gf_Fl (gc_Gf_gk g9) g8.1 (by omega) (by omega) (by omega) ?_) ?_
  · obtain ⟨gg, q1, q2, q3⟩ := f8
    refine ⟨gg, q1, q2, fun V hV => (q3 V hV).trans ?_⟩
    obtain ⟨t1, t2, t3⟩ := sem V hV
    show (if V r6 then V r7 else V (26 + 160)) = _
    rw [t2, t3]
  · obtain ⟨gg, q1, q2, q3⟩ := f9
    refine ⟨gg, q1, q2, fun V hV => (q3 V hV).trans ?_⟩
    obtain ⟨t1, t2, t3⟩ := sem V (gc_Gk_Cs g9 (by omega) hV)
    show (if V r3 then V c else V (26 + 161)) = _
    rw [t1]
theorem gc_lPor {post : SX → Prop} {u : SX} {w ol wo lf rt rn rs ad c : Nat} {O L R Rs Ad : Nat → Nat} (h : gc_WF w u) (C : gc_Ct w u ol wo lf rt rn rs ad c O L R Rs Ad) (hk : gc_cn w u + 33 ≤ 2560) (hm : gc_W u + 16 ≤ 8192)
    (K : ∀ u', gc_Gk w 172 188 33 16 11 u u' → (∀ j, j < 8 → gc_Fl w u' (172 + j) (fun V => if (V (O 15) && V 10) then V (L j) else V (26 + (172 + j)))) → (∀ j, j < 8 → gc_Fl w u' (180 + j) (fun V => if (V (O 15) && V 10) then (V (206 + j) ^^ gc_up (fun j => V (206 + j)) j) else V (26 + (180 + j)))) → post u') : wpX_layOutPorts post u := by
  have cu := gc_WFcn h
  have m0 := C.2.1.1.2 8 (by omega)
  have mb := C.2.1.1.1
  refine uc_layOutPorts ?_
  rw [C.1.2.2.2.1, gc_rdx (X := nI (wo + 8)) (j := wo + 8) rfl (by omega) m0.1, C.1.1]
  have o15 := C.2.1.2.1.2 15 (by omega)
  have ob := C.2.1.2.1.1
  rw [gc_rdx (gc_p15 ol) (by omega) o15.1]
  refine ⟨gc_vin (gc_p15 ol) (by omega), gc_vin (j := wo + 8) rfl (by omega), ?_⟩
  refine gc_andW h (by omega) o15.2 (y := 10) (by omega) fun r1 u1 g1 h1 s1 => ?_
  have n1 := gc_Gw_n g1
  have C1 := gc_Ct_k (gc_Gk_gw g1 172 188) C
  rw [C1.1.2.2.2.2.1]
  refine gc_kOB (o := 172) (n := 8) g1.1 C1.2.1.2.2.1 h1 (by omega) (by omega) fun u2 g2 f2 => ?_
  have n2 := gc_Gk_n g2
  refine gc_bunFrom (g := 206) (n := 8) g2.1 (by omega) (by omega) fun u3 go3 b3 => ?_
  have g3 := gc_Gw_go go3
  have n3 := gc_Gw_n g3
  refine gc_cntUp (n := 8) g3.1 b3 (by omega) (by omega) fun G u4 go4 b4 s4 => ?_
  have g4 := gc_Gw_go go4
  have n4 := gc_Gw_n g4
  refine gc_kOB (o := 180) (n := 8) (s := r1) g4.1 b4 (by omega) (by omega) (by omega) fun u5 g5 f5 => ?_
  have gA := gc_Gk_tr (gc_Gk_tr (gc_Gk_tr (gc_Gk_tr (gc_Gk_gw g1 172 188) (gc_Gk_mo (lo' := 172) (hi' := 188) g2 (by omega) (by omega) (Nat.le_refl _) (Nat.le_refl _) (Nat.le_refl _))) (gc_Gk_gw g3 172 188)) (gc_Gk_gw g4 172 188)) (gc_Gk_mo (lo' := 172) (hi' := 188) g5 (by omega) (by omega) (Nat.le_refl _) (Nat.le_refl _) (Nat.le_refl _))
  refine K u5 (gc_Gk_mo gA (by omega) (by omega) (by omega) (by omega) (by omega)) (fun j hj => ?_) fun j hj => ?_
  · have t2 := gc_Gf_Fl (gc_Gf_gw g3 0 0) g2.1 (by omega) (by omega) (Or.inr (by omega)) (f2 j hj)
    have t3 := gc_Gf_Fl (gc_Gf_gw g4 0 0) g3.1 (by omega) (by omega) (Or.inr (by omega)) t2
    obtain ⟨gg, q1, q2, q3⟩ := gc_Gf_Fl (gc_Gf_gk g5) g4.1 (by omega) (by omega) (by omega) t3
    refine ⟨gg, q1, q2, fun V hV => (q3 V hV).trans ?_⟩
    show (if V r1 then V (L j) else V (26 + (172 + j))) = _
    rw [s1 V (gc_Gk_Cs g2 (by omega) (gc_Gw_Cs g3 (gc_Gw_Cs g4 (gc_Gk_Cs g5 (by omega) hV))))]
  · obtain ⟨gg, q1, q2, q3⟩ := f5 j hj
    refine ⟨gg, q1, q2, fun V hV => (q3 V hV).trans ?_⟩
    have V4 := gc_Gk_Cs g5 (by omega) hV
    show (if V r1 then V (G j) else V (26 + (180 + j))) = _
    rw [s4 V V4 j hj, s1 V (gc_Gk_Cs g2 (by omega) (gc_Gw_Cs g3 (gc_Gw_Cs g4 V4)))]
def gc_be (V : Nat → Bool) (j : Nat) : Bool := V (188 + j) ^^ gc_up (fun j => V (188 + j)) j
def gc_ca (V : Nat → Bool) (O : Nat → Nat) : Bool := V (O 14) && !(V 17)
def gc_br (V : Nat → Bool) (O : Nat → Nat) : Bool := V (O 13) && ((if V 7 then V 187 else V 186) ^^ V 6)
def gc_nx (V : Nat → Bool) (O : Nat → Nat) (j : Nat) : Bool := if (V (O 14) && V 17) then V (193 + j) else if ((V (O 12) || gc_br V O) || gc_ca V O) then V (10 + j) else gc_be V j
theorem gc_lCou {post : SX → Prop} {u : SX} {w ol wo lf rt rn rs ad c : Nat} {O L R Rs Ad : Nat → Nat} (h : gc_WF w u) (C : gc_Ct w u ol wo lf rt rn rs ad c O L R Rs Ad) (hk : gc_cn w u + 41 ≤ 2560) (hm : gc_W u + 25 ≤ 8192)
    (K : ∀ u', gc_Gk w 162 189 41 25 20 u u' → (∀ j, j < 5 → gc_Fl w u' (162 + j) (fun V => if (V rn && !(V (O 0))) then gc_nx V O j else V (26 + (162 + j)))) → (∀ j, j < 5 → gc_Fl w u' (167 + j) (fun V => if gc_ca V O then gc_be V j else V (26 + (167 + j)))) → gc_Fl w u' 188 (fun V => if V (O 0) then V 1 else V (26 + 188)) → post u') : wpX_layOutCounter post u := by
  have cu := gc_WFcn h
  refine uc_layOutCounter ?_
  refine gc_bunFrom (g := 188) (n := 5) h (by omega) (by omega) fun u1 go1 b1 => ?_
  have g1 := gc_Gw_go go1
  have n1 := gc_Gw_n g1
  have C1 := gc_Ct_k (gc_Gk_gw g1 162 189) C
  refine gc_bunFrom (g := 193) (n := 5) g1.1 (by omega) (by omega) fun u2 go2 b2 => ?_
  have g2 := gc_Gw_go go2
  have n2 := gc_Gw_n g2
  have C2 := gc_Ct_k (gc_Gk_gw g2 162 189) C1
  have b1 := gc_Gw_Bu g2 b1
  refine gc_cntUp (n := 5) g2.1 b1 (by omega) (by omega) fun Be u3 go3 b3 s3 => ?_
  have g3 := gc_Gw_go go3
  have n3 := gc_Gw_n g3
  have C3 := gc_Ct_k (gc_Gk_gw g3 162 189) C2
  have b2 := gc_Gw_Bu g3 b2
  have c3 := gc_WFcn g3.1
  have wb := C3.2.1.1.1
  rw [C3.1.2.1, gc_rdx (gc_p1 (wo + 4)) (by omega) (C3.2.1.1.2 5 (by omega)).1]
  refine ⟨gc_vin (gc_p1 (wo + 4)) (by omega), ?_⟩
  refine gc_chW (s := 7) (x := 187) (y := 186) g3.1 (by omega) (by omega) (by omega) (by omega) fun r4 u4 g4 h4 s4 => ?_
  have n4 := gc_Gw_n g4
  have C4 := gc_Ct_k (gc_Gk_gw g4 162 189) C3
  have b2 := gc_Gw_Bu g4 b2
  have b3 := gc_Gw_Bu g4 b3
  rw [C4.1.2.1, gc_rdx (X := nI (wo + 4)) (j := wo + 4) rfl (by omega) (C4.2.1.1.2 4 (by omega)).1]
  refine ⟨gc_vin (j := wo + 4) rfl (by omega), ?_⟩
  refine gc_xorW (x := r4) (y := 6) g4.1 (by omega) h4 (by omega) fun r5 u5 g5 h5 s5 => ?_
  have n5 := gc_Gw_n g5
  have C5 := gc_Ct_k (gc_Gk_gw g5 162 189) C4
  have b2 := gc_Gw_Bu g5 b2
  have b3 := gc_Gw_Bu g5 b3
  refine gc_Oand (k := 13) g5.1 C5.2.1 (by omega) (by rw [C5.1.1]; exact gc_p13 ol) h5 (by omega) fun r6 u6 g6 h6 s6 => ?_
  have n6 := gc_Gw_n g6
  have C6 := gc_Ct_k (gc_Gk_gw g6 162 189) C5
  have b2 := gc_Gw_Bu g6 b2
  have b3 := gc_Gw_Bu g6 b3
  have o14 := C6.2.1.2.1.2 14 (by omega)
  have ob := C6.2.1.2.1.1
  have c6 := gc_WFcn g6.1
  rw [C6.1.1, C6.1.2.2.2.1, gc_rdx (gc_p14 ol) (by omega) o14.1, gc_rdx (gc_p7 (wo + 8)) (by omega) (C6.2.1.1.2 15 (by omega)).1]
  refine ⟨gc_vin (gc_p14 ol) (by omega), gc_vin (gc_p7 (wo + 8)) (by omega), ?_⟩
  refine gc_andW (y := 17) g6.1 (by omega) o14.2 (by omega) fun r7 u7 g7 h7 s7 => ?_
  have n7 := gc_Gw_n g7
  have C7 := gc_Ct_k (gc_Gk_gw g7 162 189) C6
  have b2 := gc_Gw_Bu g7 b2
  have b3 := gc_Gw_Bu g7 b3
  rw [C7.1.2.2.2.1, gc_rdx (gc_p7 (wo + 8)) (by omega) (C7.2.1.1.2 15 (by omega)).1]
  refine ⟨gc_vin (gc_p7 (wo + 8)) (by omega), ?_⟩
  refine gc_notW (x := 17) g7.1 (by omega) (by omega) fun r8 u8 g8 h8 s8 => ?_
  have n8 := gc_Gw_n g8
  have C8 := gc_Ct_k (gc_Gk_gw g8 162 189) C7
  have b2 := gc_Gw_Bu g8 b2
  have b3 := gc_Gw_Bu g8 b3
  refine gc_Oand (k := 14) g8.1 C8.2.1 (by omega) (by rw [C8.1.1]; exact gc_p14 ol) h8 (by omega) fun r9 u9 g9 h9 s9 => ?_
  have n9 := gc_Gw_n g9
  have C9 := gc_Ct_k (gc_Gk_gw g9 162 189) C8
  have b2 := gc_Gw_Bu g9 b2
  have b3 := gc_Gw_Bu g9 b3
  refine gc_Oor (k := 12) (q := r6) g9.1 C9.2.1 (by omega) (by rw [C9.1.1]; exact gc_p12 ol) (by omega) (by omega) fun r10 u10 g10 h10 s10 => ?_
  have n10 := gc_Gw_n g10
  have C10 := gc_Ct_k (gc_Gk_gw g10 162 189) C9
  have b2 := gc_Gw_Bu g10 b2
  have b3 := gc_Gw_Bu g10 b3
  refine gc_orW (x := r10) (y := r9) g10.1 (by omega) h10 (by omega) fun r11 u11 g11 h11 s11 => ?_
  have n11 := gc_Gw_n g11
  have C11 := gc_Ct_k (gc_Gk_gw g11 162 189) C10
  have b2 := gc_Gw_Bu g11 b2
  have b3 := gc_Gw_Bu g11 b3
  rw [C11.1.2.2.2.1]
  refine gc_chB (n := 5) g11.1 h11 (gc_Bu_sb (k := 8) (m := 5) C11.2.1.1 (by omega)) b3 (by omega) (by omega) fun N1 u12 go12 b12 s12 => ?_
  have g12 := gc_Gw_go go12
  have n12 := gc_Gw_n g12
  have C12 := gc_Ct_k (gc_Gk_gw g12 162 189) C11
  have b2 := gc_Gw_Bu g12 b2
  have b3 := gc_Gw_Bu g12 b3
  refine gc_chB (n := 5) (s := r7) g12.1 (by omega) b2 b12 (by omega) (by omega) fun N2 u13 go13 b13 s13 => ?_
  have g13 := gc_Gw_go go13
  have n13 := gc_Gw_n g13
  have C13 := gc_Ct_k (gc_Gk_gw g13 162 189) C12
  have b3 := gc_Gw_Bu g13 b3
  have o0 := C13.2.1.2.1.2 0 (by omega)
  have ob13 := C13.2.1.2.1.1
  have c13 := gc_WFcn g13.1
  rw [C13.1.1, gc_rdx (X := nI ol) (j := ol) rfl (by omega) o0.1]
  refine ⟨gc_vin (j := ol) rfl (by omega), ?_⟩
  refine gc_notW g13.1 (by omega) o0.2 fun r14 u14 g14 h14 s14 => ?_
  have n14 := gc_Gw_n g14
  have C14 := gc_Ct_k (gc_Gk_gw g14 162 189) C13
  have b3 := gc_Gw_Bu g14 b3
  have b13 := gc_Gw_Bu g14 b13
  have rn14 := C14.2.1.2.2.2.2
  rw [C14.1.2.2.2.2.2.2]
  refine gc_andW g14.1 (by omega) rn14 h14 fun r15 u15 g15 h15 s15 => ?_
  have n15 := gc_Gw_n g15
  have C15 := gc_Ct_k (gc_Gk_gw g15 162 189) C14
  have b3 := gc_Gw_Bu g15 b3
  have b13 := gc_Gw_Bu g15 b13
  refine gc_kOB (o := 162) (n := 5) g15.1 b13 h15 (by omega) (by omega) fun u16 g16 f16 => ?_
  have n16 := gc_Gk_n g16
  have C16 := gc_Ct_k g16 C15
  have b3 := gc_Gk_Bu g16 b3
  refine gc_kOB (o := 167) (n := 5) (s := r9) g16.1 b3 (by omega) (by omega) (by omega) fun u17 g17 f17 => ?_
  have n17 := gc_Gk_n g17
  have C17 := gc_Ct_k g17 C16
  have o0' := C17.2.1.2.1.2 0 (by omega)
  have ob17 := C17.2.1.2.1.1
  have c17 := gc_WFcn g17.1
  rw [C17.1.1, gc_rdx (X := nI ol) (j := ol) rfl (by omega) o0'.1]
  refine ⟨gc_vin (j := ol) rfl (by omega), ?_⟩
  refine gc_kOrK (o := 188) (x := 1) g17.1 (by omega) (by omega) o0'.2 (by omega) fun u18 g18 f18 => ?_
  have gB := gc_Gw_tr (gc_Gw_tr (gc_Gw_tr (gc_Gw_tr (gc_Gw_tr (gc_Gw_tr (gc_Gw_tr (gc_Gw_tr (gc_Gw_tr (gc_Gw_tr (gc_Gw_tr (gc_Gw_tr (gc_Gw_tr (gc_Gw_tr g1 g2) g3) g4) g5) g6) g7) g8) g9) g10) g11) g12) g13) g14) g15
  have gA := gc_Gk_tr (gc_Gk_tr (gc_Gk_tr (gc_Gk_gw gB 162 189) (gc_Gk_mo (lo' := 162) (hi' := 189) g16 (by omega) (by omega) (Nat.le_refl _) (Nat.le_refl _) (Nat.le_refl _))) (gc_Gk_mo (lo' := 162) (hi' := 189) g17 (by omega) (by omega) (Nat.le_refl _) (Nat.le_refl _) (Nat.le_refl _))) (gc_Gk_mo (lo' := 162) (hi' := 189) g18 (by omega) (by omega) (Nat.le_refl _) (Nat.le_refl _) (Nat.le_refl _))
  have sem : ∀ V, gc_Cs w u15 V → V r15 = (V rn && !(V (O 0))) ∧ V r9 = gc_ca V O ∧ (∀ j, j < 5 → V (N2 j) = gc_nx V O j) ∧ (∀ j, j < 5 → V (Be j) = gc_be V j) := fun V V15 => by
    have V14 := gc_Gw_Cs g15 V15
    have V13 := gc_Gw_Cs g14 V14
    have V12 := gc_Gw_Cs g13 V13
    have V11 := gc_Gw_Cs g12 V12
    have V10 := gc_Gw_Cs g11 V11
    have V9 := gc_Gw_Cs g10 V10
    have V8 := gc_Gw_Cs g9 V9
    have V7 := gc_Gw_Cs g8 V8
    have V6 := gc_Gw_Cs g7 V7
    have V5 := gc_Gw_Cs g6 V6
    have V4 := gc_Gw_Cs g5 V5
    have V3 := gc_Gw_Cs g4 V4
    have e9 : V r9 = gc_ca V O := by rw [s9 V V9, s8 V V8]; rfl
    have e6 : V r6 = gc_br V O := by rw [s6 V V6, s5 V V5, s4 V V4]; rfl
    refine ⟨by rw [s15 V V15, s14 V V14], e9, fun j hj => ?_, fun j hj => s3 V V3 j hj⟩
    rw [s13 V V13 j hj, s12 V V12 j hj, s7 V V7, s11 V V11, s10 V V10, e9, e6, s3 V V3 j hj, ← Nat.add_assoc 2 8 j]
    rfl
  refine K u18 (gc_Gk_mo gA (by omega) (by omega) (by omega) (by omega) (by omega)) (fun j hj => ?_) (fun j hj => ?_) f18
  · have t1 := gc_Gf_Fl (gc_Gf_gk g17) g16.1 (by omega) (by omega) (by omega) (f16 j hj)
    obtain ⟨gg, q1, q2, q3⟩ := gc_Gf_Fl (gc_Gf_gk g18) g17.1 (by omega) (by omega) (by omega) t1
    refine ⟨gg, q1, q2, fun V hV => (q3 V hV).trans ?_⟩
    obtain ⟨t1, t2, t3, t4⟩ := sem V (gc_Gk_Cs g16 (by omega) (gc_Gk_Cs g17 (by omega) (gc_Gk_Cs g18 (by omega) hV)))
    show (if V r15 then V (N2 j) else V (26 + (162 + j))) = _
    rw [t1, t3 j hj]
  · obtain ⟨gg, q1, q2, q3⟩ := gc_Gf_Fl (gc_Gf_gk g18) g17.1 (by omega) (by omega) (by omega) (f17 j hj)
    refine ⟨gg, q1, q2, fun V hV => (q3 V hV).trans ?_⟩
    obtain ⟨t1, t2, t3, t4⟩ := sem V (gc_Gk_Cs g16 (by omega) (gc_Gk_Cs g17 (by omega) (gc_Gk_Cs g18 (by omega) hV)))
    show (if V r9 then V (Be j) else V (26 + (167 + j))) = _
    rw [t2, t4 j hj]
end
section
/-! the layout as a whole -/
/-- what the wires of the processor mean, by a valuation -/
def gc_Ws (V : Nat → Bool) (rn c : Nat) (O L R Rs Ad : Nat → Nat) : Prop := V rn = !(V 214) ∧ (∀ j, j < 16 → V (O j) = (gc_nb (fun i => V (2 + i)) j 4 && V rn)) ∧
  (∀ t, t < 8 → V (L t) = V (26 + 8 * gc_vl (fun j => V (2 + (4 + j))) 2 + t)) ∧ (∀ t, t < 8 → V (R t) = V (26 + 8 * gc_vl (fun j => V (2 + (6 + j))) 2 + t)) ∧ gc_RS V O L R Rs Ad c
/-- what the flip-flops take -/
def gc_Ff (w : Nat) (u : SX) (rn c : Nat) (O L R Rs Ad : Nat → Nat) : Prop :=
  (∀ r, r < 4 → ∀ i, i < 8 → gc_Fl w u (8 * r + i) (fun V => if (gc_nb (fun j => V (2 + (4 + j))) r 2 && gc_ws V O 9) then V (Rs i) else V (26 + (8 * r + i)))) ∧
  (∀ a, a < 16 → ∀ i, i < 8 → gc_Fl w u (32 + 8 * a + i) (fun V => if (gc_nb (fun j => V (Ad j)) a 4 && V (O 11)) then V (L i) else V (26 + (32 + 8 * a + i)))) ∧
  gc_Fl w u 160 (fun V => if (gc_sc V O || gc_lg V O) then decide (gc_vl (fun j => V (Rs j)) 8 = 0) else V (26 + 160)) ∧
  gc_Fl w u 161 (fun V => if gc_sc V O then V c else V (26 + 161)) ∧
  (∀ j, j < 5 → gc_Fl w u (162 + j) (fun V => if (V rn && !(V (O 0))) then gc_nx V O j else V (26 + (162 + j)))) ∧
  (∀ j, j < 5 → gc_Fl w u (167 + j) (fun V => if gc_ca V O then gc_be V j else V (26 + (167 + j)))) ∧
  (∀ j, j < 8 → gc_Fl w u (172 + j) (fun V => if (V (O 15) && V 10) then V (L j) else V (26 + (172 + j)))) ∧
  (∀ j, j < 8 → gc_Fl w u (180 + j) (fun V => if (V (O 15) && V 10) then (V (206 + j) ^^ gc_up (fun j => V (206 + j)) j) else V (26 + (180 + j)))) ∧
  gc_Fl w u 188 (fun V => if V (O 0) then V 1 else V (26 + 188))
def gc_Sp (w : Nat) (u : SX) : Prop := ∃ (rn c : Nat) (O L R Rs Ad : Nat → Nat), (∀ V, gc_Cs w u V → gc_Ws V rn c O L R Rs Ad) ∧ gc_Ff w u rn c O L R Rs Ad
theorem gc_ru_f {u : SX} {x : Int32} : qg_wordD (qs_runs u x) = qg_wordD u ∧ qg_wordS (qs_runs u x) = qg_wordS u ∧ qg_wordM (qs_runs u x) = qg_wordM u ∧ qg_runs (qs_runs u x) = x := ⟨rfl, rfl, rfl, rfl⟩
theorem gc_wo_f {u : SX} {x y z : Int32} : qg_wordD (qs_wordD_wordS_wordM u x y z) = x ∧ qg_wordS (qs_wordD_wordS_wordM u x y z) = y ∧ qg_wordM (qs_wordD_wordS_wordM u x y z) = z := ⟨rfl, rfl, rfl⟩
theorem gc_ol_f {u : SX} {x : Int32} : qg_opLines (qs_opLines u x) = x ∧ qg_wordD (qs_opLines u x) = qg_wordD u ∧ qg_wordS (qs_opLines u x) = qg_wordS u ∧ qg_wordM (qs_opLines u x) = qg_wordM u ∧ qg_runs (qs_opLines u x) = qg_runs u := ⟨rfl, rfl, rfl, rfl, rfl⟩
theorem gc_lt_f {u : SX} {x : Int32} : qg_opLines (qs_left u x) = qg_opLines u ∧ qg_wordD (qs_left u x) = qg_wordD u ∧ qg_wordS (qs_left u x) = qg_wordS u ∧ qg_wordM (qs_left u x) = qg_wordM u ∧ qg_runs (qs_left u x) = qg_runs u ∧ qg_left (qs_left u x) = x := ⟨rfl, rfl, rfl, rfl, rfl, rfl⟩
theorem gc_rt_f {u : SX} {x : Int32} : qg_opLines (qs_right u x) = qg_opLines u ∧ qg_wordD (qs_right u x) = qg_wordD u ∧ qg_wordS (qs_right u x) = qg_wordS u ∧ qg_wordM (qs_right u x) = qg_wordM u ∧ qg_runs (qs_right u x) = qg_runs u ∧ qg_left (qs_right u x) = qg_left u ∧ qg_right (qs_right u x) = x := ⟨rfl, rfl, rfl, rfl, rfl, rfl, rfl⟩
theorem gc_lRest {post : SX → Prop} {u : SX} {w ol wo lf rt rn : Nat} {O L R : Nat → Nat} (h : gc_WF w u) (F : gc_Fi u ol wo lf rt rn) (B : gc_Bs w u ol wo lf rt rn O L R) (hk : gc_cn w u + 1887 ≤ 2560) (hm : gc_W u + 1307 ≤ 8192)
    (hS : ∀ V, gc_Cs w u V → V rn = !(V 214) ∧ (∀ j, j < 16 → V (O j) = (gc_nb (fun i => V (2 + i)) j 4 && V rn)) ∧ (∀ t, t < 8 → V (L t) = V (26 + 8 * gc_vl (fun j => V (2 + (4 + j))) 2 + t)) ∧ (∀ t, t < 8 → V (R t) = V (26 + 8 * gc_vl (fun j => V (2 + (6 + j))) 2 + t)))
    (K : ∀ u', gc_Gf w 0 189 1887 1307 367 u u' → gc_Sp w u' → post u') : wpX_layOutResult (fun u => wpX_layOutStores (fun u => wpX_layOutFlags (fun u => wpX_layOutCounter (fun u => wpX_layOutPorts (fun u => post u) u) u) u) u) u := by
  refine gc_lRes h F B (by omega) (by omega) fun rs ad c Rs Ad u1 g1 F1 e1 b1 e2 b2 e3 hc s1 => ?_
  have n1 := gc_Gf_n g1
  have C1 : gc_Ct w u1 ol wo lf rt rn rs ad c O L R Rs Ad := ⟨F1, gc_Bs_f g1 B, ⟨e1, e2, e3⟩, b1, b2, hc⟩
  refine gc_lSto g1.1 C1 (by omega) fun u2 g2 f2 f2' => ?_
  have n2 := gc_Gk_n g2
  have C2 := gc_Ct_k g2 C1
  have gf2 := gc_Gf_gk g2
  refine gc_lFla g2.1 C2 (by omega) fun u3 g3 f3 f3' => ?_
  have n3 := gc_Gk_n g3
  have C3 := gc_Ct_k g3 C2
  have gf3 := gc_Gf_gk g3
  refine gc_lCou g3.1 C3 (by omega) (by omega) fun u4 g4 f4 f4' f4'' => ?_
  have n4 := gc_Gk_n g4
  have C4 := gc_Ct_k g4 C3
  have gf4 := gc_Gf_gk g4
  refine gc_lPor g4.1 C4 (by omega) (by omega) fun u5 g5 f5 f5' => ?_
  have n5 := gc_Gk_n g5
  have gf5 := gc_Gf_gk g5
  have gA : gc_Gf w 0 189 1887 1307 367 u u5 := gc_Gf_mo (gc_Gf_tr (gc_Gf_tr (gc_Gf_tr (gc_Gf_tr (gc_Gf_mo (lo' := 0) (hi' := 189) g1 (Or.inl (by omega)) (Or.inl (by omega)) (Nat.le_refl _) (Nat.le_refl _) (Nat.le_refl _)) (gc_Gf_mo (lo' := 0) (hi' := 189) gf2 (Or.inl (by omega)) (Or.inl (by omega)) (Nat.le_refl _) (Nat.le_refl _) (Nat.le_refl _))) (gc_Gf_mo (lo' := 0) (hi' := 189) gf3 (Or.inl (by omega)) (Or.inl (by omega)) (Nat.le_refl _) (Nat.le_refl _) (Nat.le_refl _))) (gc_Gf_mo (lo' := 0) (hi' := 189) gf4 (Or.inl (by omega)) (Or.inl (by omega)) (Nat.le_refl _) (Nat.le_refl _) (Nat.le_refl _))) (gc_Gf_mo (lo' := 0) (hi' := 189) gf5 (Or.inl (by omega)) (Or.inl (by omega)) (Nat.le_refl _) (Nat.le_refl _) (Nat.le_refl _))) (Or.inl (by omega)) (Or.inl (by omega)) (by omega) (by omega) (by omega)
  refine K u5 gA ⟨rn, c, O, L, R, Rs, Ad, fun V hV => ?_, ?_, ?_, ?_, ?_, ?_, ?_, f5, f5', ?_⟩
  · have V4 := gc_Gk_Cs g5 (by omega) hV
    have V3 := gc_Gk_Cs g4 (by omega) V4
    have V2 := gc_Gk_Cs g3 (by omega) V3
    have V1 := gc_Gk_Cs g2 (by omega) V2
    obtain ⟨q1, q2, q3, q4⟩ := hS V (gc_Gf_Cs g1 (by omega) V1)
    exact ⟨q1, q2, q3, q4, s1 V V1⟩
  · intro r hr i hi
    exact gc_Gf_Fl gf5 g4.1 (by omega) (by omega) (by omega) (gc_Gf_Fl gf4 g3.1 (by omega) (by omega) (by omega) (gc_Gf_Fl gf3 g2.1 (by omega) (by omega) (by omega) (f2 r hr i hi)))
  · intro r hr i hi
    exact gc_Gf_Fl gf5 g4.1 (by omega) (by omega) (by omega) (gc_Gf_Fl gf4 g3.1 (by omega) (by omega) (by omega) (gc_Gf_Fl gf3 g2.1 (by omega) (by omega) (by omega) (f2' r hr i hi)))
  · exact gc_Gf_Fl gf5 g4.1 (by omega) (by omega) (by omega) (gc_Gf_Fl gf4 g3.1 (by omega) (by omega) (by omega) f3)
  · exact gc_Gf_Fl gf5 g4.1 (by omega) (by omega) (by omega) (gc_Gf_Fl gf4 g3.1 (by omega) (by omega) (by omega) f3')
  · exact fun j hj => gc_Gf_Fl gf5 g4.1 (by omega) (by omega) (by omega) (f4 j hj)
  · exact fun j hj => gc_Gf_Fl gf5 g4.1 (by omega) (by omega) (by omega) (f4' j hj)
  · exact gc_Gf_Fl gf5 g4.1 (by omega) (by omega) (by omega) f4''
theorem gc_lO56 {post : SX → Prop} {u : SX} {w ol wo rn : Nat} (h : gc_WF w u) (e1 : qg_opLines u = nI ol) (e2 : qg_wordD u = nI (wo + 4)) (e3 : qg_wordS u = nI (wo + 6)) (e4 : qg_wordM u = nI (wo + 8)) (e5 : qg_runs u = nI rn) (bw : gc_Bu w u wo 16 (fun i => 2 + i)) (hol : gc_W u = ol + 16) (hrn : rn < gc_cn w u) (hwo : wo + 16 ≤ ol) (hk : gc_cn w u + 2095 ≤ 2560) (hm : gc_W u + 1435 ≤ 8192) (srn : ∀ V, gc_Cs w u V → V rn = !(V 214))
    (hlow : ∀ v, gc_Ex w ol 0 189 u v → ∀ u', gc_Gf w 0 189 1951 1435 371 v u' → gc_cn w v ≤ gc_cn w u + 144 → gc_W v = gc_W u → (∀ e, gc_AL w u e → gc_AL w v (e + 80)) → gc_Sp w u' → post u') :
    ∀ f i v, i ≤ 16 → 16 - i < f → gc_LI w u ol (gc_W u) (9 * i) (5 * i) i (fun j V => gc_nb (fun i => V (2 + i)) j 4 && V rn) v → ux_layOut_56 post (nI wo) f (nI i) v := by
  intro f
  induction f with
  | zero => intro i v _ h2; omega
  | succ f ih =>
    intro i v h1 h2 I
    have Ex := I.2.2.1
    have cx := Ex.2.1
    have cy := I.2.2.2.1
    have wv := I.2.2.2.2.1
    have cv := gc_WFcn I.1
    obtain ⟨⟨q1, q2, q3, q4, _, _, q7⟩, _⟩ := gc_el_f I.2.1
    have bwv := gc_Bu_mo Ex hwo bw
    refine uc_layOut_56 (pk_le 16 i (fun q => ?_) fun q => ?_)
    · have e : i = 16 := by omega
      subst e
      obtain ⟨O, O1, O2⟩ := gc_LI_fin I (by omega)
      rw [q2, e2]
      refine gc_look (b := 2) (from' := 26) I.1 (gc_Bu_sb (k := 4) (m := 2) bwv (by omega)) (by omega) (by omega) (by omega) (by omega) fun lf L u1 g1 b1 s1 => ?_
      have n1 := gc_Gw_n g1
      have gL := gc_Gf_lt (x := nI lf) g1.1 0 0
      obtain ⟨t1, t2, t3, t4, t5, t6⟩ := @gc_lt_f u1 (nI lf)
      obtain ⟨⟨p1, p2, p3, p4, _, _, p7⟩, _⟩ := gc_el_f g1.2.1
      have fL1 := t1.trans (p1.trans (q1.trans e1))
      have fL2 := t2.trans (p2.trans (q2.trans e2))
      have fL3 := t3.trans (p3.trans (q3.trans e3))
      have fL4 := t4.trans (p4.trans (q4.trans e4))
      have fL5 := t5.trans (p7.trans (q7.trans e5))
      rw [p3, q3, e3]
      generalize qs_left u1 (nI lf) = u2 at gL fL1 fL2 fL3 fL4 fL5 t6 ⊢
      have n2 := gc_Gf_n gL
      have b2 := gc_Gf_Bu gL b1
      have bw2 := gc_Gf_Bu gL (gc_Gw_Bu g1 bwv)
      have O3 := gc_Gf_Bu gL (gc_Gw_Bu g1 O1)
      refine gc_look (b := 2) (from' := 26) gL.1 (gc_Bu_sb (k := 6) (m := 2) bw2 (by omega)) (by omega) (by omega) (by omega) (by omega) fun rt R u3 g3 b3 s3 => ?_
      have n3 := gc_Gw_n g3
      have gR := gc_Gf_rt (x := nI rt) g3.1 0 0
      obtain ⟨r1, r2, r3, r4, r5, r6, r7⟩ := @gc_rt_f u3 (nI rt)
      obtain ⟨⟨k1, k2, k3, k4, k5, _, k7⟩, _⟩ := gc_el_f g3.2.1
      have F4 : gc_Fi (qs_right u3 (nI rt)) ol wo lf rt rn := ⟨r1.trans (k1.trans fL1), r2.trans (k2.trans fL2), r3.trans (k3.trans fL3), r4.trans (k4.trans fL4), r6.trans (k5.trans t6), r7, r5.trans (k7.trans fL5)⟩
      generalize qs_right u3 (nI rt) = u4 at gR F4 ⊢
      have n4 := gc_Gf_n gR
      have B4 : gc_Bs w u4 ol wo lf rt rn O L R := ⟨gc_Gf_Bu gR (gc_Gw_Bu g3 bw2), gc_Gf_Bu gR (gc_Gw_Bu g3 O3), gc_Gf_Bu gR (gc_Gw_Bu g3 b2), gc_Gf_Bu gR b3, by omega⟩
      refine gc_lRest gR.1 F4 B4 (by omega) (by omega) (fun V hV => ?_) fun u5 g5 sp => ?_
      · have V3 := gc_Gf_Cs gR (by omega) hV
        have V2 := gc_Gw_Cs g3 V3
        have V1 := gc_Gf_Cs gL (by omega) V2
        have V0 := gc_Gw_Cs g1 V1
        exact ⟨srn V (gc_Cs_mo Ex (by omega) V0), O2 V V0, s1 V V1, s3 V V3⟩
      · refine hlow v (gc_Ex_mo Ex (Nat.le_refl _) (Or.inl (by omega)) (Or.inl (by omega))) u5 (gc_Gf_mo (gc_Gf_tr (gc_Gf_tr (gc_Gf_tr (gc_Gf_tr (gc_Gf_gw g1 0 189) (gc_Gf_mo (lo' := 0) (hi' := 189) gL (Or.inl (by omega)) (Or.inl (by omega)) (Nat.le_refl _) (Nat.le_refl _) (Nat.le_refl _))) (gc_Gf_gw g3 0 189)) (gc_Gf_mo (lo' := 0) (hi' := 189) gR (Or.inl (by omega)) (Or.inl (by omega)) (Nat.le_refl _) (Nat.le_refl _) (Nat.le_refl _))) g5) (Or.inl (by omega)) (Or.inl (by omega)) (by omega) (by omega) (by omega)) (by omega) wv (fun e he => gc_AL_le (I.2.2.2.2.2.1 e he) (by omega)) sp
    · refine gc_isNum (n := 4) I.1 (A := fun i => 2 + i) ⟨by have := bwv.1; omega, fun i hi => bwv.2 i (by omega)⟩ (by omega) (by omega) (by omega) fun r1 v1 N1 hr1 s1 l1 => ?_
      have n1 := N1.2.2.2
      have n1' := N1.2.2.1.2.1
      obtain ⟨⟨p1, _, _, _, _, _, p7⟩, _⟩ := gc_el_f (gc_gl N1.2.1)
      rw [p7, q7, e5, p1, q1, e1]
      refine gc_and N1.1 (by omega) hr1 (y := rn) (by omega) fun r2 v2 g2 => ?_
      have n2 := gc_Gr_cn g2
      refine gc_wrt (nI_add _ _) (by omega) (by omega) (nm_r (nI_1 i) (ih (i + 1) _ (by omega) (by omega) ?_))
      refine gc_LI_le (gc_LI_st (r := r2) (d' := 5 * i + 5) I (by omega) (gc_Nt_tr (gc_Nt_ng N1) (gc_Nt_ng g2.1)) n2.2.2.1 (fun V hV => ?_) fun e he => ?_) (by omega) (by omega)
      · rw [gc_vA g2 hV, s1 V (gc_Gr_Cs g2 hV)]
      · have a1 := l1 _ (I.2.2.2.2.2.1 e he)
        have a2 := (g2.2.2.2 (e + 5 * i + 4) ⟨a1 r1 hr1, a1 rn (by omega)⟩).2 (gc_AL_le a1 (by omega))
        exact gc_AL_le a2 (by omega)
theorem gc_lay {post : SX → Prop} {u : SX} {w : Nat} (h : gc_WF w u) (hW : gc_W u = 0) (hc : gc_cn w u = 215)
    (K : ∀ u', gc_WF w u' → gc_Ex w 0 0 189 u u' → (∀ e, gc_AL w u e → gc_AL w u' (e + 452)) → gc_Sp w u' → post u') : wpX_layOut post u := by
  refine uc_layOut ?_
  refine gc_bunFrom (g := 2) (n := 16) h (by omega) (by omega) fun u1 g1 b1 => ?_
  rw [hW] at b1 ⊢
  have w1 := gc_Go_W g1
  have c1 := g1.2.2.2.1
  have c1' := gc_Go_cn g1
  refine nm_r (e' := nI (0 + 4)) (gc_p4 0) (nm_r (e' := nI (0 + 6)) (gc_p6 0) (nm_r (e' := nI (0 + 8)) (gc_p8 0) ?_))
  have g2 := gc_Gf_wo (x := nI (0 + 4)) (y := nI (0 + 6)) (z := nI (0 + 8)) g1.1 0 189
  obtain ⟨a1, a2, a3⟩ := @gc_wo_f u1 (nI (0 + 4)) (nI (0 + 6)) (nI (0 + 8))
  generalize qs_wordD_wordS_wordM u1 (nI (0 + 4)) (nI (0 + 6)) (nI (0 + 8)) = u2 at g2 a1 a2 a3 ⊢
  have n2 := gc_Gf_n g2
  have b2 := gc_Gf_Bu g2 b1
  refine gc_notW (x := 214) g2.1 (by omega) (by omega) fun r3 u3 g3 h3 s3 => ?_
  have n3 := gc_Gw_n g3
  have b3 := gc_Gw_Bu g3 b2
  obtain ⟨⟨_, q2, q3, q4, _⟩, _⟩ := gc_el_f g3.2.1
  have g4 := gc_Gf_ru (x := nI r3) g3.1 0 189
  obtain ⟨p1, p2, p3, p4⟩ := @gc_ru_f u3 (nI r3)
  have d1 := p1.trans (q2.trans a1)
  have d2 := p2.trans (q3.trans a2)
  have d3 := p3.trans (q4.trans a3)
  generalize qs_runs u3 (nI r3) = u4 at g4 d1 d2 d3 p4 ⊢
  have n4 := gc_Gf_n g4
  have b4 := gc_Gf_Bu g4 b3
  refine gc_bundle (n := 16) g4.1 ⟨17, ?_⟩
  have g5 := gc_buGo (n := 16) g4.1 (by omega)
  have w5 := gc_Go_W g5
  obtain ⟨⟨_, k2, k3, k4, _, _, k7⟩, _⟩ := gc_el_f g5.2.1
  have d1 := k2.trans d1
  have d2 := k3.trans d2
  have d3 := k4.trans d3
  have d4 := k7.trans p4
  generalize qs_wires u4 (nI (gc_W u4 + 16)) = u5 at g5 w5 d1 d2 d3 d4 ⊢
  have gw5 := gc_Gw_go g5
  have n5 := gc_Gw_n gw5
  have b5 := gc_Gw_Bu gw5 b4
  have g6 := gc_Gf_ol (x := nI (gc_W u4)) g5.1 0 189
  obtain ⟨t1, t2, t3, t4, t5⟩ := @gc_ol_f u5 (nI (gc_W u4))
  have d1 := t2.trans d1
  have d2 := t3.trans d2
  have d3 := t4.trans d3
  have d4 := t5.trans d4
  generalize qs_opLines u5 (nI (gc_W u4)) = u6 at g6 t1 d1 d2 d3 d4 ⊢
  have n6 := gc_Gf_n g6
  have b6 := gc_Gf_Bu g6 b5
  have V36 : ∀ V, gc_Cs w u6 V → gc_Cs w u3 V := fun V hV => gc_Gf_Cs g4 (by omega) (gc_Gw_Cs gw5 (gc_Gf_Cs g6 (by omega) hV))
  refine gc_lO56 (ol := gc_W u4) (wo := 0) (rn := r3) g6.1 t1 d1 d2 d3 d4 b6 (by omega) (by omega) (by have := b4.1; omega) (by omega) (by omega) (fun V hV => s3 V (V36 V hV)) (fun v Ex u' g7 c7 w7 l7 sp => ?_) 17 0 u6 (by omega) (by omega) ⟨g6.1, rfl, gc_Ex_rf, by omega, rfl, fun e he => he, fun j hj => absurd hj (by omega)⟩
  have gA := gc_Gf_tr (gc_Gf_tr (gc_Gf_tr (gc_Gf_tr (gc_Gf_tr (gc_Gf_gw (gc_Gw_go g1) 0 189) g2) (gc_Gf_gw g3 0 189)) g4) (gc_Gf_gw gw5 0 189)) g6
  refine K u' g7.1 (gc_Ex_tr (gc_Ex_mo gA.2.1 (by omega) (Or.inl (by omega)) (Or.inl (by omega))) (gc_Ex_tr (gc_Ex_mo Ex (by omega) (Or.inl (by omega)) (Or.inl (by omega))) (gc_Ex_mo g7.2.1 (by omega) (Or.inl (by omega)) (Or.inl (by omega))))) (fun e he => ?_) sp
  exact gc_AL_le (g7.2.2.2.2 _ (l7 _ (gA.2.2.2.2 e he))) (by omega)
end
section
/-! what is needed -/
def gc_ni (k : Nat) : Nat := if k = 7 then 3 else if k = 3 then 1 else 2
def gc_in (w : Nat) (u : SX) (g i : Nat) : Nat := if i = 0 then gc_a w u g else if i = 1 then gc_b w u g else gc_c w u g
theorem gc_isWk {post : Int32 → Prop} {k : Nat} (hk : k < 8) (K0 : k < 3 → post 0) (K1 : 3 ≤ k → post 1) : wpX_isWorked post (nI k) := uc_isWorked (pk_lt k 3 K0 K1)
theorem gc_inOf {post : Int32 → Prop} {k : Nat} (hk : k < 8) (K : post (nI (gc_ni k))) : wpX_inputsOf post (nI k) := by
  unfold gc_ni at K
  refine uc_inputsOf (pk_eq k 7 (fun e => ?_) fun e => pk_eq k 3 (fun e2 => ?_) fun e2 => ?_)
  · rw [if_pos e] at K; exact K
  · rw [if_neg e, if_pos e2] at K; exact K
  · rw [if_neg e, if_neg e2] at K; exact K
/-- the circuit's own tables -/
def gc_St (w : Nat) (u : SX) : Prop := (w < 2 ∧ qg_counts u w = nI (gc_cn w u) ∧ 215 ≤ gc_cn w u ∧ gc_cn w u ≤ 2560) ∧ gc_Ks w u ∧ gc_Gs w u ∧ gc_Fs w u
theorem gc_St_wf {w : Nat} {u : SX} (h : gc_WF w u) : gc_St w u := ⟨⟨h.1.1, h.1.2.2.2.1, h.1.2.2.2.2.1, h.1.2.2.2.2.2.1⟩, h.2.1, h.2.2.1, h.2.2.2.1⟩
theorem gc_St_g {w : Nat} {u : SX} {g : Nat} (h : gc_St w u) (h0 : 215 ≤ g) (hg : g < gc_cn w u) : (qg_kind u (w * 2560 + g) = nI (gc_k w u g) ∧ qg_inA u (w * 2560 + g) = nI (gc_a w u g) ∧ qg_inB u (w * 2560 + g) = nI (gc_b w u g) ∧ qg_inC u (w * 2560 + g) = nI (gc_c w u g)) ∧ (3 ≤ gc_k w u g ∧ gc_k w u g ≤ 7) ∧ (gc_a w u g < g ∧ gc_b w u g < g ∧ gc_c w u g < g) ∧ (gc_k w u g = 3 → gc_b w u g = 0) ∧ (gc_k w u g ≠ 7 → gc_c w u g = 0) := gc_Gt_n (h.2.2.1 g h0 hg) (by have := h.1.2.2.2; omega)
theorem gc_St_in {w : Nat} {u : SX} {g : Nat} (h : gc_St w u) (h0 : 215 ≤ g) (hg : g < gc_cn w u) (i : Nat) : gc_in w u g i < g := by
  have := (gc_St_g h h0 hg).2.2.1
  unfold gc_in
  split
  · exact this.1
  · split
    · exact this.2.1
    · exact this.2.2
theorem gc_St_k0 {w : Nat} {u : SX} {g : Nat} (h : gc_St w u) (hg : g < 215) : qg_kind u (w * 2560 + g) = nI (gc_k0 g) ∧ gc_k0 g < 3 := by
  refine ⟨h.2.1 g hg, ?_⟩
  unfold gc_k0
  split
  · decide
  · split <;> decide
theorem gc_St_F {w : Nat} {u : SX} {i : Nat} (h : gc_St w u) (hi : i < 189) : qg_inA u (w * 2560 + (26 + i)) = nI (gc_a w u (26 + i)) ∧ gc_a w u (26 + i) < gc_cn w u := by
  obtain ⟨a, a1, a2⟩ := h.2.2.2 i hi
  have := h.1.2.2.2
  unfold gc_a
  rw [a1, nI_clamp (by omega)]
  exact ⟨rfl, a2⟩
theorem gc_inpt {post : Int32 → Prop} {u : SX} {w g i : Nat} (h : gc_St w u) (h0 : 215 ≤ g) (hg : g < gc_cn w u) (hi : i < 3) (K : post (nI (gc_in w u g i))) : wpX_input post u (nI (w * 2560 + g)) (nI i) := by
  obtain ⟨⟨_, e1, e2, e3⟩, _⟩ := gc_St_g h h0 hg
  have h1 := h.1.1
  have h2 := h.1.2.2.2
  have iv : vp_in (nI (w * 2560 + g)) 5120 := vp_in_nI (by omega) (by decide)
  have ec : (nI (w * 2560 + g)).toNatClampNeg = w * 2560 + g := nI_clamp (by omega)
  refine uc_input ?_
  rw [ec, e1, e2, e3]
  unfold gc_in at K
  refine pk_eq i 0 (fun e => ⟨iv, ?_⟩) fun e => pk_eq i 1 (fun e2 => ⟨iv, ?_⟩) fun e2 => ⟨iv, ?_⟩
  · rw [if_pos e] at K; exact K
  · rw [if_neg e, if_pos e2] at K; exact K
  · rw [if_neg e, if_neg e2] at K; exact K
theorem gc_lv_g {u : SX} {l : Nat → Int32} : qg_circuit (qs_live u l) = qg_circuit u ∧ qg_tidy (qs_live u l) = qg_tidy u ∧ qg_counts (qs_live u l) = qg_counts u ∧ qg_kind (qs_live u l) = qg_kind u ∧ qg_inA (qs_live u l) = qg_inA u ∧ qg_inB (qs_live u l) = qg_inB u ∧ qg_inC (qs_live u l) = qg_inC u ∧ qg_live (qs_live u l) = l := ⟨rfl, rfl, rfl, rfl, rfl, rfl, rfl, rfl⟩
theorem gc_lv_s {u : SX} {l l' : Nat → Int32} : qs_live (qs_live u l) l' = qs_live u l' := rfl
theorem gc_lv_e {u : SX} : qs_live u (qg_live u) = u := rfl
/-- same tables -/
def gc_Co (u v : SX) : Prop := qg_counts v = qg_counts u ∧ qg_kind v = qg_kind u ∧ qg_inA v = qg_inA u ∧ qg_inB v = qg_inB u ∧ qg_inC v = qg_inC u
theorem gc_Co_n {u v : SX} (h : gc_Co u v) (w : Nat) : gc_cn w v = gc_cn w u ∧ (∀ g, gc_k w v g = gc_k w u g) ∧ (∀ g, gc_a w v g = gc_a w u g) ∧ (∀ g, gc_b w v g = gc_b w u g) ∧ (∀ g, gc_c w v g = gc_c w u g) := by
  obtain ⟨h1, h2, h3, h4, h5⟩ := h
  unfold gc_cn gc_k gc_a gc_b gc_c
  rw [h1, h2, h3, h4, h5]
  exact ⟨rfl, fun _ => rfl, fun _ => rfl, fun _ => rfl, fun _ => rfl⟩
theorem gc_Co_in {u v : SX} (h : gc_Co u v) (w g i : Nat) : gc_in w v g i = gc_in w u g i := by
  obtain ⟨_, _, h3, h4, h5⟩ := gc_Co_n h w
  unfold gc_in
  rw [h3, h4, h5]
theorem gc_St_co {w : Nat} {u v : SX} (c : gc_Co u v) (h : gc_St w u) : gc_St w v := by
  obtain ⟨n1, _⟩ := gc_Co_n c w
  obtain ⟨c1, c2, c3, c4, c5⟩ := c
  unfold gc_St gc_Ks gc_Gs gc_Gt gc_Fs
  rw [n1, c1, c2, c3, c4, c5]
  exact h
theorem gc_lv_co {u : SX} {l : Nat → Int32} : gc_Co u (qs_live u l) := ⟨rfl, rfl, rfl, rfl, rfl⟩
def gc_LvI (w : Nat) (u : SX) (l : Nat → Int32) (t : Nat) : Prop :=
  (∀ g, g < gc_cn w u → l (w * 2560 + g) = 0 ∨ l (w * 2560 + g) = 1) ∧ (∀ j, (j < w * 2560 ∨ w * 2560 + 2560 ≤ j) → l j = qg_live u j) ∧
  (∀ g, t ≤ g → 215 ≤ g → g < gc_cn w u → l (w * 2560 + g) ≠ 0 → ∀ i, i < gc_ni (gc_k w u g) → l (w * 2560 + gc_in w u g i) = 1)
theorem gc_LvI_set {w : Nat} {u : SX} {l : Nat → Int32} {t x : Nat} (h : gc_LvI w u l t) (hx : x < t) (hx2 : x < 2560) : gc_LvI w u (upd l (w * 2560 + x) 1) t := by
  refine ⟨fun g hg => ?_, fun j hj => ?_, fun g h1 h2 h3 h4 i hi => ?_⟩
  · by_cases e : g = x
    · rw [e, pk_us]; exact Or.inr rfl
    · rw [pk_un (by omega)]; exact h.1 g hg
  · rw [pk_un (by omega)]; exact h.2.1 j hj
  · rw [pk_un (by omega)] at h4
    have := h.2.2 g h1 h2 h3 h4 i hi
    by_cases e : gc_in w u g i = x
    · rw [e, pk_us]
    · rw [pk_un (by omega)]; exact this
theorem gc_vb1 : vp_nar .boolean 1 = 1 := rfl
theorem gc_vb0 : vp_nar .boolean 0 = 0 := rfl
theorem gc_ml126 {post : SX → Prop} {J : Int32 → SX → Prop} {u : SX} {w g k : Nat} (h : gc_St w u) (hg : g < gc_cn w u) (hk : qg_kind u (w * 2560 + g) = nI k) (hk8 : k < 8)
    (Q : (Nat → Int32) → Prop) (hQ : ∀ l x, Q l → Q (upd l (w * 2560 + x) 1))
    (K : ∀ l, gc_LvI w u l g → Q l → J (nI g + (-1)) (qs_live u l)) :
    ∀ f i l, i ≤ 3 → 3 - i < f → gc_LvI w u l (g + 1) → Q l → (215 ≤ g → ∀ i', i' < i → l (w * 2560 + gc_in w u g i') = 1) → (g < 215 → k < 3) → ux_markLive_126 post J (nI (w * 2560)) (nI g) (nI k) f (nI i) (qs_live u l) := by
  have h1 := h.1.1
  have h2 := h.1.2.2.2
  have iv : vp_in (nI (w * 2560 + g)) 5120 := vp_in_nI (by omega) (by decide)
  have ec : (nI (w * 2560 + g)).toNatClampNeg = w * 2560 + g := nI_clamp (by omega)
  intro f
  induction f with
  | zero => intro i l _ h2; omega
  | succ f ih =>
    intro i l i1 i2 I hq hi hlow
    obtain ⟨g1, g2, g3, g4, g5, g6, g7, g8⟩ := @gc_lv_g u l
    refine uc_markLive_126 ?_
    rw [nI_add, ec, g8]
    refine ⟨iv, br_c (fun z => nm_e (K l ?_ hq)) fun z => ?_⟩
    · refine ⟨I.1, I.2.1, fun g' h1 h2 h3 h4 => ?_⟩
      by_cases e : g' = g
      · rw [e] at h4; exact absurd z h4
      · exact I.2.2 g' (by omega) h2 h3 h4
    · refine gc_isWk hk8 (fun hk3 => br_t rfl (nm_e (K l ?_ hq))) fun hk3 => br_f (by decide) ?_
      · refine ⟨I.1, I.2.1, fun g' h1 h2 h3 h4 => ?_⟩
        by_cases e : g' = g
        · exfalso
          have := (gc_St_g h (by omega) hg).1.1
          have q2 := (gc_St_g h (by omega) hg).2.1
          rw [hk] at this
          have := (nI_eq (by omega) (by omega)).mp this
          omega
        · exact I.2.2 g' (by omega) h2 h3 h4
      · have h215 : 215 ≤ g := by
          rcases Nat.lt_or_ge g 215 with q | q
          · have := hlow q; omega
          · exact q
        have kk : gc_k w u g = k := by unfold gc_k; rw [hk]; exact nI_clamp (by omega)
        refine gc_inOf hk8 ?_
        have ni3 : gc_ni k ≤ 3 := by unfold gc_ni; split; omega; split <;> omega
        refine pk_le (gc_ni k) i (fun q => nm_e (K l ?_ hq)) fun q => ?_
        · refine ⟨I.1, I.2.1, fun g' h1 h2 h3 h4 i' hi' => ?_⟩
          by_cases e : g' = g
          · rw [e] at hi' ⊢
            rw [kk] at hi'
            exact hi h215 i' (by omega)
          · exact I.2.2 g' (by omega) h2 h3 h4 i' hi'
        · have hin := gc_St_in h h215 hg i
          have cI := gc_Co_in (@gc_lv_co u l) w g i
          refine gc_inpt (gc_St_co gc_lv_co h) h215 (by rw [(gc_Co_n (@gc_lv_co u l) w).1]; exact hg) (by omega) ?_
          rw [cI, nI_add, nI_clamp (by omega), gc_vb1]
          refine ⟨vp_in_nI (by omega) (by decide), nm_e (nm_r (nI_1 i) ?_)⟩
          rw [gc_lv_s]
          refine ih (i + 1) _ (by omega) (by omega) (gc_LvI_set I (by omega) (by omega)) (hQ _ _ hq) (fun _ i' hi' => ?_) hlow
          by_cases e : gc_in w u g i' = gc_in w u g i
          · rw [e, pk_us]
          · rw [pk_un (by omega)]
            exact hi h215 i' (by
              have : i' ≠ i := fun z => e (by rw [z])
              omega)
theorem gc_ml110 {post : SX → Prop} {u : SX} {w : Nat} (h : gc_St w u) (Q : (Nat → Int32) → Prop) (hQ : ∀ l x, Q l → Q (upd l (w * 2560 + x) 1)) (K : ∀ l, gc_LvI w u l 0 → Q l → post (qs_live u l)) :
    ∀ t l, t ≤ gc_cn w u → gc_LvI w u l t → Q l → ux_markLive_110 post (nI (w * 2560)) (t + 1) (nI t + (-1)) (qs_live u l) := by
  have h1 := h.1.1
  have h2 := h.1.2.2.2
  intro t
  induction t with
  | zero => exact fun l _ I hq => uc_markLive_110 (br_t (by decide) (K l I hq))
  | succ g ih =>
    intro l ht I hq
    obtain ⟨g1, g2, g3, g4, g5, g6, g7, g8⟩ := @gc_lv_g u l
    rw [pk_m1]
    refine uc_markLive_110 (br_f (nI_pos (by omega)) ?_)
    rw [nI_add, nI_clamp (by omega), g4]
    have kk : ∃ k, qg_kind u (w * 2560 + g) = nI k ∧ k < 8 ∧ (g < 215 → k < 3) := by
      rcases Nat.lt_or_ge g 215 with q | q
      · have := gc_St_k0 h q
        exact ⟨_, this.1, by omega, fun _ => this.2⟩
      · have := gc_St_g h q (by omega)
        exact ⟨_, this.1.1, by omega, fun _ => by omega⟩
    obtain ⟨k, k1, k2, k3⟩ := kk
    exact ⟨vp_in_nI (by omega) (by decide), nm_r k1 ⟨4, gc_ml126 h (by omega) k1 k2 Q hQ (fun l' I' q' => ih l' (by omega) I' q') 4 0 l (by omega) (by omega) I hq (fun _ i' hi' => absurd hi' (by omega)) k3⟩⟩
/-- which gates are needed: the flip-flops' next ones, and the inputs of those needed -/
def gc_LvO (w : Nat) (u : SX) (l : Nat → Int32) : Prop := gc_LvI w u l 0 ∧ ∀ i, i < 189 → l (w * 2560 + gc_a w u (26 + i)) = 1
theorem gc_mLive {post : SX → Prop} {u : SX} {w : Nat} (h : gc_WF w u) (K : ∀ l, gc_LvO w u l → post (qs_live u l)) : wpX_markLive post u := by
  have hS := gc_St_wf h
  have h1 := hS.1.1
  have h2 := hS.1.2.2.2
  have hc := hS.1.2.1
  have ci := h.1.2.1
  have ti := h.1.2.2.1
  have l64 : ∀ f i l, i ≤ 189 → 189 - i < f → gc_LvI w u l (gc_cn w u) → (∀ i', i' < i → l (w * 2560 + gc_a w u (26 + i')) = 1) → ux_markLive_64 post (nI (w * 2560)) f (nI i) (qs_live u l) := by
    intro f
    induction f with
    | zero => intro i l _ h2; omega
    | succ f ih =>
      intro i l i1 i2 I hi
      obtain ⟨g1, g2, g3, g4, g5, g6, g7, g8⟩ := @gc_lv_g u l
      refine uc_markLive_64 ?_
      rw [g1, g3, g5, g8, ci, nI_clamp (n := w) (by omega), hc]
      refine pk_le 189 i (fun q => ?_) fun q => ?_
      · have e : i = 189 := by omega
        subst e
        have ec : nI (gc_cn w u) - 1 = nI (gc_cn w u) + (-1) := by
          have e1 : gc_cn w u = gc_cn w u - 1 + 1 := by have := hS.1.2.2.1; omega
          have e2 : nI (gc_cn w u) - 1 = nI (gc_cn w u - 1) := pk_sub (b := 1) (by have := hS.1.2.2.1; omega)
          rw [e2]
          conv => rhs; rw [e1]
          rw [pk_m1]
        refine ⟨vp_in_nI h1 (by decide), nm_r ec ⟨gc_cn w u + 1, ?_⟩⟩
        refine gc_ml110 hS (fun l => ∀ i', i' < 189 → l (w * 2560 + gc_a w u (26 + i')) = 1) (fun l x hq i' hi' => ?_) (fun l I hq => K l ⟨I, hq⟩) _ l (Nat.le_refl _) I hi
        by_cases e : gc_a w u (26 + i') = x
        · rw [e, pk_us]
        · rw [pk_un (by omega)]; exact hq i' hi'
      · have ff := gc_St_F hS q
        have e1 : nI (w * 2560) + 26 + nI i = nI (w * 2560 + (26 + i)) := by rw [show (26 : Int32) = nI 26 from rfl, nI_add, nI_add, Nat.add_assoc]
        rw [e1, nI_clamp (by omega)]
        refine ⟨vp_in_nI (by omega) (by decide), nm_r ff.1 ?_⟩
        rw [nI_add, nI_clamp (by omega), gc_vb1]
        refine ⟨vp_in_nI (by omega) (by decide), nm_e (nm_r (nI_1 i) ?_)⟩
        rw [gc_lv_s]
        refine ih (i + 1) _ (by omega) (by omega) (gc_LvI_set I ff.2 (by omega)) fun i' hi' => ?_
        by_cases e : gc_a w u (26 + i') = gc_a w u (26 + i)
        · rw [e, pk_us]
        · rw [pk_un (by omega)]
          exact hi i' (by
            have : i' ≠ i := fun z => e (by rw [z])
            omega)
  have l11 : ∀ f i l, i ≤ gc_cn w u → gc_cn w u - i < f → (∀ g, g < i → l (w * 2560 + g) = 0 ∨ l (w * 2560 + g) = 1) → (∀ j, (j < w * 2560 ∨ w * 2560 + 2560 ≤ j) → l j = qg_live u j) → ux_markLive_11 post (nI (w * 2560)) f (nI i) (qs_live u l) := by
    intro f
    induction f with
    | zero => intro i l _ h2; omega
    | succ f ih =>
      intro i l i1 i2 hv ho
      obtain ⟨g1, g2, g3, g4, g5, g6, g7, g8⟩ := @gc_lv_g u l
      refine uc_markLive_11 ?_
      rw [g1, g2, g3, g4, g8, ci, nI_clamp (n := w) (by omega), hc, nI_add, gc_vb1, gc_vb0]
      refine ⟨vp_in_nI h1 (by decide), pk_le (gc_cn w u) i (fun q => ⟨190, ?_⟩) fun q => ?_⟩
      · have e : i = gc_cn w u := by omega
        subst e
        exact l64 190 0 l (by omega) (by omega) ⟨hv, ho, fun g h1 _ h3 => absurd h3 (by omega)⟩ fun i' hi' => absurd hi' (by omega)
      · have iv : vp_in (nI (w * 2560 + i)) 5120 := vp_in_nI (by omega) (by decide)
        have go : ∀ x : Int32, (x = 0 ∨ x = 1) → vp_in (nI (w * 2560 + i)) 5120 ∧ ∀ a : Nat → Int32, a = upd l (nI (w * 2560 + i)).toNatClampNeg x → ∀ y : Int32, y = nI i + 1 → ux_markLive_11 post (nI (w * 2560)) f y (qs_live (qs_live u l) a) := by
          intro x hx
          refine ⟨iv, nm_r (e' := upd l (w * 2560 + i) x) (by rw [nI_clamp (by omega)]) (nm_r (nI_1 i) ?_)⟩
          rw [gc_lv_s]
          refine ih (i + 1) _ (by omega) (by omega) (fun g hg => ?_) fun j hj => ?_
          · by_cases e : g = i
            · rw [e, pk_us]; exact hx
            · rw [pk_un (by omega)]; exact hv g (by omega)
          · rw [pk_un (by omega)]; exact ho j hj
        exact br_c (fun _ => go 1 (Or.inr rfl)) fun _ => ⟨iv, br_c (fun _ => go 1 (Or.inr rfl)) fun _ => go 0 (Or.inl rfl)⟩
  refine uc_markLive (nm_r (e' := nI (w * 2560)) (by rw [ci]; exact gc_b0) ⟨gc_cn w u + 1, ?_⟩)
  have := l11 (gc_cn w u + 1) 0 (qg_live u) (by omega) (by omega) (fun g hg => absurd hg (by omega)) fun j _ => rfl
  rw [gc_lv_e] at this
  exact this
end
section
/-! in which order -/
def gc_lvl (w : Nat) (l : Nat → Int32) (g : Nat) : Nat := (l (w * 2560 + g)).toNatClampNeg
theorem gc_le_g {u : SX} {l : Nat → Int32} : qg_circuit (qs_level u l) = qg_circuit u ∧ qg_counts (qs_level u l) = qg_counts u ∧ qg_kind (qs_level u l) = qg_kind u ∧ qg_level (qs_level u l) = l := ⟨rfl, rfl, rfl, rfl⟩
theorem gc_le_s {u : SX} {l l' : Nat → Int32} : qs_level (qs_level u l) l' = qs_level u l' := rfl
theorem gc_le_e {u : SX} : qs_level u (qg_level u) = u := rfl
theorem gc_le_co {u : SX} {l : Nat → Int32} : gc_Co u (qs_level u l) := ⟨rfl, rfl, rfl, rfl, rfl⟩
/-- one gate's level -/
def gc_Lg (w : Nat) (u : SX) (l : Nat → Int32) (g : Nat) : Prop := (l (w * 2560 + g) = nI (gc_lvl w l g) ∧ gc_lvl w l g ≤ g) ∧ (g < 215 → gc_lvl w l g = 0) ∧ (215 ≤ g → (∀ i, i < gc_ni (gc_k w u g) → gc_lvl w l (gc_in w u g i) < gc_lvl w l g) ∧ ∀ d, (∀ i, i < gc_ni (gc_k w u g) → gc_lvl w l (gc_in w u g i) ≤ d) → gc_lvl w l g ≤ d + 1)
def gc_LlI (w : Nat) (u : SX) (l : Nat → Int32) (t : Nat) : Prop := (∀ g, g < t → gc_Lg w u l g) ∧ ∀ j, (j < w * 2560 ∨ w * 2560 + 2560 ≤ j) → l j = qg_level u j
theorem gc_lvl_us {w : Nat} {l : Nat → Int32} {g d : Nat} (hd : d < 2 ^ 31) : gc_lvl w (upd l (w * 2560 + g) (nI d)) g = d := by
  unfold gc_lvl; rw [pk_us]; exact nI_clamp hd
theorem gc_lvl_un {w : Nat} {l : Nat → Int32} {g h : Nat} {x : Int32} (hh : h ≠ g) : gc_lvl w (upd l (w * 2560 + g) x) h = gc_lvl w l h := by
  unfold gc_lvl; rw [pk_un (by omega)]
theorem gc_ni_le (k : Nat) : gc_ni k ≤ 3 ∧ 1 ≤ gc_ni k := by
  unfold gc_ni; split; omega; split <;> omega
theorem gc_fl104 {post : SX → Prop} {J : Int32 → SX → Prop} {u : SX} {w g d : Nat} {l : Nat → Int32} (h : gc_St w u) (hg : g < gc_cn w u) (I : gc_LlI w u l g) (hd : d ≤ g) (h0 : g < 215 → d = 0) (h1 : 215 ≤ g → (∀ i, i < gc_ni (gc_k w u g) → gc_lvl w l (gc_in w u g i) < d) ∧ ∀ e, (∀ i, i < gc_ni (gc_k w u g) → gc_lvl w l (gc_in w u g i) ≤ e) → d ≤ e + 1)
    (K : ∀ l, gc_LlI w u l (g + 1) → J (nI (g + 1)) (qs_level u l)) : ux_findLevels_104 post J (nI (w * 2560)) (nI g) (nI d) (qs_level u l) := by
  have a1 := h.1.1
  have a2 := h.1.2.2.2
  obtain ⟨g1, g2, g3, g4⟩ := @gc_le_g u l
  refine uc_findLevels_104 ?_
  rw [nI_add, nI_clamp (by omega), g4, gc_sh (by omega)]
  refine ⟨vp_in_nI (by omega) (by decide), nm_e (nm_r (nI_1 g) ?_)⟩
  rw [gc_le_s]
  refine K _ ⟨fun g' hg' => ?_, fun j hj => by rw [pk_un (by omega)]; exact I.2 j hj⟩
  by_cases e : g' = g
  · subst e
    refine ⟨⟨?_, ?_⟩, fun z => ?_, fun z => ?_⟩
    · rw [gc_lvl_us (by omega), pk_us]
    · rw [gc_lvl_us (by omega)]; exact hd
    · rw [gc_lvl_us (by omega)]; exact h0 z
    · have hin := gc_St_in h z hg
      rw [gc_lvl_us (by omega)]
      obtain ⟨q1, q2⟩ := h1 z
      refine ⟨fun i hi => ?_, fun e he => q2 e fun i hi => ?_⟩
      · rw [gc_lvl_un (by have := hin i; omega)]; exact q1 i hi
      · have := he i hi
        rw [gc_lvl_un (by have := hin i; omega)] at this
        exact this
  · obtain ⟨⟨q1, q2⟩, q3, q4⟩ := I.1 g' (by omega)
    refine ⟨⟨?_, ?_⟩, fun z => ?_, fun z => ?_⟩
    · rw [gc_lvl_un e, pk_un (by omega)]; exact q1
    · rw [gc_lvl_un e]; exact q2
    · rw [gc_lvl_un e]; exact q3 z
    · have hin := gc_St_in h z (by omega)
      obtain ⟨p1, p2⟩ := q4 z
      rw [gc_lvl_un e]
      refine ⟨fun i hi => ?_, fun d hd => p2 d fun i hi => ?_⟩
      · rw [gc_lvl_un (by have := hin i; omega)]; exact p1 i hi
      · have := hd i hi
        rw [gc_lvl_un (by have := hin i; omega)] at this
        exact this
theorem gc_fl39 {post : SX → Prop} {J : Int32 → SX → Prop} {u : SX} {w g k : Nat} {l : Nat → Int32} (h : gc_St w u) (hg : g < gc_cn w u) (hk : qg_kind u (w * 2560 + g) = nI k) (hk8 : k < 8) (hlow : g < 215 → k < 3) (I : gc_LlI w u l g)
    (K : ∀ l, gc_LlI w u l (g + 1) → J (nI (g + 1)) (qs_level u l)) :
    ∀ f i d, i ≤ gc_ni k → 3 - i < f → d ≤ g → (g < 215 → d = 0) → (215 ≤ g → (∀ i', i' < i → gc_lvl w l (gc_in w u g i') < d) ∧ ∀ e, (∀ i', i' < i → gc_lvl w l (gc_in w u g i') ≤ e) → d ≤ e + 1) → ux_findLevels_39 post J (nI (w * 2560)) (nI g) (nI k) f (nI d) (nI i) (qs_level u l) := by
  have a1 := h.1.1
  have a2 := h.1.2.2.2
  obtain ⟨g1, g2, g3, g4⟩ := @gc_le_g u l
  have nik := (gc_ni_le k).1
  intro f
  induction f with
  | zero => intro i d _ h2; omega
  | succ f ih =>
    intro i d i1 i2 hd h0 h1
    refine uc_findLevels_39 (gc_isWk hk8 (fun hk3 => br_t rfl ?_) fun hk3 => br_f (by decide) ?_)
    · have hl : g < 215 := by
        rcases Nat.lt_or_ge g 215 with q | q
        · exact q
        · have q1 := (gc_St_g h q hg).1.1
          have q2 := (gc_St_g h q hg).2.1
          rw [hk] at q1
          have := (nI_eq (by omega) (by omega)).mp q1
          omega
      exact gc_fl104 h hg I hd h0 (fun z => absurd z (by omega)) K
    · have h215 : 215 ≤ g := by
        rcases Nat.lt_or_ge g 215 with q | q
        · have := hlow q; omega
        · exact q
      have kk : gc_k w u g = k := by unfold gc_k; rw [hk]; exact nI_clamp (by omega)
      have ni3 := (gc_ni_le k).1
      obtain ⟨p1, p2⟩ := h1 h215
      refine gc_inOf hk8 (pk_le (gc_ni k) i (fun q => ?_) fun q => ?_)
      · refine gc_fl104 h hg I hd h0 (fun _ => ?_) K
        rw [kk]
        refine ⟨fun i' hi' => p1 i' (by omega), fun e he => ?_⟩
        exact p2 e fun i' hi' => he i' (by omega)
      · have hin := gc_St_in h h215 hg i
        obtain ⟨⟨r1, r2⟩, _⟩ := I.1 _ hin
        rw [nI_add]
        refine gc_inpt (gc_St_co gc_le_co h) h215 (by rw [(gc_Co_n (@gc_le_co u l) w).1]; exact hg) (by omega) ?_
        rw [gc_Co_in (@gc_le_co u l), nI_add, nI_clamp (by omega), g4, r1]
        have iv : vp_in (nI (w * 2560 + gc_in w u g i)) 5120 := vp_in_nI (by omega) (by decide)
        refine ⟨iv, pk_lt (gc_lvl w l (gc_in w u g i)) d (fun z => nm_r (nI_1 i) (ih (i + 1) d (by omega) (by omega) hd h0 fun _ => ⟨fun i' hi' => ?_, fun e he => p2 e fun i' hi' => he i' (by omega)⟩)) fun z => ⟨iv, nm_r (nI_1 _) (nm_r (nI_1 i) (ih (i + 1) _ (by omega) (by omega) (by omega) (fun z => absurd z (by omega)) fun _ => ⟨fun i' hi' => ?_, fun e he => ?_⟩))⟩⟩
        · by_cases e : i' = i
          · rw [e]; exact z
          · exact p1 i' (by omega)
        · by_cases e : i' = i
          · rw [e]; omega
          · have := p1 i' (by omega); omega
        · have := he i (by omega); omega
def gc_LlO (w : Nat) (u : SX) (l : Nat → Int32) : Prop := gc_LlI w u l (gc_cn w u)
theorem gc_fLev {post : SX → Prop} {u : SX} {w : Nat} (hS : gc_St w u) (ci : qg_circuit u = nI w) (K : ∀ l, gc_LlO w u l → post (qs_level u l)) : wpX_findLevels post u := by
  have h1 := hS.1.1
  have h2 := hS.1.2.2.2
  have hc := hS.1.2.1
  have l11 : ∀ f g l, g ≤ gc_cn w u → gc_cn w u - g < f → gc_LlI w u l g → ux_findLevels_11 post (nI (w * 2560)) f (nI g) (qs_level u l) := by
    intro f
    induction f with
    | zero => intro i l _ h2; omega
    | succ f ih =>
      intro g l i1 i2 I
      obtain ⟨g1, g2, g3, g4⟩ := @gc_le_g u l
      refine uc_findLevels_11 ?_
      rw [g1, g2, g3, ci, nI_clamp (n := w) (by omega), hc, nI_add]
      refine ⟨vp_in_nI h1 (by decide), pk_le (gc_cn w u) g (fun q => ?_) fun q => ?_⟩
      · have e : g = gc_cn w u := by omega
        subst e
        exact K l I
      · rw [nI_clamp (by omega)]
        have kk : ∃ k, qg_kind u (w * 2560 + g) = nI k ∧ k < 8 ∧ (g < 215 → k < 3) := by
          rcases Nat.lt_or_ge g 215 with q | q
          · have := gc_St_k0 hS q
            exact ⟨_, this.1, by omega, fun _ => this.2⟩
          · have := gc_St_g hS q (by omega)
            exact ⟨_, this.1.1, by omega, fun _ => by omega⟩
        obtain ⟨k, k1, k2, k3⟩ := kk
        exact ⟨vp_in_nI (by omega) (by decide), nm_r k1 ⟨4, gc_fl39 hS (by omega) k1 k2 k3 I (fun l' I' => ih (g + 1) l' (by omega) (by omega) I') 4 0 0 (by omega) (by omega) (by omega) (fun _ => rfl) fun _ => ⟨fun i' hi' => absurd hi' (by omega), fun e _ => by omega⟩⟩⟩
  refine uc_findLevels (nm_r (e' := nI (w * 2560)) (by rw [ci]; exact gc_b0) ⟨gc_cn w u + 1, ?_⟩)
  have := l11 (gc_cn w u + 1) 0 (qg_level u) (by omega) (by omega) ⟨fun g hg => absurd hg (by omega), fun j _ => rfl⟩
  rw [gc_le_e] at this
  exact this
theorem gc_LlO_b {w : Nat} {u : SX} {l : Nat → Int32} {d : Nat} (h : gc_St w u) (I : gc_LlO w u l) (hA : gc_AL w u d) {g : Nat} (hg : g < gc_cn w u) : gc_lvl w l g ≤ d := by
  refine hA g hg (fun g => gc_lvl w l g) ⟨fun g hg => ?_, fun g h0 hg => ?_⟩
  · exact (I.1 g (by have := h.1.2.2.1; omega)).2.1 hg
  · obtain ⟨p1, p2⟩ := (I.1 g hg).2.2 h0
    have n1 := gc_ni_le (gc_k w u g)
    refine ⟨p1 0 (by omega), fun d l1 l2 l3 => p2 d fun i hi => ?_⟩
    show gc_lvl w l (gc_in w u g i) ≤ d
    unfold gc_in
    split
    · exact l1
    · split
      · exact l2
      · exact l3
end
section
/-! which gates have a gate as their input -/
def gc_ch (nx : Nat → Int32) : List Nat → Int32 → Prop
  | [], x => x = -1
  | f :: l, x => x = nI f ∧ gc_ch nx l (nx f)
theorem gc_ch_un {nx : Nat → Int32} {p : Nat} {v : Int32} : ∀ {l : List Nat} {x : Int32}, gc_ch nx l x → (∀ f, f ∈ l → f ≠ p) → gc_ch (upd nx p v) l x := by
  intro l
  induction l with
  | nil => exact fun h _ => h
  | cons f l ih =>
    intro x h hp
    refine ⟨h.1, ?_⟩
    rw [pk_un (hp f (List.mem_cons_self ..))]
    exact ih h.2 fun q hq => hp q (List.mem_cons_of_mem _ hq)
theorem gc_ch_cg {nx nx' : Nat → Int32} : ∀ {l : List Nat} {x : Int32}, gc_ch nx l x → (∀ f, f ∈ l → nx' f = nx f) → gc_ch nx' l x := by
  intro l
  induction l with
  | nil => exact fun h _ => h
  | cons f l ih =>
    intro x h hp
    refine ⟨h.1, ?_⟩
    rw [hp f (List.mem_cons_self ..)]
    exact ih h.2 fun q hq => hp q (List.mem_cons_of_mem _ hq)
theorem gc_ch_sh {nx : Nat → Int32} {l : List Nat} {x : Int32} {F : Nat} (h : gc_ch nx l x) (hl : ∀ f, f ∈ l → f < F) (hF : F ≤ 32768) : vp_nar .short x = x := by
  cases l with
  | nil => rw [show x = -1 from h]; exact gc_shm
  | cons f l => rw [h.1]; exact gc_sh' (by have := hl f (List.mem_cons_self ..); omega)
/-- a gate that is worked out and needed -/
def gc_Wk (w : Nat) (u : SX) (g : Nat) : Prop := 215 ≤ g ∧ g < gc_cn w u ∧ qg_live u (w * 2560 + g) ≠ 0
def gc_FnA (w : Nat) (u : SX) (F : Nat) (hd nx gt : Nat → Int32) (ls : Nat → List Nat) : Prop := ∀ s, s < 2560 → gc_ch nx (ls s) (hd (w * 2560 + s)) ∧ ∀ f, f ∈ ls s → f < F ∧ ∃ h, gt f = nI h ∧ gc_Wk w u h ∧ ∃ i, i < gc_ni (gc_k w u h) ∧ gc_in w u h i = s
def gc_FnB (w : Nat) (u : SX) (F : Nat) (hd nx gt : Nat → Int32) : Prop := qg_fans u = nI (qg_fans u).toNatClampNeg ∧ (qg_fans u).toNatClampNeg ≤ F ∧ (∀ f, f < (qg_fans u).toNatClampNeg → nx f = qg_fanNext u f ∧ gt f = qg_fanGate u f) ∧ ∀ j, (j < w * 2560 ∨ w * 2560 + 2560 ≤ j) → hd j = qg_fanHead u j
def gc_FnD (w : Nat) (u : SX) (gt : Nat → Int32) (ls : Nat → List Nat) (t : Nat) : Prop := ∀ h, h < t → gc_Wk w u h → ∀ i, i < gc_ni (gc_k w u h) → ∃ f, f ∈ ls (gc_in w u h i) ∧ gt f = nI h
theorem gc_fa_g {u : SX} {F : Int32} {hd nx gt : Nat → Int32} : (qg_circuit (qs_fans_fanHead_fanNext_fanGate u F hd nx gt) = qg_circuit u ∧ qg_counts (qs_fans_fanHead_fanNext_fanGate u F hd nx gt) = qg_counts u ∧ qg_kind (qs_fans_fanHead_fanNext_fanGate u F hd nx gt) = qg_kind u ∧ qg_live (qs_fans_fanHead_fanNext_fanGate u F hd nx gt) = qg_live u) ∧ qg_fans (qs_fans_fanHead_fanNext_fanGate u F hd nx gt) = F ∧ qg_fanHead (qs_fans_fanHead_fanNext_fanGate u F hd nx gt) = hd ∧ qg_fanNext (qs_fans_fanHead_fanNext_fanGate u F hd nx gt) = nx ∧ qg_fanGate (qs_fans_fanHead_fanNext_fanGate u F hd nx gt) = gt := ⟨⟨rfl, rfl, rfl, rfl⟩, rfl, rfl, rfl, rfl⟩
theorem gc_fa_s {u : SX} {F F' : Int32} {hd nx gt hd' nx' gt' : Nat → Int32} : qs_fans_fanHead_fanNext_fanGate (qs_fans_fanHead_fanNext_fanGate u F hd nx gt) F' hd' nx' gt' = qs_fans_fanHead_fanNext_fanGate u F' hd' nx' gt' := rfl
theorem gc_fa_co {u : SX} {F : Int32} {hd nx gt : Nat → Int32} : gc_Co u (qs_fans_fanHead_fanNext_fanGate u F hd nx gt) := ⟨rfl, rfl, rfl, rfl, rfl⟩
theorem gc_fa_h {u : SX} {hd : Nat → Int32} : qs_fanHead u hd = qs_fans_fanHead_fanNext_fanGate u (qg_fans u) hd (qg_fanNext u) (qg_fanGate u) := rfl
theorem gc_fh_g {u : SX} {hd : Nat → Int32} : qg_fanHead (qs_fanHead u hd) = hd := rfl
theorem gc_fh_s {u : SX} {hd hd' : Nat → Int32} : qs_fanHead (qs_fanHead u hd) hd' = qs_fanHead u hd' := rfl
theorem gc_fh_e {u : SX} : qs_fanHead u (qg_fanHead u) = u := rfl
theorem gc_ff60 {post : SX → Prop} {J : Int32 → SX → Prop} {u : SX} {w g k : Nat} (h : gc_St w u) (hg : g < gc_cn w u) (hk : qg_kind u (w * 2560 + g) = nI k) (hk8 : k < 8) (hlow : g < 215 → k < 3) (hF0 : (qg_fans u).toNatClampNeg ≤ 7680)
    (K : ∀ F hd nx gt ls, F ≤ (qg_fans u).toNatClampNeg + 3 * (g + 1) → gc_FnA w u F hd nx gt ls → gc_FnB w u F hd nx gt → gc_FnD w u gt ls (g + 1) → J (nI (g + 1)) (qs_fans_fanHead_fanNext_fanGate u (nI F) hd nx gt)) :
    ∀ f i F hd nx gt ls, i ≤ gc_ni k → 3 - i < f → F ≤ (qg_fans u).toNatClampNeg + 3 * g + i → gc_FnA w u F hd nx gt ls → gc_FnB w u F hd nx gt → gc_FnD w u gt ls g → (gc_Wk w u g → ∀ i', i' < i → ∃ f, f ∈ ls (gc_in w u g i') ∧ gt f = nI g) → ux_findFans_60 post J (nI (w * 2560)) (nI g) (nI k) f (nI i) (qs_fans_fanHead_fanNext_fanGate u (nI F) hd nx gt) := by
  have a1 := h.1.1
  have a2 := h.1.2.2.2
  have nik := (gc_ni_le k).1
  have kk : gc_k w u g = k := by unfold gc_k; rw [hk]; exact nI_clamp (by omega)
  have iv : vp_in (nI (w * 2560 + g)) 5120 := vp_in_nI (by omega) (by decide)
  intro f
  induction f with
  | zero => intro i F hd nx gt ls _ h2; omega
  | succ f ih =>
    intro i F hd nx gt ls i1 i2 hF A B D C
    obtain ⟨⟨g1, g2, g3, g4⟩, g5, g6, g7, g8⟩ := @gc_fa_g u (nI F) hd nx gt
    have fin : (gc_Wk w u g → gc_ni k ≤ i) → ∀ x : Int32, x = nI g + 1 → J x (qs_fans_fanHead_fanNext_fanGate u (nI F) hd nx gt) := by
      intro hw
      refine nm_r (nI_1 g) (K F hd nx gt ls (by omega) A B fun h' hh' wk i' hi' => ?_)
      by_cases e : h' = g
      · rw [e] at wk hi' ⊢
        rw [kk] at hi'
        exact C wk i' (by have := hw wk; omega)
      · exact D h' (by omega) wk i' hi'
    refine uc_findFans_60 ?_
    rw [nI_add, nI_clamp (by omega), g4, g5, g6, g7, g8]
    refine ⟨iv, br_c (fun z => fin fun wk => absurd z wk.2.2) fun z => ?_⟩
    refine gc_isWk hk8 (fun hk3 => br_t rfl (fin fun wk => ?_)) fun hk3 => br_f (by decide) ?_
    · have := (gc_St_g h wk.1 hg).2.1
      omega
    · have h215 : 215 ≤ g := by
        rcases Nat.lt_or_ge g 215 with q | q
        · have := hlow q; omega
        · exact q
      have wk : gc_Wk w u g := ⟨h215, hg, z⟩
      refine gc_inOf hk8 (pk_le (gc_ni k) i (fun q => fin fun _ => q) fun q => ?_)
      have hin := gc_St_in h h215 hg i
      refine gc_inpt (gc_St_co gc_fa_co h) h215 (by rw [(gc_Co_n (@gc_fa_co u (nI F) hd nx gt) w).1]; exact hg) (by omega) ?_
      rw [gc_Co_in (@gc_fa_co u (nI F) hd nx gt), nI_add, nI_clamp (n := F) (by omega), nI_clamp (n := w * 2560 + gc_in w u g i) (by omega), gc_sh (a := g) (by omega), gc_sh (a := F) (by omega)]
      obtain ⟨A1, A2⟩ := A (gc_in w u g i) (by omega)
      rw [gc_ch_sh A1 (fun f hf => (A2 f hf).1) (by omega)]
      have ivF : vp_in (nI F) 16384 := vp_in_nI (by omega) (by decide)
      have ivx : vp_in (nI (w * 2560 + gc_in w u g i)) 5120 := vp_in_nI (by omega) (by decide)
      refine ⟨ivF, nm_e ⟨ivx, ivF, nm_e ⟨ivx, nm_e (nm_r (nI_1 F) (nm_r (nI_1 i) ?_))⟩⟩⟩
      rw [gc_fa_s]
      obtain ⟨B1, B2, B3, B4⟩ := B
      refine ih (i + 1) (F + 1) _ _ _ (fun s => if s = gc_in w u g i then F :: ls s else ls s) (by omega) (by omega) (by omega) (fun s hs => ?_) ⟨B1, by omega, fun f hf => ?_, fun j hj => ?_⟩ (fun h' hh' wk' i' hi' => ?_) fun _ i' hi' => ?_
      · have gtf : ∀ f, f < F → upd gt F (nI g) f = gt f := fun f hf => pk_un (by omega)
        dsimp only
        by_cases e : s = gc_in w u g i
        · subst e
          rw [if_pos rfl]
          refine ⟨⟨pk_us, ?_⟩, fun f hf => ?_⟩
          · rw [pk_us]
            exact gc_ch_un A1 fun f hf => by have := (A2 f hf).1; omega
          · rcases List.mem_cons.mp hf with rfl | hf
            · exact ⟨by omega, g, pk_us, wk, i, by rw [kk]; exact q, rfl⟩
            · obtain ⟨q1, q2⟩ := A2 f hf
              rw [gtf f q1]
              exact ⟨by omega, q2⟩
        · rw [if_neg e]
          obtain ⟨A3, A4⟩ := A s hs
          refine ⟨?_, fun f hf => ?_⟩
          · rw [pk_un (by omega)]
            exact gc_ch_un A3 fun f hf => by have := (A4 f hf).1; omega
          · obtain ⟨q1, q2⟩ := A4 f hf
            rw [gtf f q1]
            exact ⟨by omega, q2⟩
      · rw [pk_un (by omega), pk_un (by omega)]; exact B3 f hf
      · rw [pk_un (by omega)]; exact B4 j hj
      · obtain ⟨f, f1, f2⟩ := D h' hh' wk' i' hi'
        have hin' := gc_St_in h wk'.1 wk'.2.1 i'
        have fl := ((A _ (by omega)).2 f f1).1
        refine ⟨f, ?_, by rw [pk_un (by omega)]; exact f2⟩
        show f ∈ (if gc_in w u h' i' = gc_in w u g i then F :: ls (gc_in w u h' i') else ls (gc_in w u h' i'))
        split
        · exact List.mem_cons_of_mem _ f1
        · exact f1
      · show ∃ f, f ∈ (if gc_in w u g i' = gc_in w u g i then F :: ls (gc_in w u g i') else ls (gc_in w u g i')) ∧ upd gt F (nI g) f = nI g
        by_cases e : i' = i
        · subst e
          rw [if_pos rfl]
          exact ⟨F, List.mem_cons_self .., pk_us⟩
        · obtain ⟨f, f1, f2⟩ := C wk i' (by omega)
          have hin' := gc_St_in h h215 hg i'
          have fl := ((A _ (by omega)).2 f f1).1
          refine ⟨f, ?_, by rw [pk_un (by omega)]; exact f2⟩
          split
          · exact List.mem_cons_of_mem _ f1
          · exact f1
def gc_FnO (w : Nat) (u : SX) (F : Nat) (hd nx gt : Nat → Int32) : Prop := F ≤ (qg_fans u).toNatClampNeg + 7680 ∧ gc_FnB w u F hd nx gt ∧ ∃ ls, gc_FnA w u F hd nx gt ls ∧ gc_FnD w u gt ls (gc_cn w u)
theorem gc_fFan {post : SX → Prop} {u : SX} {w : Nat} (hS : gc_St w u) (ci : qg_circuit u = nI w) (hF : qg_fans u = nI (qg_fans u).toNatClampNeg) (hF0 : (qg_fans u).toNatClampNeg ≤ 7680) (K : ∀ F hd nx gt, gc_FnO w u F hd nx gt → post (qs_fans_fanHead_fanNext_fanGate u (nI F) hd nx gt)) : wpX_findFans post u := by
  have h1 := hS.1.1
  have h2 := hS.1.2.2.2
  have hc := hS.1.2.1
  have l35 : ∀ f g F hd nx gt ls, g ≤ gc_cn w u → gc_cn w u - g < f → F ≤ (qg_fans u).toNatClampNeg + 3 * g → gc_FnA w u F hd nx gt ls → gc_FnB w u F hd nx gt → gc_FnD w u gt ls g → ux_findFans_35 post (nI (w * 2560)) f (nI g) (qs_fans_fanHead_fanNext_fanGate u (nI F) hd nx gt) := by
    intro f
    induction f with
    | zero => intro g F hd nx gt ls _ h2; omega
    | succ f ih =>
      intro g F hd nx gt ls i1 i2 hFF A B D
      obtain ⟨⟨g1, g2, g3, g4⟩, _⟩ := @gc_fa_g u (nI F) hd nx gt
      refine uc_findFans_35 ?_
      rw [g1, g2, g3, ci, nI_clamp (n := w) (by omega), hc, nI_add]
      refine ⟨vp_in_nI h1 (by decide), pk_le (gc_cn w u) g (fun q => ?_) fun q => ?_⟩
      · have e : g = gc_cn w u := by omega
        subst e
        exact K F hd nx gt ⟨by omega, B, ls, A, D⟩
      · rw [nI_clamp (by omega)]
        have kk : ∃ k, qg_kind u (w * 2560 + g) = nI k ∧ k < 8 ∧ (g < 215 → k < 3) := by
          rcases Nat.lt_or_ge g 215 with q | q
          · have := gc_St_k0 hS q
            exact ⟨_, this.1, by omega, fun _ => this.2⟩
          · have := gc_St_g hS q (by omega)
            exact ⟨_, this.1.1, by omega, fun _ => by omega⟩
        obtain ⟨k, k1, k2, k3⟩ := kk
        exact ⟨vp_in_nI (by omega) (by decide), nm_r k1 ⟨4, gc_ff60 hS (by omega) k1 k2 k3 hF0 (fun F' hd' nx' gt' ls' q1 q2 q3 q4 => ih (g + 1) F' hd' nx' gt' ls' (by omega) (by omega) q1 q2 q3 q4) 4 0 F hd nx gt ls (by omega) (by omega) (by omega) A B D fun _ i' hi' => absurd hi' (by omega)⟩⟩
  have l11 : ∀ f s hd, s ≤ 2560 → 2560 - s < f → (∀ s', s' < s → hd (w * 2560 + s') = -1) → (∀ j, (j < w * 2560 ∨ w * 2560 + 2560 ≤ j) → hd j = qg_fanHead u j) → ux_findFans_11 post (nI (w * 2560)) f (nI s) (qs_fanHead u hd) := by
    intro f
    induction f with
    | zero => intro s hd _ h2; omega
    | succ f ih =>
      intro s hd i1 i2 hh ho
      refine uc_findFans_11 (pk_le 2560 s (fun q => ⟨gc_cn w u + 1, ?_⟩) fun q => ?_)
      · rw [gc_fa_h, hF]
        exact l35 _ 0 _ hd _ _ (fun _ => []) (by omega) (by omega) (by omega) (fun s' hs' => ⟨hh s' (by omega), fun f hf => absurd hf (List.not_mem_nil)⟩) ⟨hF, Nat.le_refl _, fun f hf => ⟨rfl, rfl⟩, ho⟩ fun h' hh' => absurd hh' (by omega)
      · rw [gc_fh_g, gc_shm, nI_add, nI_clamp (by omega)]
        refine ⟨vp_in_nI (by omega) (by decide), nm_e (nm_r (nI_1 s) ?_)⟩
        rw [gc_fh_s]
        refine ih (s + 1) _ (by omega) (by omega) (fun s' hs' => ?_) fun j hj => ?_
        · by_cases e : s' = s
          · rw [e, pk_us]
          · rw [pk_un (by omega)]; exact hh s' (by omega)
        · rw [pk_un (by omega)]; exact ho j hj
  refine uc_findFans (nm_r (e' := nI (w * 2560)) (by rw [ci]; exact gc_b0) ⟨2561, ?_⟩)
  have := l11 2561 0 (qg_fanHead u) (by omega) (by omega) (fun s' hs' => absurd hs' (by omega)) fun j _ => rfl
  rw [gc_fh_e] at this
  exact this
end
section
/-! a finished circuit: all that its later use needs -/
def gc_Ci (w : Nat) (u : SX) (F : Nat) : Prop := gc_St w u ∧ gc_Sp w u ∧ gc_LvO w u (qg_live u) ∧ (gc_LlO w u (qg_level u) ∧ ∀ g, g < gc_cn w u → gc_lvl w (qg_level u) g ≤ 452) ∧ F ≤ 15360 ∧ ∃ ls, gc_FnA w u F (qg_fanHead u) (qg_fanNext u) (qg_fanGate u) ls ∧ gc_FnD w u (qg_fanGate u) ls (gc_cn w u)
/-- two states agree on circuit w -/
def gc_Ag (w F : Nat) (u v : SX) : Prop := qg_counts v w = qg_counts u w ∧ (∀ g, g < 2560 → (qg_kind v (w * 2560 + g) = qg_kind u (w * 2560 + g) ∧ qg_inA v (w * 2560 + g) = qg_inA u (w * 2560 + g) ∧ qg_inB v (w * 2560 + g) = qg_inB u (w * 2560 + g) ∧ qg_inC v (w * 2560 + g) = qg_inC u (w * 2560 + g)) ∧ qg_live v (w * 2560 + g) = qg_live u (w * 2560 + g) ∧ qg_level v (w * 2560 + g) = qg_level u (w * 2560 + g) ∧ qg_fanHead v (w * 2560 + g) = qg_fanHead u (w * 2560 + g)) ∧ ∀ f, f < F → qg_fanNext v f = qg_fanNext u f ∧ qg_fanGate v f = qg_fanGate u f
theorem gc_Ag_n {w F : Nat} {u v : SX} (h : gc_Ag w F u v) : gc_cn w v = gc_cn w u ∧ ∀ g, g < 2560 → gc_k w v g = gc_k w u g ∧ gc_a w v g = gc_a w u g ∧ gc_b w v g = gc_b w u g ∧ gc_c w v g = gc_c w u g ∧ ∀ i, gc_in w v g i = gc_in w u g i := by
  obtain ⟨h1, h2, _⟩ := h
  refine ⟨by unfold gc_cn; rw [h1], fun g hg => ?_⟩
  obtain ⟨⟨e1, e2, e3, e4⟩, _⟩ := h2 g hg
  have a1 : gc_a w v g = gc_a w u g := by unfold gc_a; rw [e2]
  have b1 : gc_b w v g = gc_b w u g := by unfold gc_b; rw [e3]
  have c1 : gc_c w v g = gc_c w u g := by unfold gc_c; rw [e4]
  exact ⟨by unfold gc_k; rw [e1], a1, b1, c1, fun i => by unfold gc_in; rw [a1, b1, c1]⟩
theorem gc_Ag_St {w F : Nat} {u v : SX} (h : gc_Ag w F u v) (s : gc_St w u) : gc_St w v := by
  obtain ⟨n1, n2⟩ := gc_Ag_n h
  obtain ⟨⟨s1, s2, s3, s4⟩, s5, s6, s7⟩ := s
  refine ⟨⟨s1, by rw [n1, h.1]; exact s2, by omega, by omega⟩, fun g hg => ?_, fun g h0 hg => ?_, fun i hi => ?_⟩
  · rw [(h.2.1 g (by omega)).1.1]; exact s5 g hg
  · obtain ⟨⟨e1, e2, e3, e4⟩, _⟩ := h.2.1 g (by omega)
    unfold gc_Gt
    rw [e1, e2, e3, e4]
    exact s6 g h0 (by omega)
  · rw [(h.2.1 (26 + i) (by omega)).1.2.1, n1]; exact s7 i hi
theorem gc_Ag_Cs {w F : Nat} {u v : SX} (h : gc_Ag w F u v) (s : gc_St w u) {V : Nat → Bool} (c : gc_Cs w v V) : gc_Cs w u V := by
  obtain ⟨n1, n2⟩ := gc_Ag_n h
  have s4 := s.1.2.2.2
  refine ⟨c.1, c.2.1, fun g h0 hg => ?_⟩
  obtain ⟨e1, e2, e3, e4, _⟩ := n2 g (by omega)
  have := c.2.2 g h0 (by omega)
  rw [e1, e2, e3, e4] at this
  exact this
theorem gc_Ag_Fl {w F i : Nat} {u v : SX} {q : (Nat → Bool) → Bool} (h : gc_Ag w F u v) (s : gc_St w u) (hi : i < 189) (f : gc_Fl w u i q) : gc_Fl w v i q := by
  obtain ⟨g, g1, g2, g3⟩ := f
  refine ⟨g, by rw [(h.2.1 (26 + i) (by omega)).1.2.1]; exact g1, by rw [(gc_Ag_n h).1]; exact g2, fun V hV => g3 V (gc_Ag_Cs h s hV)⟩
theorem gc_Ag_Sp {w F : Nat} {u v : SX} (h : gc_Ag w F u v) (s : gc_St w u) (p : gc_Sp w u) : gc_Sp w v := by
  obtain ⟨rn, c, O, L, R, Rs, Ad, p1, q1, q2, q3, q4, q5, q6, q7, q8, q9⟩ := p
  exact ⟨rn, c, O, L, R, Rs, Ad, fun V hV => p1 V (gc_Ag_Cs h s hV), fun r hr i hi => gc_Ag_Fl h s (by omega) (q1 r hr i hi), fun r hr i hi => gc_Ag_Fl h s (by omega) (q2 r hr i hi), gc_Ag_Fl h s (by omega) q3, gc_Ag_Fl h s (by omega) q4, fun j hj => gc_Ag_Fl h s (by omega) (q5 j hj), fun j hj => gc_Ag_Fl h s (by omega) (q6 j hj), fun j hj => gc_Ag_Fl h s (by omega) (q7 j hj), fun j hj => gc_Ag_Fl h s (by omega) (q8 j hj), gc_Ag_Fl h s (by omega) q9⟩
theorem gc_Ag_Wk {w F : Nat} {u v : SX} (h : gc_Ag w F u v) (s : gc_St w u) {g : Nat} : gc_Wk w v g ↔ gc_Wk w u g := by
  have s4 := s.1.2.2.2
  have n1 := (gc_Ag_n h).1
  unfold gc_Wk
  constructor
  · intro q
    have := q.2.1
    refine ⟨q.1, by omega, ?_⟩
    rw [← (h.2.1 g (by omega)).2.1]; exact q.2.2
  · intro q
    have := q.2.1
    refine ⟨q.1, by omega, ?_⟩
    rw [(h.2.1 g (by omega)).2.1]; exact q.2.2
theorem gc_Ci_ag {w F : Nat} {u v : SX} (h : gc_Ag w F u v) (c : gc_Ci w u F) : gc_Ci w v F := by
  obtain ⟨s, p, ⟨⟨l1, l2, l3⟩, l4⟩, ⟨⟨v1, v2⟩, v3⟩, f1, ls, f2, f3⟩ := c
  obtain ⟨n1, n2⟩ := gc_Ag_n h
  have s4 := s.1.2.2.2
  have lv : ∀ g, g < 2560 → gc_lvl w (qg_level v) g = gc_lvl w (qg_level u) g := fun g hg => by unfold gc_lvl; rw [(h.2.1 g hg).2.2.1]
  refine ⟨gc_Ag_St h s, gc_Ag_Sp h s p, ⟨⟨fun g hg => ?_, fun _ _ => rfl, fun g _ h0 hg hl i hi => ?_⟩, fun i hi => ?_⟩, ⟨⟨fun g hg => ?_, fun _ _ => rfl⟩, fun g hg => ?_⟩, f1, ls, fun x hx => ?_, fun x hx wk i hi => ?_⟩
  · rw [(h.2.1 g (by omega)).2.1]; exact l1 g (by omega)
  · have hin := gc_St_in s h0 (by omega) i
    obtain ⟨e1, _, _, _, e5⟩ := n2 g (by omega)
    rw [e5, (h.2.1 _ (by omega)).2.1]
    rw [(h.2.1 g (by omega)).2.1] at hl
    rw [e1] at hi
    exact l3 g (by omega) h0 (by omega) hl i hi
  · have := (gc_St_F s hi).2
    rw [(n2 (26 + i) (by omega)).2.1, (h.2.1 _ (by omega)).2.1]
    exact l4 i hi
  · obtain ⟨⟨q1, q2⟩, q3, q4⟩ := v1 g (by omega)
    obtain ⟨e1, _, _, _, e5⟩ := n2 g (by omega)
    unfold gc_Lg
    rw [lv g (by omega), (h.2.1 g (by omega)).2.2.1, e1]
    refine ⟨⟨q1, q2⟩, q3, fun z => ?_⟩
    have hin := gc_St_in s z (by omega)
    obtain ⟨p1, p2⟩ := q4 z
    refine ⟨fun i hi => ?_, fun d hd => p2 d fun i hi => ?_⟩
    · rw [e5, lv _ (by have := hin i; omega)]; exact p1 i hi
    · have := hd i hi
      rw [e5, lv _ (by have := hin i; omega)] at this
      exact this
  · rw [lv g (by omega)]; exact v3 g (by omega)
  · obtain ⟨q1, q2⟩ := f2 x hx
    rw [(h.2.1 x hx).2.2.2]
    refine ⟨gc_ch_cg q1 fun f hf => (h.2.2 f (q2 f hf).1).1, fun f hf => ?_⟩
    obtain ⟨r1, g, r2, r3, i, r4, r5⟩ := q2 f hf
    have := r3.2.1
    obtain ⟨e1, _, _, _, e5⟩ := n2 g (by omega)
    exact ⟨r1, g, by rw [(h.2.2 f r1).2]; exact r2, (gc_Ag_Wk h s).mpr r3, i, by rw [e1]; exact r4, by rw [e5]; exact r5⟩
  · have wk' := (gc_Ag_Wk h s).mp wk
    have := wk'.2.1
    obtain ⟨e1, _, _, _, e5⟩ := n2 x (by omega)
    rw [e1] at hi
    obtain ⟨f, r1, r2⟩ := f3 x (by omega) wk' i hi
    have hin := gc_St_in s wk'.1 (by omega) i
    have fl := ((f2 _ (by omega)).2 f r1).1
    exact ⟨f, by rw [e5]; exact r1, by rw [(h.2.2 f fl).2]; exact r2⟩
end
section
/-! the constructor -/
theorem gc_Cs_co {w : Nat} {u v : SX} {V : Nat → Bool} (c : gc_Co u v) (h : gc_Cs w v V) : gc_Cs w u V := by
  obtain ⟨n1, n2, n3, n4, n5⟩ := gc_Co_n c w
  unfold gc_Cs at h ⊢
  simp only [n1, n2, n3, n4, n5] at h
  exact h
theorem gc_Co_sy {u v : SX} (h : gc_Co u v) : gc_Co v u := ⟨h.1.symm, h.2.1.symm, h.2.2.1.symm, h.2.2.2.1.symm, h.2.2.2.2.symm⟩
theorem gc_Co_tr {u v x : SX} (h : gc_Co u v) (h' : gc_Co v x) : gc_Co u x := ⟨h'.1.trans h.1, h'.2.1.trans h.2.1, h'.2.2.1.trans h.2.2.1, h'.2.2.2.1.trans h.2.2.2.1, h'.2.2.2.2.trans h.2.2.2.2⟩
theorem gc_AL_co {w d : Nat} {u v : SX} (c : gc_Co u v) (h : gc_AL w u d) : gc_AL w v d := by
  obtain ⟨n1, n2, n3, n4, n5⟩ := gc_Co_n c w
  unfold gc_AL gc_GL gc_Lc
  simp only [n1, n3, n4, n5]
  exact h
theorem gc_Fl_co {w i : Nat} {u v : SX} {q : (Nat → Bool) → Bool} (c : gc_Co u v) (f : gc_Fl w u i q) : gc_Fl w v i q := by
  obtain ⟨g, g1, g2, g3⟩ := f
  exact ⟨g, by rw [c.2.2.1]; exact g1, by rw [(gc_Co_n c w).1]; exact g2, fun V hV => g3 V (gc_Cs_co c hV)⟩
theorem gc_Sp_co {w : Nat} {u v : SX} (h : gc_Co u v) (p : gc_Sp w u) : gc_Sp w v := by
  obtain ⟨rn, c, O, L, R, Rs, Ad, p1, q1, q2, q3, q4, q5, q6, q7, q8, q9⟩ := p
  exact ⟨rn, c, O, L, R, Rs, Ad, fun V hV => p1 V (gc_Cs_co h hV), fun r hr i hi => gc_Fl_co h (q1 r hr i hi), fun r hr i hi => gc_Fl_co h (q2 r hr i hi), gc_Fl_co h q3, gc_Fl_co h q4, fun j hj => gc_Fl_co h (q5 j hj), fun j hj => gc_Fl_co h (q6 j hj), fun j hj => gc_Fl_co h (q7 j hj), fun j hj => gc_Fl_co h (q8 j hj), gc_Fl_co h q9⟩
theorem gc_LvO_co {w : Nat} {u v : SX} {l : Nat → Int32} (c : gc_Co u v) (hl : qg_live v = l) (h : gc_LvO w u l) : gc_LvO w v (qg_live v) := by
  obtain ⟨n1, n2, n3, n4, n5⟩ := gc_Co_n c w
  have n6 := gc_Co_in c w
  obtain ⟨⟨h1, h2, h3⟩, h4⟩ := h
  rw [hl]
  refine ⟨⟨?_, fun j _ => by rw [hl], ?_⟩, ?_⟩
  · rw [n1]; exact h1
  · simp only [n1, n2, n6]; exact h3
  · simp only [n3]; exact h4
theorem gc_LlO_co {w : Nat} {u v : SX} {l : Nat → Int32} (c : gc_Co u v) (hl : qg_level v = l) (h : gc_LlO w u l) : gc_LlO w v (qg_level v) := by
  obtain ⟨n1, n2, n3, n4, n5⟩ := gc_Co_n c w
  have n6 := gc_Co_in c w
  obtain ⟨h1, h2⟩ := h
  rw [hl]
  unfold gc_LlO gc_LlI
  refine ⟨?_, fun j _ => by rw [hl]⟩
  unfold gc_Lg at h1 ⊢
  simp only [n1, n2, n6]; exact h1
def gc_Fr (u v : SX) : Prop := (qg_port v = qg_port u ∧ qg_words v = qg_words u ∧ qg_state v = qg_state u ∧ qg_fresh v = qg_fresh u ∧ qg_waits v = qg_waits u) ∧ qg_live v = qg_live u ∧ qg_level v = qg_level u ∧ qg_fans v = qg_fans u ∧ qg_fanHead v = qg_fanHead u ∧ qg_fanNext v = qg_fanNext u ∧ qg_fanGate v = qg_fanGate u
theorem gc_Fr_tr {u v x : SX} (h : gc_Fr u v) (h' : gc_Fr v x) : gc_Fr u x := by
  obtain ⟨⟨a1, a2, a3, a4, a5⟩, a6, a7, a8, a9, a10, a11⟩ := h
  obtain ⟨⟨b1, b2, b3, b4, b5⟩, b6, b7, b8, b9, b10, b11⟩ := h'
  exact ⟨⟨b1.trans a1, b2.trans a2, b3.trans a3, b4.trans a4, b5.trans a5⟩, b6.trans a6, b7.trans a7, b8.trans a8, b9.trans a9, b10.trans a10, b11.trans a11⟩
theorem gc_ef_f {u v : SX} (h : gc_ef v = gc_ef u) : gc_Fr u v ∧ qg_circuit v = qg_circuit u ∧ qg_tidy v = qg_tidy u ∧ qg_value v = qg_value u := by
  refine ⟨⟨⟨?_, ?_, ?_, ?_, ?_⟩, ?_, ?_, ?_, ?_, ?_, ?_⟩, ?_, ?_, ?_⟩
  · have e := congrArg qg_port h; exact e
  · have e := congrArg qg_words h; exact e
  · have e := congrArg qg_state h; exact e
  · have e := congrArg qg_fresh h; exact e
  · have e := congrArg qg_waits h; exact e
  · have e := congrArg qg_live h; exact e
  · have e := congrArg qg_level h; exact e
  · have e := congrArg qg_fans h; exact e
  · have e := congrArg qg_fanHead h; exact e
  · have e := congrArg qg_fanNext h; exact e
  · have e := congrArg qg_fanGate h; exact e
  · have e := congrArg qg_circuit h; exact e
  · have e := congrArg qg_tidy h; exact e
  · have e := congrArg qg_value h; exact e
def gc_BeI (w : Nat) (u v : SX) (c : Nat) : Prop := (qg_circuit v = nI w ∧ qg_tidy v = nI w ∧ qg_wires v = 0 ∧ qg_counts v w = nI c) ∧ (∀ j, j ≠ w → qg_counts v j = qg_counts u j) ∧ (∀ m, m < 1024 → qg_hashHead v m = -1) ∧ (∀ g, g < c → qg_kind v (w * 2560 + g) = nI (gc_k0 g) ∧ qg_inA v (w * 2560 + g) = 0) ∧ (∀ j, (j < w * 2560 ∨ w * 2560 + 2560 ≤ j) → qg_kind v j = qg_kind u j ∧ qg_inA v j = qg_inA u j ∧ qg_inB v j = qg_inB u j ∧ qg_inC v j = qg_inC u j) ∧ gc_Fr u v
theorem gc_ad_F {v : SX} {a b c d e : Nat → Int32} : gc_Fr v (qs_counts_kind_inA_inB_inC v a b c d e) ∧ qg_circuit (qs_counts_kind_inA_inB_inC v a b c d e) = qg_circuit v ∧ qg_tidy (qs_counts_kind_inA_inB_inC v a b c d e) = qg_tidy v ∧ qg_wires (qs_counts_kind_inA_inB_inC v a b c d e) = qg_wires v ∧ qg_value (qs_counts_kind_inA_inB_inC v a b c d e) = qg_value v := ⟨⟨⟨rfl, rfl, rfl, rfl, rfl⟩, rfl, rfl, rfl, rfl, rfl, rfl⟩, rfl, rfl, rfl, rfl⟩
theorem gc_Be_ad {w c : Nat} {u v : SX} (h : gc_BeI w u v c) (hc : c < 215) : gc_BeI w u (gc_ad w v c (gc_k0 c) 0 0 0) (c + 1) ∧ qg_value (gc_ad w v c (gc_k0 c) 0 0 0) = qg_value v := by
  unfold gc_ad
  have A := @gc_ad_F v (upd (qg_counts v) w (nI (c + 1))) (upd (qg_kind v) (w * 2560 + c) (nI (gc_k0 c))) (upd (qg_inA v) (w * 2560 + c) (nI 0)) (upd (qg_inB v) (w * 2560 + c) (nI 0)) (upd (qg_inC v) (w * 2560 + c) (nI 0))
  have B := @gc_ad_g v (upd (qg_counts v) w (nI (c + 1))) (upd (qg_kind v) (w * 2560 + c) (nI (gc_k0 c))) (upd (qg_inA v) (w * 2560 + c) (nI 0)) (upd (qg_inB v) (w * 2560 + c) (nI 0)) (upd (qg_inC v) (w * 2560 + c) (nI 0))
  generalize qs_counts_kind_inA_inB_inC v (upd (qg_counts v) w (nI (c + 1))) (upd (qg_kind v) (w * 2560 + c) (nI (gc_k0 c))) (upd (qg_inA v) (w * 2560 + c) (nI 0)) (upd (qg_inB v) (w * 2560 + c) (nI 0)) (upd (qg_inC v) (w * 2560 + c) (nI 0)) = x at A B ⊢
  obtain ⟨A1, A2, A3, A4, A5⟩ := A
  obtain ⟨B1, B2, B3, B4, B5, B6, B7⟩ := B
  obtain ⟨⟨h1, h2, h3, h4⟩, h5, h6, h7, h8, h9⟩ := h
  refine ⟨⟨⟨A2.trans h1, A3.trans h2, A4.trans h3, by rw [B1, pk_us]⟩, fun j hj => by rw [B1, pk_un hj]; exact h5 j hj, fun m hm => by rw [B6]; exact h6 m hm, fun g hg => ?_, fun j hj => ?_, gc_Fr_tr h9 A1⟩, A5⟩
  · rw [B2, B3]
    by_cases e : g = c
    · rw [e, pk_us, pk_us]; exact ⟨rfl, rfl⟩
    · rw [pk_un (by omega), pk_un (by omega)]; exact h7 g (by omega)
  · rw [B2, B3, B4, B5, pk_un (by omega), pk_un (by omega), pk_un (by omega), pk_un (by omega)]
    exact h8 j hj
theorem gc_va_F {v : SX} {a : Nat → Int32} : (gc_Fr v (qs_value v a) ∧ qg_circuit (qs_value v a) = qg_circuit v ∧ qg_tidy (qs_value v a) = qg_tidy v ∧ qg_wires (qs_value v a) = qg_wires v) ∧ (qg_counts (qs_value v a) = qg_counts v ∧ qg_kind (qs_value v a) = qg_kind v ∧ qg_inA (qs_value v a) = qg_inA v ∧ qg_inB (qs_value v a) = qg_inB v ∧ qg_inC (qs_value v a) = qg_inC v ∧ qg_hashHead (qs_value v a) = qg_hashHead v) ∧ qg_value (qs_value v a) = a := ⟨⟨⟨⟨rfl, rfl, rfl, rfl, rfl⟩, rfl, rfl, rfl, rfl, rfl, rfl⟩, rfl, rfl, rfl⟩, ⟨rfl, rfl, rfl, rfl, rfl, rfl⟩, rfl⟩
theorem gc_Be_va {w c : Nat} {u v : SX} {a : Nat → Int32} (h : gc_BeI w u v c) : gc_BeI w u (qs_value v a) c := by
  have A := @gc_va_F v a
  generalize qs_value v a = x at A ⊢
  obtain ⟨⟨A1, A2, A3, A4⟩, ⟨B1, B2, B3, B4, B5, B6⟩, _⟩ := A
  obtain ⟨⟨h1, h2, h3, h4⟩, h5, h6, h7, h8, h9⟩ := h
  refine ⟨⟨A2.trans h1, A3.trans h2, A4.trans h3, by rw [B1]; exact h4⟩, fun j hj => by rw [B1]; exact h5 j hj, fun m hm => by rw [B6]; exact h6 m hm, fun g hg => by rw [B2, B3]; exact h7 g hg, fun j hj => by rw [B2, B3, B4, B5]; exact h8 j hj, gc_Fr_tr h9 A1⟩
theorem gc_Be_WF {w : Nat} {u v : SX} (hw : w < 2) (h : gc_BeI w u v 215) : gc_WF w v ∧ gc_W v = 0 ∧ gc_cn w v = 215 := by
  obtain ⟨⟨h1, h2, h3, h4⟩, h5, h6, h7, h8, h9⟩ := h
  have c : gc_cn w v = 215 := by unfold gc_cn; rw [h4]; rfl
  have W : gc_W v = 0 := by unfold gc_W; rw [h3]; rfl
  refine ⟨⟨⟨hw, h1, h2, by rw [c]; exact h4, by omega, by omega, by rw [W]; exact h3, by omega⟩, fun g hg => (h7 g hg).1, fun g h0 hg => absurd hg (by omega), fun i hi => ⟨0, (h7 (26 + i) (by omega)).2, by omega⟩, fun _ => ⟨fun m hm => Or.inl (h6 m hm), fun g h0 hg => absurd hg (by omega)⟩⟩, W, c⟩
theorem gc_wc_F {u : SX} {a : Int32} {b : Nat → Int32} : (gc_Fr u (qs_wires_counts u a b) ∧ qg_circuit (qs_wires_counts u a b) = qg_circuit u ∧ qg_tidy (qs_wires_counts u a b) = qg_tidy u ∧ qg_value (qs_wires_counts u a b) = qg_value u) ∧ (qg_kind (qs_wires_counts u a b) = qg_kind u ∧ qg_inA (qs_wires_counts u a b) = qg_inA u ∧ qg_inB (qs_wires_counts u a b) = qg_inB u ∧ qg_inC (qs_wires_counts u a b) = qg_inC u) ∧ qg_wires (qs_wires_counts u a b) = a ∧ qg_counts (qs_wires_counts u a b) = b := ⟨⟨⟨⟨rfl, rfl, rfl, rfl, rfl⟩, rfl, rfl, rfl, rfl, rfl, rfl⟩, rfl, rfl, rfl⟩, ⟨rfl, rfl, rfl, rfl⟩, rfl, rfl⟩
theorem gc_hh_F {u : SX} {a : Nat → Int32} : (gc_Fr u (qs_hashHead u a) ∧ qg_circuit (qs_hashHead u a) = qg_circuit u ∧ qg_tidy (qs_hashHead u a) = qg_tidy u ∧ qg_value (qs_hashHead u a) = qg_value u ∧ qg_wires (qs_hashHead u a) = qg_wires u) ∧ (qg_counts (qs_hashHead u a) = qg_counts u ∧ qg_kind (qs_hashHead u a) = qg_kind u ∧ qg_inA (qs_hashHead u a) = qg_inA u ∧ qg_inB (qs_hashHead u a) = qg_inB u ∧ qg_inC (qs_hashHead u a) = qg_inC u) ∧ qg_hashHead (qs_hashHead u a) = a := ⟨⟨⟨⟨rfl, rfl, rfl, rfl, rfl⟩, rfl, rfl, rfl, rfl, rfl, rfl⟩, rfl, rfl, rfl, rfl⟩, ⟨rfl, rfl, rfl, rfl, rfl⟩, rfl⟩
theorem gc_hh_s {u : SX} {a b : Nat → Int32} : qs_hashHead (qs_hashHead u a) b = qs_hashHead u b := rfl
theorem gc_hh_e {u : SX} : qs_hashHead u (qg_hashHead u) = u := rfl
theorem gc_vby1 : vp_nar .byte 1 = 1 := by rw [vp_nar_byte]; decide
theorem gc_vby0 : vp_nar .byte 0 = 0 := by rw [vp_nar_byte]; decide
theorem gc_beg {post : SX → Prop} {u : SX} {w : Nat} (hw : w < 2) (ci : qg_circuit u = nI w) (ti : qg_tidy u = nI w)
    (K : ∀ v, gc_BeI w u v 215 → (∀ j, qg_value v j = if j = w * 2560 + 1 then 1 else qg_value u j) → post v) : wpX_begin post u := by
  have l96 : ∀ f i v, i ≤ 189 → 189 - i < f → gc_BeI w u v (26 + i) → (∀ j, qg_value v j = if j = w * 2560 + 1 then 1 else qg_value u j) → ux_begin_96 post f (nI i) v := by
    intro f
    induction f with
    | zero => intro i v _ h2; omega
    | succ f ih =>
      intro i v i1 i2 I hv
      refine uc_begin_96 (pk_le 189 i (fun q => ?_) fun q => ?_)
      · have e : i = 189 := by omega
        subst e
        exact K v I hv
      · obtain ⟨I2, v2⟩ := gc_Be_ad I (by omega)
        have ek : gc_k0 (26 + i) = 2 := by unfold gc_k0; rw [if_neg (by omega), if_neg (by omega)]
        rw [ek] at I2 v2
        refine gc_add (k := 2) (a := 0) (b := 0) (e := 0) hw I.1.1 I.1.2.2.2 (by omega) (by omega) (by omega) (by omega) (by omega) (nm_r (nI_1 i) (ih (i + 1) _ (by omega) (by omega) I2 fun j => ?_))
        rw [v2]; exact hv j
  have l73 : ∀ f i v, 2 ≤ i → i ≤ 26 → 26 - i < f → gc_BeI w u v i → (∀ j, qg_value v j = if j = w * 2560 + 1 then 1 else qg_value u j) → ux_begin_73 post f (nI i) v := by
    intro f
    induction f with
    | zero => intro i v _ _ h2; omega
    | succ f ih =>
      intro i v i0 i1 i2 I hv
      refine uc_begin_73 (pk_le 26 i (fun q => ⟨190, ?_⟩) fun q => ?_)
      · have e : i = 26 := by omega
        subst e
        exact l96 190 0 v (by omega) (by omega) I hv
      · obtain ⟨I2, v2⟩ := gc_Be_ad I (by omega)
        have ek : gc_k0 i = 1 := by unfold gc_k0; rw [if_neg (by omega), if_pos q]
        rw [ek] at I2 v2
        refine gc_add (k := 1) (a := 0) (b := 0) (e := 0) hw I.1.1 I.1.2.2.2 (by omega) (by omega) (by omega) (by omega) (by omega) (nm_r (nI_1 i) (ih (i + 1) _ (by omega) (by omega) (by omega) I2 fun j => ?_))
        rw [v2]; exact hv j
  have ec : (qg_circuit u).toNatClampNeg = w := by rw [ci]; exact nI_clamp (by omega)
  have A := @gc_wc_F u 0 (upd (qg_counts u) w 0)
  have l17 : ∀ f i a, i ≤ 1024 → 1024 - i < f → (∀ m, m < i → a m = -1) → ux_begin_17 post f (nI i) (qs_hashHead (qs_wires_counts u 0 (upd (qg_counts u) w 0)) a) := by
    generalize qs_wires_counts u 0 (upd (qg_counts u) w 0) = x at A ⊢
    obtain ⟨⟨A1, A2, A3, A4⟩, ⟨B1, B2, B3, B4⟩, C1, C2⟩ := A
    intro f
    induction f with
    | zero => intro i a _ h2; omega
    | succ f ih =>
      intro i a i1 i2 ha
      refine uc_begin_17 (pk_le 1024 i (fun q => ?_) fun q => ?_)
      · have e : i = 1024 := by omega
        subst e
        have D := @gc_hh_F x a
        generalize qs_hashHead x a = y at D ⊢
        obtain ⟨⟨D1, D2, D3, D4, D5⟩, ⟨E1, E2, E3, E4, E5⟩, F1⟩ := D
        have I0 : gc_BeI w u y 0 := ⟨⟨D2.trans (A2.trans ci), D3.trans (A3.trans ti), D5.trans C1, by rw [E1, C2, pk_us]; rfl⟩, fun j hj => by rw [E1, C2, pk_un hj], fun m hm => by rw [F1]; exact ha m hm, fun g hg => absurd hg (by omega), fun j _ => by rw [E2, E3, E4, E5, B1, B2, B3, B4]; exact ⟨rfl, rfl, rfl, rfl⟩, gc_Fr_tr A1 D1⟩
        have vy : qg_value y = qg_value u := D4.trans A4
        obtain ⟨I1, v1⟩ := gc_Be_ad I0 (by omega)
        have e0 : gc_k0 0 = 0 := rfl
        have e1 : gc_k0 1 = 0 := rfl
        rw [e0] at I1 v1
        refine gc_add (k := 0) (a := 0) (b := 0) (e := 0) hw I0.1.1 I0.1.2.2.2 (by omega) (by omega) (by omega) (by omega) (by omega) ?_
        generalize gc_ad w y 0 0 0 0 0 = y1 at I1 v1 ⊢
        obtain ⟨I2, v2⟩ := gc_Be_ad I1 (by omega)
        rw [e1] at I2 v2
        refine gc_add (c := 0 + 1) (k := 0) (a := 0) (b := 0) (e := 0) hw I1.1.1 I1.1.2.2.2 (by omega) (by omega) (by omega) (by omega) (by omega) ?_
        generalize gc_ad w y1 (0 + 1) 0 0 0 0 = y2 at I2 v2 ⊢
        have ei : qg_circuit y2 * 2560 + 1 = nI (w * 2560 + 1) := by rw [I2.1.1]; exact gc_bs (g := 1)
        rw [ei, nI_clamp (by omega), gc_vby1]
        refine ⟨vp_in_nI (by omega) (by decide), nm_e ⟨25, ?_⟩⟩
        refine l73 25 2 _ (by omega) (by omega) (by omega) (gc_Be_va I2) fun j => ?_
        rw [(@gc_va_F y2 _).2.2, v2, v1, vy]
        rfl
      · rw [(@gc_hh_F x a).2.2, gc_shm, nI_clamp (by omega)]
        refine ⟨vp_in_nI (by omega) (by decide), nm_e (nm_r (nI_1 i) ?_)⟩
        rw [gc_hh_s]
        refine ih (i + 1) _ (by omega) (by omega) fun m hm => ?_
        by_cases e : m = i
        · rw [e, pk_us]
        · rw [pk_un e]; exact ha m (by omega)
  refine uc_begin ?_
  rw [ec]
  refine ⟨by rw [ci]; exact vp_in_nI hw (by decide), nm_e ⟨1025, ?_⟩⟩
  have := l17 1025 0 (qg_hashHead (qs_wires_counts u 0 (upd (qg_counts u) w 0))) (by omega) (by omega) fun m hm => absurd hm (by omega)
  rw [gc_hh_e] at this
  exact this
end
section
/-! both circuits are built -/
theorem gc_lv_F {u : SX} {l : Nat → Int32} : (qg_port (qs_live u l) = qg_port u ∧ qg_words (qs_live u l) = qg_words u ∧ qg_state (qs_live u l) = qg_state u ∧ qg_fresh (qs_live u l) = qg_fresh u ∧ qg_waits (qs_live u l) = qg_waits u) ∧ qg_level (qs_live u l) = qg_level u ∧ qg_fans (qs_live u l) = qg_fans u ∧ qg_fanHead (qs_live u l) = qg_fanHead u ∧ qg_fanNext (qs_live u l) = qg_fanNext u ∧ qg_fanGate (qs_live u l) = qg_fanGate u ∧ qg_value (qs_live u l) = qg_value u := ⟨⟨rfl, rfl, rfl, rfl, rfl⟩, rfl, rfl, rfl, rfl, rfl, rfl⟩
theorem gc_le_F {u : SX} {l : Nat → Int32} : (qg_port (qs_level u l) = qg_port u ∧ qg_words (qs_level u l) = qg_words u ∧ qg_state (qs_level u l) = qg_state u ∧ qg_fresh (qs_level u l) = qg_fresh u ∧ qg_waits (qs_level u l) = qg_waits u) ∧ qg_live (qs_level u l) = qg_live u ∧ qg_fans (qs_level u l) = qg_fans u ∧ qg_fanHead (qs_level u l) = qg_fanHead u ∧ qg_fanNext (qs_level u l) = qg_fanNext u ∧ qg_fanGate (qs_level u l) = qg_fanGate u ∧ qg_value (qs_level u l) = qg_value u := ⟨⟨rfl, rfl, rfl, rfl, rfl⟩, rfl, rfl, rfl, rfl, rfl, rfl⟩
theorem gc_fa_F {u : SX} {F : Int32} {a b c : Nat → Int32} : (qg_port (qs_fans_fanHead_fanNext_fanGate u F a b c) = qg_port u ∧ qg_words (qs_fans_fanHead_fanNext_fanGate u F a b c) = qg_words u ∧ qg_state (qs_fans_fanHead_fanNext_fanGate u F a b c) = qg_state u ∧ qg_fresh (qs_fans_fanHead_fanNext_fanGate u F a b c) = qg_fresh u ∧ qg_waits (qs_fans_fanHead_fanNext_fanGate u F a b c) = qg_waits u) ∧ qg_live (qs_fans_fanHead_fanNext_fanGate u F a b c) = qg_live u ∧ qg_level (qs_fans_fanHead_fanNext_fanGate u F a b c) = qg_level u ∧ qg_value (qs_fans_fanHead_fanNext_fanGate u F a b c) = qg_value u := ⟨⟨rfl, rfl, rfl, rfl, rfl⟩, rfl, rfl, rfl⟩
theorem gc_FnA_co {w F : Nat} {u v : SX} {hd nx gt : Nat → Int32} {ls : Nat → List Nat} (c : gc_Co u v) (hl : qg_live v = qg_live u) (h : gc_FnA w u F hd nx gt ls) : gc_FnA w v F hd nx gt ls := by
  obtain ⟨n1, n2, n3, n4, n5⟩ := gc_Co_n c w
  have n6 := gc_Co_in c w
  unfold gc_FnA gc_Wk at h ⊢
  simp only [n1, n2, n6, hl]
  exact h
theorem gc_FnD_co {w t : Nat} {u v : SX} {gt : Nat → Int32} {ls : Nat → List Nat} (c : gc_Co u v) (hl : qg_live v = qg_live u) (h : gc_FnD w u gt ls t) : gc_FnD w v gt ls t := by
  obtain ⟨n1, n2, n3, n4, n5⟩ := gc_Co_n c w
  have n6 := gc_Co_in c w
  unfold gc_FnD gc_Wk at h ⊢
  simp only [n1, n2, n6, hl]
  exact h
theorem gc_build {post : SX → Prop} {u : SX} {w F0 : Nat} (hw : w < 2) (ci : qg_circuit u = nI w) (ti : qg_tidy u = nI w) (hF : qg_fans u = nI F0) (hF0 : F0 ≤ 7680)
    (K : ∀ v F, gc_Ci w v F → qg_fans v = nI F → F0 ≤ F → F ≤ F0 + 7680 → (∀ w', w' < 2 → w' ≠ w → gc_Ag w' F0 u v) → (qg_port v = qg_port u ∧ qg_words v = qg_words u ∧ qg_state v = qg_state u ∧ qg_fresh v = qg_fresh u ∧ qg_waits v = qg_waits u) → (∀ j, qg_value v j = if j = w * 2560 + 1 then 1 else qg_value u j) → post v) :
    wpX_begin (fun u => wpX_layOut (fun u => wpX_markLive (fun u => wpX_findLevels (fun u => wpX_findFans (fun u => post u) u) u) u) u) u := by
  refine gc_beg hw ci ti fun v1 I1 e1 => ?_
  obtain ⟨WF1, W1, c1⟩ := gc_Be_WF hw I1
  refine gc_lay WF1 W1 c1 fun v2 WF2 Ex2 AL2 Sp2 => ?_
  obtain ⟨Fr2, ci2, ti2, va2⟩ := gc_ef_f Ex2.1
  have FrA := gc_Fr_tr I1.2.2.2.2.2 Fr2
  have AL2' : gc_AL w v2 452 := by
    have := AL2 0 fun g hg => gc_GL0 (by omega)
    rw [Nat.zero_add] at this
    exact this
  have St2 := gc_St_wf WF2
  refine gc_mLive WF2 fun l3 L3 => ?_
  have Co3 := @gc_lv_co v2 l3
  obtain ⟨q1, _, _, _, _, _, _, q8⟩ := @gc_lv_g v2 l3
  obtain ⟨⟨r1, r2, r3, r4, r5⟩, r6, r7, r8, r9, r10, r11⟩ := @gc_lv_F v2 l3
  generalize qs_live v2 l3 = v3 at Co3 q1 q8 r1 r2 r3 r4 r5 r6 r7 r8 r9 r10 r11 ⊢
  have St3 := gc_St_co Co3 St2
  refine gc_fLev St3 (q1.trans (ci2.trans I1.1.1)) fun l4 L4 => ?_
  have b4 := fun g (hg : g < gc_cn w v3) => gc_LlO_b St3 L4 (gc_AL_co Co3 AL2') hg
  have Co4 := @gc_le_co v3 l4
  obtain ⟨s1, _, _, s4⟩ := @gc_le_g v3 l4
  obtain ⟨⟨t1, t2, t3, t4, t5⟩, t6, t7, t8, t9, t10, t11⟩ := @gc_le_F v3 l4
  generalize qs_level v3 l4 = v4 at Co4 s1 s4 t1 t2 t3 t4 t5 t6 t7 t8 t9 t10 t11 ⊢
  have St4 := gc_St_co Co4 St3
  have fu := FrA.2.2.2.1
  have F4 : qg_fans v4 = nI F0 := t7.trans (r7.trans (fu.trans hF))
  have F4n : (qg_fans v4).toNatClampNeg = F0 := by rw [F4]; exact nI_clamp (by omega)
  refine gc_fFan St4 (s1.trans (q1.trans (ci2.trans I1.1.1))) (by rw [F4n]; exact F4) (by omega) fun F hd nx gt FO => ?_
  have Co5 := @gc_fa_co v4 (nI F) hd nx gt
  obtain ⟨_, x2, x3, x4, x5⟩ := @gc_fa_g v4 (nI F) hd nx gt
  obtain ⟨⟨y1, y2, y3, y4, y5⟩, y6, y7, y8⟩ := @gc_fa_F v4 (nI F) hd nx gt
  generalize qs_fans_fanHead_fanNext_fanGate v4 (nI F) hd nx gt = v5 at Co5 x2 x3 x4 x5 y1 y2 y3 y4 y5 y6 y7 y8 ⊢
  obtain ⟨o1, ⟨o2, o3, o4, o5⟩, ls, o6, o7⟩ := FO
  rw [F4n] at o1 o3 o4
  have Co35 := gc_Co_tr Co4 Co5
  have Co25 := gc_Co_tr Co3 Co35
  have Co45n := (gc_Co_n Co5 w).1
  have Co35n := (gc_Co_n Co35 w).1
  have lv5 : qg_level v5 = l4 := y7.trans s4
  have li5 : qg_live v5 = l3 := y6.trans (t6.trans q8)
  have C : gc_Ci w v5 F := by
    refine ⟨gc_St_co Co5 St4, gc_Sp_co Co25 Sp2, gc_LvO_co Co25 li5 L3, ⟨gc_LlO_co Co35 lv5 L4, fun g hg => ?_⟩, by omega, ls, ?_, ?_⟩
    · rw [lv5]; exact b4 g (by omega)
    · rw [x3, x4, x5]; exact gc_FnA_co Co5 y6 o6
    · rw [x5, Co45n]; exact gc_FnD_co Co5 y6 o7
  refine K v5 F C x2 o3 o1 (fun w' hw' hne => ?_) ⟨y1.trans (t1.trans (r1.trans FrA.1.1)), y2.trans (t2.trans (r2.trans FrA.1.2.1)), y3.trans (t3.trans (r3.trans FrA.1.2.2.1)), y4.trans (t4.trans (r4.trans FrA.1.2.2.2.1)), y5.trans (t5.trans (r5.trans FrA.1.2.2.2.2))⟩ fun j => ?_
  · have hout : ∀ g, g < 2560 → (w' * 2560 + g < w * 2560 ∨ w * 2560 + 2560 ≤ w' * 2560 + g) := fun g hg => by
      have : w' = 0 ∧ w = 1 ∨ w' = 1 ∧ w = 0 := by omega
      rcases this with ⟨p1, p2⟩ | ⟨p1, p2⟩ <;> subst p1 <;> subst p2 <;> omega
    refine ⟨?_, fun g hg => ⟨?_, ?_, ?_, ?_⟩, fun f hf => ⟨?_, ?_⟩⟩
    · rw [Co25.1, Ex2.2.2.2.1 w' hne]; exact I1.2.1 w' hne
    · have ho := hout g hg
      obtain ⟨k1, k2, k3, k4⟩ := I1.2.2.2.2.1 _ ho
      obtain ⟨⟨p1, p2, p3⟩, p4⟩ := Ex2.2.2.2.2.2 (w' * 2560 + g) (by omega)
      rw [Co25.2.1, Co25.2.2.1, Co25.2.2.2.1, Co25.2.2.2.2, p1, p4 (by omega), p2, p3]
      exact ⟨k1, k2, k3, k4⟩
    · rw [li5, L3.1.2.1 _ (hout g hg)]; exact congrFun FrA.2.1 _
    · rw [lv5, L4.2 _ (hout g hg), r6]; exact congrFun FrA.2.2.1 _
    · rw [x3, o5 _ (hout g hg), t8, r8]; exact congrFun FrA.2.2.2.2.1 _
    · rw [x4, (o4 f hf).1, t9, r9]; exact congrFun FrA.2.2.2.2.2.1 _
    · rw [x5, (o4 f hf).2, t10, r10]; exact congrFun FrA.2.2.2.2.2.2 _
  · rw [y8, t11, r11, va2]; exact e1 j
end
section
/-! the object between calls; working one gate out, working all out -/
def gc_bv (w : Nat) (u : SX) (g : Nat) : Bool := decide (qg_value u (w * 2560 + g) = 1)
def gc_b2 (b : Bool) : Int32 := if b then 1 else 0
/-- gate g has the value that its inputs give -/
def gc_Cg (w : Nat) (u : SX) (g : Nat) : Prop := qg_value u (w * 2560 + g) = gc_b2 (gc_op (gc_k w u g) (gc_bv w u (gc_a w u g)) (gc_bv w u (gc_b w u g)) (gc_bv w u (gc_c w u g)))
def gc_VL (u : SX) : Prop := ∀ j, j < 5120 → qg_value u j = 0 ∨ qg_value u j = 1
def gc_Sx (u v : SX) : Prop := gc_Co u v ∧ (qg_live v = qg_live u ∧ qg_level v = qg_level u ∧ qg_fanHead v = qg_fanHead u ∧ qg_fanNext v = qg_fanNext u ∧ qg_fanGate v = qg_fanGate u) ∧ qg_words v = qg_words u ∧ qg_port v = qg_port u
def gc_Sy (u v : SX) : Prop := gc_Sx u v ∧ qg_circuit v = qg_circuit u ∧ qg_state v = qg_state u ∧ qg_fresh v = qg_fresh u
theorem gc_Sx_rf {u : SX} : gc_Sx u u := ⟨⟨rfl, rfl, rfl, rfl, rfl⟩, ⟨rfl, rfl, rfl, rfl, rfl⟩, rfl, rfl⟩
theorem gc_Sy_rf {u : SX} : gc_Sy u u := ⟨gc_Sx_rf, rfl, rfl, rfl⟩
theorem gc_Sx_tr {u v x : SX} (h : gc_Sx u v) (h' : gc_Sx v x) : gc_Sx u x := by
  obtain ⟨a1, ⟨a2, a3, a4, a5, a6⟩, a7, a8⟩ := h
  obtain ⟨b1, ⟨b2, b3, b4, b5, b6⟩, b7, b8⟩ := h'
  exact ⟨gc_Co_tr a1 b1, ⟨b2.trans a2, b3.trans a3, b4.trans a4, b5.trans a5, b6.trans a6⟩, b7.trans a7, b8.trans a8⟩
theorem gc_Sy_tr {u v x : SX} (h : gc_Sy u v) (h' : gc_Sy v x) : gc_Sy u x := ⟨gc_Sx_tr h.1 h'.1, h'.2.1.trans h.2.1, h'.2.2.1.trans h.2.2.1, h'.2.2.2.trans h.2.2.2⟩
theorem gc_Sx_Ci {w F : Nat} {u v : SX} (h : gc_Sx u v) (c : gc_Ci w u F) : gc_Ci w v F := by
  obtain ⟨⟨a1, a2, a3, a4, a5⟩, ⟨b2, b3, b4, b5, b6⟩, _, _⟩ := h
  refine gc_Ci_ag ⟨by rw [a1], fun g _ => ?_, fun f _ => by rw [b5, b6]; exact ⟨rfl, rfl⟩⟩ c
  rw [a2, a3, a4, a5, b2, b3, b4]
  exact ⟨⟨rfl, rfl, rfl, rfl⟩, rfl, rfl, rfl⟩
theorem gc_Sx_Wk {w : Nat} {u v : SX} (h : gc_Sx u v) {g : Nat} : gc_Wk w v g ↔ gc_Wk w u g := by
  unfold gc_Wk
  rw [(gc_Co_n h.1 w).1, h.2.1.1]
/-- the object between calls -/
def gc_XI (u : SX) : Prop := (∃ F, gc_Ci 0 u F) ∧ (∃ F, gc_Ci 1 u F) ∧ (∀ w, w < 2 → qg_value u (w * 2560) = 0 ∧ qg_value u (w * 2560 + 1) = 1) ∧ gc_VL u ∧ (∀ w, w < 2 → qg_fresh u w ≠ 0 → ∀ g, gc_Wk w u g → gc_Cg w u g) ∧ (∀ g, g < 2560 → qg_waits u g = 0) ∧ ∀ i, i < 189 → qg_state u i = 0 ∨ qg_state u i = 1
theorem gc_XI_c {u : SX} (h : gc_XI u) {w : Nat} (hw : w < 2) : ∃ F, gc_Ci w u F := by
  have : w = 0 ∨ w = 1 := by omega
  rcases this with rfl | rfl
  · exact h.1
  · exact h.2.1
def gc_u0 : SX := (0, 0, 0, 0, 0, 0, 0, 0, 0, 0, 0, 0, 0, 0, 0, 0, 0, 0, 0, gc_z, gc_z, gc_z, gc_z, gc_z, gc_z, gc_z, gc_z, gc_z, gc_z, gc_z, gc_z, gc_z, gc_z, gc_z, gc_z, gc_z, gc_z, gc_z, gc_z)
theorem gc_i0 {post : SX → Prop} (h : ux_init_181 post 3 0 gc_u0) : wpX_init post := ⟨3, h⟩
theorem gc_u0_f : qg_port gc_u0 = 0 ∧ qg_words gc_u0 = gc_z ∧ qg_state gc_u0 = gc_z ∧ qg_fresh gc_u0 = gc_z ∧ qg_waits gc_u0 = gc_z ∧ qg_value gc_u0 = gc_z ∧ qg_fans gc_u0 = 0 := ⟨rfl, rfl, rfl, rfl, rfl, rfl, rfl⟩
theorem gc_ct_F {u : SX} {a b : Int32} : (qg_circuit (qs_tidy (qs_circuit u a) b) = a ∧ qg_tidy (qs_tidy (qs_circuit u a) b) = b) ∧ gc_Sx u (qs_tidy (qs_circuit u a) b) ∧ qg_fans (qs_tidy (qs_circuit u a) b) = qg_fans u ∧ (qg_state (qs_tidy (qs_circuit u a) b) = qg_state u ∧ qg_fresh (qs_tidy (qs_circuit u a) b) = qg_fresh u ∧ qg_waits (qs_tidy (qs_circuit u a) b) = qg_waits u ∧ qg_value (qs_tidy (qs_circuit u a) b) = qg_value u) := ⟨⟨rfl, rfl⟩, ⟨⟨rfl, rfl, rfl, rfl, rfl⟩, ⟨rfl, rfl, rfl, rfl, rfl⟩, rfl, rfl⟩, rfl, rfl, rfl, rfl, rfl⟩
theorem gc_xinit {post : SX → Prop} (K : ∀ u, gc_XI u → qg_port u = 0 → qg_words u = gc_z → qg_state u = gc_z → post u) : wpX_init post := by
  refine gc_i0 ?_
  obtain ⟨z1, z2, z3, z4, z5, z6, z7⟩ := gc_u0_f
  generalize gc_u0 = u0 at z1 z2 z3 z4 z5 z6 z7 ⊢
  refine uc_init_181 (br_f (by decide) (br_f (by decide) (uc_init_202 ⟨rfl, rfl, ?_⟩)))
  obtain ⟨⟨a1, a2⟩, ⟨_, _, a5, a6⟩, a7, a8, a9, a10, a11⟩ := @gc_ct_F u0 0 0
  generalize qs_tidy (qs_circuit u0 0) 0 = u1 at a1 a2 a5 a6 a7 a8 a9 a10 a11 ⊢
  refine gc_build (w := 0) (F0 := 0) (by omega) a1 a2 (a7.trans z7) (by omega) fun v1 F1 C1 f1 f1a f1b _ ⟨b1, b2, b3, b4, b5⟩ va1 => ?_
  refine nm_r (e' := nI 1) rfl ?_
  refine uc_init_181 (br_f (by decide) (br_t rfl (uc_init_202 ⟨rfl, rfl, ?_⟩)))
  obtain ⟨⟨c1, c2⟩, c3, c7, c8, c9, c10, c11⟩ := @gc_ct_F v1 (nI 1) 1
  generalize qs_tidy (qs_circuit v1 (nI 1)) 1 = u2 at c1 c2 c3 c7 c8 c9 c10 c11 ⊢
  have C1' := gc_Sx_Ci c3 C1
  refine gc_build (w := 1) (F0 := F1) (by omega) c1 c2 (c7.trans f1) (by omega) fun v2 F2 C2 f2 f2a f2b ag ⟨d1, d2, d3, d4, d5⟩ va2 => ?_
  refine nm_r (e' := nI 2) rfl ?_
  refine uc_init_181 (br_t (by decide) ?_)
  have vv : ∀ j, qg_value v2 j = if j = 1 * 2560 + 1 then 1 else if j = 0 * 2560 + 1 then 1 else 0 := fun j => by
    rw [va2 j, c11, va1 j, a11, z6]; rfl
  have hs : qg_state v2 = gc_z := d3.trans (c8.trans (b3.trans (a8.trans z3)))
  have hf : qg_fresh v2 = gc_z := d4.trans (c9.trans (b4.trans (a9.trans z4)))
  have hwt : qg_waits v2 = gc_z := d5.trans (c10.trans (b5.trans (a10.trans z5)))
  refine K v2 ⟨⟨F1, gc_Ci_ag (ag 0 (by omega) (by omega)) C1'⟩, ⟨F2, C2⟩, fun w hw => ?_, fun j _ => ?_, fun w _ hn => ?_, fun g _ => ?_, fun i _ => ?_⟩ (d1.trans (c3.2.2.2.trans (b1.trans (a6.trans z1)))) (d2.trans (c3.2.2.1.trans (b2.trans (a5.trans z2)))) hs
  · rw [vv, vv]
    have : w = 0 ∨ w = 1 := by omega
    rcases this with rfl | rfl <;> exact ⟨rfl, rfl⟩
  · rw [vv]
    split
    · exact Or.inr rfl
    · split
      · exact Or.inr rfl
      · exact Or.inl rfl
  · rw [hf] at hn; exact absurd rfl hn
  · rw [hwt]; rfl
  · rw [hs]; exact Or.inl rfl
theorem gc_b2_v {x : Int32} (h : x = 0 ∨ x = 1) : x = gc_b2 (decide (x = 1)) := by
  rcases h with rfl | rfl <;> rfl
theorem gc_b2_01 (b : Bool) : gc_b2 b = 0 ∨ gc_b2 b = 1 := by cases b <;> simp [gc_b2]
theorem gc_b2_by (b : Bool) : vp_nar .byte (gc_b2 b).toInt8.toInt32 = gc_b2 b := by
  cases b
  · exact gc_by (a := 0) (by omega)
  · exact gc_by (a := 1) (by omega)
theorem gc_op_4 (a b : Bool) : gc_b2 a &&& gc_b2 b = gc_b2 (a && b) := by cases a <;> cases b <;> decide
theorem gc_op_5 (a b : Bool) : gc_b2 a ||| gc_b2 b = gc_b2 (a || b) := by cases a <;> cases b <;> decide
theorem gc_op_6 (a b : Bool) : gc_b2 a ^^^ gc_b2 b = gc_b2 (a ^^ b) := by cases a <;> cases b <;> decide
theorem gc_op_3 (a : Bool) : 1 - gc_b2 a = gc_b2 (!a) := by cases a <;> decide
theorem gc_work {post : Int32 → Prop} {u : SX} {w g : Nat} (h : gc_St w u) (ci : qg_circuit u = nI w) (h0 : 215 ≤ g) (hg : g < gc_cn w u) (hv : gc_VL u)
    (K : post (gc_b2 (gc_op (gc_k w u g) (gc_bv w u (gc_a w u g)) (gc_bv w u (gc_b w u g)) (gc_bv w u (gc_c w u g))))) : wpX_work post u (nI (w * 2560 + g)) := by
  have a1 := h.1.1
  have a2 := h.1.2.2.2
  obtain ⟨⟨e1, e2, e3, e4⟩, ⟨k1, k2⟩, ⟨i1, i2, i3⟩, _⟩ := gc_St_g h h0 hg
  have iv : vp_in (nI (w * 2560 + g)) 5120 := vp_in_nI (by omega) (by decide)
  have ec : (nI (w * 2560 + g)).toNatClampNeg = w * 2560 + g := nI_clamp (by omega)
  have val : ∀ x, x < g → vp_in (nI (w * 2560) + nI x) 5120 ∧ qg_value u (nI (w * 2560) + nI x).toNatClampNeg = gc_b2 (gc_bv w u x) := fun x hx => by
    rw [nI_add, nI_clamp (by omega)]
    exact ⟨vp_in_nI (by omega) (by decide), gc_b2_v (hv _ (by omega))⟩
  refine uc_work (nm_r (e' := nI (w * 2560)) (by rw [ci]; exact gc_b0) ?_)
  rw [ec, e1, e2, e3, e4]
  refine ⟨iv, (val _ i1).1, nm_r (val _ i1).2 ⟨iv, (val _ i2).1, nm_r (val _ i2).2 ⟨iv, nm_e ?_⟩⟩⟩
  generalize gc_k w u g = k at K k1 k2
  generalize gc_bv w u (gc_a w u g) = A at K ⊢
  generalize gc_bv w u (gc_b w u g) = B at K ⊢
  have c3 := val _ i3
  generalize gc_bv w u (gc_c w u g) = C at K c3
  rw [c3.2]
  have k5 : k = 3 ∨ k = 4 ∨ k = 5 ∨ k = 6 ∨ k = 7 := by omega
  rcases k5 with rfl | rfl | rfl | rfl | rfl
  · refine br_f (by decide) (br_f (by decide) (br_t rfl ?_))
    rw [gc_op_3]; exact K
  · refine br_f (by decide) (br_f (by decide) (br_f (by decide) (br_t rfl ?_)))
    rw [gc_op_4]; exact K
  · refine br_f (by decide) (br_f (by decide) (br_f (by decide) (br_f (by decide) (br_t rfl ?_))))
    rw [gc_op_5]; exact K
  · refine br_f (by decide) (br_f (by decide) (br_f (by decide) (br_f (by decide) (br_f (by decide) (br_t rfl ?_)))))
    rw [gc_op_6]; exact K
  · refine br_f (by decide) (br_t (by decide) ?_)
    cases A
    · exact br_f (by decide) ⟨iv, c3.1, K⟩
    · exact br_t rfl K
end
section
/-! all gates in a row; waking -/
theorem gc_va_Sy {u : SX} {a : Nat → Int32} : gc_Sy u (qs_value u a) ∧ qg_value (qs_value u a) = a ∧ (qg_waitHead (qs_value u a) = qg_waitHead u ∧ qg_waitNext (qs_value u a) = qg_waitNext u ∧ qg_waits (qs_value u a) = qg_waits u) := ⟨⟨⟨⟨rfl, rfl, rfl, rfl, rfl⟩, ⟨rfl, rfl, rfl, rfl, rfl⟩, rfl, rfl⟩, rfl, rfl, rfl⟩, rfl, rfl, rfl, rfl⟩
theorem gc_va_s {u : SX} {a b : Nat → Int32} : qs_value (qs_value u a) b = qs_value u b := rfl
theorem gc_va_e {u : SX} : qs_value u (qg_value u) = u := rfl
theorem gc_op_cg {k : Nat} {a b c a' b' c' : Bool} (hk : 3 ≤ k ∧ k ≤ 7) (ha : a = a') (hb : k ≠ 3 → b = b') (hc : k = 7 → c = c') : gc_op k a b c = gc_op k a' b' c' := by
  subst ha
  have k5 : k = 3 ∨ k = 4 ∨ k = 5 ∨ k = 6 ∨ k = 7 := by omega
  rcases k5 with rfl | rfl | rfl | rfl | rfl
  · rfl
  · rw [hb (by decide)]; rfl
  · rw [hb (by decide)]; rfl
  · rw [hb (by decide)]; rfl
  · rw [hb (by decide), hc rfl]
theorem gc_Cg_cg {w h : Nat} {u v : SX} (c : gc_Co u v) (hS : gc_St w u) (h0 : 215 ≤ h) (hh : h < gc_cn w u) (e1 : qg_value v (w * 2560 + h) = qg_value u (w * 2560 + h)) (e2 : ∀ i, i < gc_ni (gc_k w u h) → qg_value v (w * 2560 + gc_in w u h i) = qg_value u (w * 2560 + gc_in w u h i)) (q : gc_Cg w u h) : gc_Cg w v h := by
  obtain ⟨n1, n2, n3, n4, n5⟩ := gc_Co_n c w
  have hk := (gc_St_g hS h0 hh).2.1
  unfold gc_Cg at q ⊢
  rw [e1, q, n2, n3, n4, n5]
  have n0 := gc_ni_le (gc_k w u h)
  refine congrArg gc_b2 (gc_op_cg hk ?_ (fun z => ?_) fun z => ?_)
  · have := e2 0 (by omega)
    unfold gc_bv
    rw [show gc_a w u h = gc_in w u h 0 from rfl, this]
  · have := e2 1 (by unfold gc_ni; split <;> omega)
    unfold gc_bv
    rw [show gc_b w u h = gc_in w u h 1 from rfl, this]
  · have := e2 2 (by unfold gc_ni; rw [if_pos z]; omega)
    unfold gc_bv
    rw [show gc_c w u h = gc_in w u h 2 from rfl, this]
theorem gc_wAll {post : SX → Prop} {u : SX} {w : Nat} (hS : gc_St w u) (ci : qg_circuit u = nI w) (hv : gc_VL u)
    (K : ∀ v, gc_Sy u v → qg_waits v = qg_waits u → gc_VL v → (∀ j, (j < w * 2560 + 215 ∨ w * 2560 + 2560 ≤ j) → qg_value v j = qg_value u j) → (∀ g, gc_Wk w v g → gc_Cg w v g) → post v) : wpX_workAll post u := by
  have a1 := hS.1.1
  have a2 := hS.1.2.2.2
  have hc := hS.1.2.1
  have loop : ∀ f g a, g ≤ gc_cn w u → gc_cn w u - g < f → (∀ j, j < 5120 → a j = 0 ∨ a j = 1) → (∀ j, (j < w * 2560 + 215 ∨ w * 2560 + 2560 ≤ j) → a j = qg_value u j) → (∀ g', g' < g → gc_Wk w u g' → gc_Cg w (qs_value u a) g') → ux_workAll_11 post (nI (w * 2560)) f (nI g) (qs_value u a) := by
    intro f
    induction f with
    | zero => intro g a _ h2; omega
    | succ f ih =>
      intro g a i1 i2 hva ho hC
      obtain ⟨Sy, va, _, _, wt⟩ := @gc_va_Sy u a
      have e1 := Sy.2.1.trans ci
      have e2 := Sy.1.1.1
      have e3 := Sy.1.1.2.1
      have e4 := Sy.1.2.1.1
      refine uc_workAll_11 ?_
      rw [e1, e2, e3, e4, va, nI_clamp (n := w) (by omega), hc]
      refine ⟨vp_in_nI a1 (by decide), pk_le (gc_cn w u) g (fun q => ?_) fun q => ?_⟩
      · have e : g = gc_cn w u := by omega
        subst e
        exact K _ Sy wt (by unfold gc_VL; rw [va]; exact hva) (fun j hj => by rw [va]; exact ho j hj) fun g' wk => hC g' ((gc_Sx_Wk Sy.1).mp wk).2.1 ((gc_Sx_Wk Sy.1).mp wk)
      · refine nm_r (nI_add _ _) ?_
        have iv : vp_in (nI (w * 2560 + g)) 5120 := vp_in_nI (by omega) (by decide)
        rw [nI_clamp (by omega)]
        have skip : (gc_Wk w u g → False) → ux_workAll_11 post (nI (w * 2560)) f (nI (g + 1)) (qs_value u a) := fun hn => ih (g + 1) a (by omega) (by omega) hva ho fun g' hg' wk => by
          by_cases e : g' = g
          · rw [e] at wk; exact absurd wk hn
          · exact hC g' (by omega) wk
        refine ⟨iv, br_c (fun z => nm_r (nI_1 g) (skip fun wk => wk.2.2 z)) fun z => ⟨iv, ?_⟩⟩
        have kk : ∃ k, qg_kind u (w * 2560 + g) = nI k ∧ k < 8 ∧ (g < 215 → k < 3) ∧ (215 ≤ g → 3 ≤ k) := by
          rcases Nat.lt_or_ge g 215 with q | q
          · have := gc_St_k0 hS q
            exact ⟨_, this.1, by omega, fun _ => this.2, fun _ => by omega⟩
          · have := gc_St_g hS q (by omega)
            exact ⟨_, this.1.1, by omega, fun _ => by omega, fun _ => by omega⟩
        obtain ⟨k, k1, k2, k3, k4⟩ := kk
        rw [k1]
        refine gc_isWk k2 (fun hk => br_t rfl (nm_r (nI_1 g) (skip fun wk => by have := k4 wk.1; omega))) fun hk => br_f (by decide) ?_
        have h0 : 215 ≤ g := by
          rcases Nat.lt_or_ge g 215 with q | q
          · have := k3 q; omega
          · exact q
        have hS' := gc_St_co Sy.1.1 hS
        have cn' := (gc_Co_n Sy.1.1 w).1
        refine gc_work hS' e1 h0 (by omega) (by unfold gc_VL; rw [va]; exact hva) ?_
        rw [gc_b2_by]
        refine ⟨iv, nm_e (nm_r (nI_1 g) ?_)⟩
        rw [gc_va_s]
        generalize hx : gc_op (gc_k w (qs_value u a) g) (gc_bv w (qs_value u a) (gc_a w (qs_value u a) g)) (gc_bv w (qs_value u a) (gc_b w (qs_value u a) g)) (gc_bv w (qs_value u a) (gc_c w (qs_value u a) g)) = y
        have Sy2 := (@gc_va_Sy u (upd a (w * 2560 + g) (gc_b2 y))).1
        have va2 := (@gc_va_Sy u (upd a (w * 2560 + g) (gc_b2 y))).2.1
        have C12 : gc_Co (qs_value u a) (qs_value u (upd a (w * 2560 + g) (gc_b2 y))) := gc_Co_tr (gc_Co_sy Sy.1.1) Sy2.1.1
        refine ih (g + 1) _ (by omega) (by omega) (fun j hj => ?_) (fun j hj => ?_) fun g' hg' wk => ?_
        · by_cases e : j = w * 2560 + g
          · rw [e, pk_us]; exact gc_b2_01 y
          · rw [pk_un e]; exact hva j hj
        · rw [pk_un (by omega)]; exact ho j hj
        · by_cases e : g' = g
          · subst e
            obtain ⟨n1, n2, n3, n4, n5⟩ := gc_Co_n C12 w
            obtain ⟨i1, i2, i3⟩ := (gc_St_g hS' h0 (by omega)).2.2.1
            have bvx : ∀ x, x < g' → gc_bv w (qs_value u (upd a (w * 2560 + g') (gc_b2 y))) x = gc_bv w (qs_value u a) x := fun x hx => by
              unfold gc_bv; rw [va, va2, pk_un (by omega)]
            unfold gc_Cg
            rw [n2, n3, n4, n5, bvx _ i1, bvx _ i2, bvx _ i3, hx, va2, pk_us]
          · have hin := gc_St_in hS wk.1 wk.2.1
            refine gc_Cg_cg C12 hS' wk.1 (by rw [cn']; exact wk.2.1) (by rw [va, va2, pk_un (by omega)]) (fun i _ => ?_) (hC g' (by omega) wk)
            rw [gc_Co_in Sy.1.1, va, va2, pk_un (by have := hin i; omega)]
  refine uc_workAll (nm_r (e' := nI (w * 2560)) (by rw [ci]; exact gc_b0) ⟨gc_cn w u + 1, ?_⟩)
  have := loop (gc_cn w u + 1) 0 (qg_value u) (by omega) (by omega) hv (fun _ _ => rfl) fun g' hg' => absurd hg' (by omega)
  rw [gc_va_e] at this
  exact this
/-- the waiting gates: lists by level, and the rest of the list at hand -/
def gc_WQ (w : Nat) (u : SX) (Q : Nat → List Nat) (R : List Nat) (x : Int32) : Prop :=
  (∀ d, (d < 512 → gc_ch (qg_waitNext u) (Q d) (qg_waitHead u d)) ∧ (Q d).Nodup ∧ ∀ g, g ∈ Q d → gc_Wk w u g ∧ gc_lvl w (qg_level u) g = d) ∧
  (gc_ch (qg_waitNext u) R x ∧ R.Nodup) ∧
  (∀ g, g < 2560 → (qg_waits u g = 0 ∨ qg_waits u g = 1) ∧ (qg_waits u g ≠ 0 ↔ (g ∈ Q (gc_lvl w (qg_level u) g) ∨ g ∈ R)))
theorem gc_ww_F {u : SX} {a b c : Nat → Int32} : gc_Sy u (qs_waitHead_waitNext_waits u a b c) ∧ qg_value (qs_waitHead_waitNext_waits u a b c) = qg_value u ∧ (qg_waitHead (qs_waitHead_waitNext_waits u a b c) = a ∧ qg_waitNext (qs_waitHead_waitNext_waits u a b c) = b ∧ qg_waits (qs_waitHead_waitNext_waits u a b c) = c) := ⟨⟨⟨⟨rfl, rfl, rfl, rfl, rfl⟩, ⟨rfl, rfl, rfl, rfl, rfl⟩, rfl, rfl⟩, rfl, rfl, rfl⟩, rfl, rfl, rfl, rfl⟩
theorem gc_wk18 {post : SX → Prop} {u : SX} {w F D : Nat} {R : List Nat} {xr : Int32} (C : gc_Ci w u F) :
    ∀ l v Q x3, gc_Sy u v → gc_ch (qg_fanNext u) l x3 → (∀ f, f ∈ l → f < 16384 ∧ ∃ h, qg_fanGate u f = nI h ∧ gc_Wk w u h ∧ D < gc_lvl w (qg_level u) h) → gc_WQ w v Q R xr →
    (∀ v' Q', gc_Sy v v' → qg_value v' = qg_value v → gc_WQ w v' Q' R xr → (∀ d, d ≤ D → Q' d = Q d) → (∀ g, qg_waits v g ≠ 0 → qg_waits v' g ≠ 0) → (∀ f, f ∈ l → ∀ h, qg_fanGate u f = nI h → h < 2560 → qg_waits v' h ≠ 0) → post v') →
    ux_wakeFans_18 post (nI (w * 2560)) (l.length + 1) x3 v := by
  have hS := C.1
  have a1 := hS.1.1
  have a2 := hS.1.2.2.2
  intro l
  induction l with
  | nil =>
    intro v Q x3 _ hch _ hW K
    rw [show x3 = -1 from hch]
    exact uc_wakeFans_18 (br_t gc_m1 (K v Q gc_Sy_rf rfl hW (fun _ _ => rfl) (fun _ h => h) fun f hf => absurd hf List.not_mem_nil))
  | cons f l ih =>
    intro v Q x3 hSy hch hl hW K
    obtain ⟨hf, h, hgt, wk, hD⟩ := hl f (List.mem_cons_self ..)
    have hl' : ∀ f, f ∈ l → f < 16384 ∧ ∃ h, qg_fanGate u f = nI h ∧ gc_Wk w u h ∧ D < gc_lvl w (qg_level u) h := fun q hq => hl q (List.mem_cons_of_mem _ hq)
    have hh := wk.2.1
    have lvh := C.2.2.2.1.2 h hh
    have lve := (C.2.2.2.1.1.1 h hh).1.1
    have eL := hSy.1.2.1.2.1
    have eG := hSy.1.2.1.2.2.2.2
    have eN := hSy.1.2.1.2.2.2.1
    rw [hch.1]
    refine uc_wakeFans_18 (br_f (nI_pos (by omega)) ?_)
    have ivf : vp_in (nI f) 16384 := vp_in_nI hf (by decide)
    have ivh : vp_in (nI h) 2560 := vp_in_nI (by omega) (by decide)
    rw [nI_clamp (n := f) (by omega), eG, eN]
    refine ⟨ivf, nm_r hgt ?_⟩
    rw [nI_clamp (n := h) (by omega), nI_add, nI_clamp (n := w * 2560 + h) (by omega), eL]
    refine ⟨ivh, br_c (fun z => ?_) fun z => ?_⟩
    · have ivd : vp_in (nI (gc_lvl w (qg_level u) h)) 512 := vp_in_nI (by omega) (by decide)
      refine ⟨vp_in_nI (by omega) (by decide), nm_r lve ⟨ivh, nm_e ?_⟩⟩
      obtain ⟨W1, ⟨W2, W2'⟩, W3⟩ := hW
      generalize hlv : gc_lvl w (qg_level u) h = dl at hD lvh ivd
      have hlv' : gc_lvl w (qg_level v) h = dl := by rw [eL]; exact hlv
      obtain ⟨c1', c2, c3⟩ := W1 dl
      have c1 := c1' (by omega)
      have nQ : ∀ d, h ∉ Q d := fun d hm => by
        have q1 := ((W1 d).2.2 h hm).2
        rw [hlv'] at q1
        rw [← q1] at hm
        exact absurd z ((W3 h (by omega)).2.mpr (Or.inl (by rw [hlv']; exact hm)))
      have nR : h ∉ R := fun hm => absurd z ((W3 h (by omega)).2.mpr (Or.inr hm))
      have mem : ∀ d, ∀ g, g ∈ Q d → g < 2560 := fun d g hg => by
        have := ((W1 d).2.2 g hg).1.2.1
        have := (gc_Co_n hSy.1.1 w).1
        omega
      rw [nI_clamp (n := dl) (by omega), gc_ch_sh c1 (mem dl) (by omega), gc_sh (a := h) (by omega), gc_vb1]
      refine ⟨ivd, ivh, nm_e ⟨ivd, nm_e ⟨ivf, nm_e ?_⟩⟩⟩
      obtain ⟨s1, s2, s3, s4, s5⟩ := @gc_ww_F v (upd (qg_waitHead v) dl (nI h)) (upd (qg_waitNext v) h (qg_waitHead v dl)) (upd (qg_waits v) h 1)
      generalize qs_waitHead_waitNext_waits v (upd (qg_waitHead v) dl (nI h)) (upd (qg_waitNext v) h (qg_waitHead v dl)) (upd (qg_waits v) h 1) = v1 at s1 s2 s3 s4 s5 ⊢
      have eL1 := s1.1.2.1.2.1
      have wkE : ∀ g, gc_Wk w v1 g ↔ gc_Wk w v g := fun g => gc_Sx_Wk s1.1
      have W' : gc_WQ w v1 (fun d => if d = dl then h :: Q d else Q d) R xr := by
        refine ⟨fun d => ?_, ⟨?_, W2'⟩, fun g hg => ?_⟩
        · dsimp only
          rw [s3, s4, eL1]
          simp only [wkE]
          by_cases e : d = dl
          · subst e
            rw [if_pos rfl]
            refine ⟨fun _ => ⟨pk_us, ?_⟩, List.nodup_cons.mpr ⟨nQ d, c2⟩, fun g hg => ?_⟩
            · rw [pk_us]
              exact gc_ch_un c1 fun q hq e => nQ d (e ▸ hq)
            · rcases List.mem_cons.mp hg with rfl | hg
              · exact ⟨(gc_Sx_Wk hSy.1).mpr wk, hlv'⟩
              · exact c3 g hg
          · rw [if_neg e, pk_un e]
            obtain ⟨d1, d2, d3⟩ := W1 d
            exact ⟨fun hd => gc_ch_un (d1 hd) fun q hq e => nQ d (e ▸ hq), d2, d3⟩
        · rw [s4]
          exact gc_ch_un W2 fun q hq e => nR (e ▸ hq)
        · rw [s5, eL1]
          dsimp only
          by_cases e : g = h
          · subst e
            rw [pk_us, hlv', if_pos rfl]
            exact ⟨Or.inr rfl, fun _ => Or.inl (List.mem_cons_self ..), fun _ => by decide⟩
          · rw [pk_un e]
            refine ⟨(W3 g hg).1, (W3 g hg).2.trans ?_⟩
            by_cases e2 : gc_lvl w (qg_level v) g = dl
            · rw [if_pos e2, List.mem_cons]
              constructor
              · rintro (q | q)
                · exact Or.inl (Or.inr q)
                · exact Or.inr q
              · rintro ((q | q) | q)
                · exact absurd q e
                · exact Or.inl q
                · exact Or.inr q
            · rw [if_neg e2]
      have mono1 : ∀ g, qg_waits v g ≠ 0 → qg_waits v1 g ≠ 0 := fun g hg => by
        rw [s5]
        by_cases e : g = h
        · rw [e, pk_us]; decide
        · rw [pk_un e]; exact hg
      refine ih v1 _ _ (gc_Sy_tr hSy s1) hch.2 hl' W' fun v' Q' t1 t2 t3 t4 t5 t6 => K v' Q' (gc_Sy_tr s1 t1) (t2.trans s2) t3 (fun d hd => ?_) (fun g hg => t5 g (mono1 g hg)) fun q hq h' hq' hh' => ?_
      · rw [t4 d hd]
        exact if_neg (by omega)
      · rcases List.mem_cons.mp hq with rfl | hq
        · rw [hgt] at hq'
          have : h = h' := (nI_eq (by omega) (by omega)).mp hq'
          subst this
          exact t5 _ (by rw [s5, pk_us]; decide)
        · exact t6 q hq h' hq' hh'
    · refine ⟨ivf, nm_e (ih v Q _ hSy hch.2 hl' hW fun v' Q' t1 t2 t3 t4 t5 t6 => K v' Q' t1 t2 t3 t4 t5 fun q hq h' hq' hh' => ?_)⟩
      rcases List.mem_cons.mp hq with rfl | hq
      · rw [hgt] at hq'
        have : h = h' := (nI_eq (by omega) (by omega)).mp hq'
        subst this
        exact t5 _ z
      · exact t6 q hq h' hq' hh'
theorem gc_wake {post : SX → Prop} {u v : SX} {w F s : Nat} {Q : Nat → List Nat} {R : List Nat} {xr : Int32} (C : gc_Ci w u F) (ci : qg_circuit v = nI w) (hSy : gc_Sy u v) (hs : s < gc_cn w u) (hW : gc_WQ w v Q R xr)
    (K : ∀ v' Q', gc_Sy v v' → qg_value v' = qg_value v → gc_WQ w v' Q' R xr → (∀ d, d ≤ gc_lvl w (qg_level u) s → Q' d = Q d) → (∀ g, qg_waits v g ≠ 0 → qg_waits v' g ≠ 0) → (∀ h, gc_Wk w u h → (∃ i, i < gc_ni (gc_k w u h) ∧ gc_in w u h i = s) → qg_waits v' h ≠ 0) → post v') : wpX_wakeFans post v (nI s) := by
  have hS := C.1
  have a1 := hS.1.1
  have a2 := hS.1.2.2.2
  obtain ⟨hF, ls, A, Dd⟩ := C.2.2.2.2
  obtain ⟨A1, A2⟩ := A s (by omega)
  refine uc_wakeFans (nm_r (e' := nI (w * 2560)) (by rw [ci]; exact gc_b0) ?_)
  rw [nI_add, nI_clamp (by omega), hSy.1.2.1.2.2.1]
  refine ⟨vp_in_nI (by omega) (by decide), nm_e ⟨(ls s).length + 1, ?_⟩⟩
  refine gc_wk18 (D := gc_lvl w (qg_level u) s) C (ls s) v Q _ hSy A1 (fun f hf => ?_) hW fun v' Q' t1 t2 t3 t4 t5 t6 => K v' Q' t1 t2 t3 t4 t5 fun h wk hi => ?_
  · obtain ⟨q1, h, q2, q3, i, q4, q5⟩ := A2 f hf
    refine ⟨by omega, h, q2, q3, ?_⟩
    have := ((C.2.2.2.1.1.1 h q3.2.1).2.2 q3.1).1 i q4
    rw [q5] at this
    exact this
  · obtain ⟨i, hi, ei⟩ := hi
    obtain ⟨f, f1, f2⟩ := Dd h wk.2.1 wk i hi
    rw [ei] at f1
    exact t6 f f1 h f2 (by have := wk.2.1; omega)
end
section
/-! reading bits; driving the inputs -/
def gc_sb (u : SX) (i : Nat) : Bool := decide (qg_state u i = 1)
theorem gc_nor (a b : Nat) : nI a ||| nI b = nI (a ||| b) := by
  apply Int32.toBitVec_inj.1
  show BitVec.ofNat 32 a ||| BitVec.ofNat 32 b = BitVec.ofNat 32 (a ||| b)
  rw [BitVec.ofNat_or]
theorem gc_orb {m i : Nat} {b : Bool} (hm : m < 2 ^ i) (hi : i < 31) : nI m ||| (gc_b2 b <<< (nI i &&& 31)) = nI (m + (if b then 2 ^ i else 0)) := by
  have hp : 2 ^ i < 2 ^ 31 := Nat.pow_lt_pow_right (by decide) hi
  cases b
  · have e : gc_b2 false <<< (nI i &&& 31) = nI (0 * 2 ^ i) := pk_shlN (n := 0) _ i (gc_sml i (by omega)) (by omega)
    rw [e, gc_nor, Nat.zero_mul, Nat.or_zero]
    rfl
  · have e : gc_b2 true <<< (nI i &&& 31) = nI (1 * 2 ^ i) := pk_shlN (n := 1) _ i (gc_sml i (by omega)) (by omega)
    rw [e, gc_nor, Nat.one_mul, Nat.or_two_pow_eq_add_of_lt hm]
    rfl
theorem gc_read {post : Int32 → Prop} {u : SX} {off n : Nat} (hb : ∀ i, i < 189 → qg_state u i = 0 ∨ qg_state u i = 1) (hn : n ≤ 8) (ho : off + n ≤ 189) (K : post (nI (gc_vl (fun i => gc_sb u (off + i)) n))) : wpX_read post u (nI off) (nI n) := by
  have loop : ∀ f i, i ≤ n → n - i < f → ux_read_5 post (nI off) (nI n) f (nI (gc_vl (fun i => gc_sb u (off + i)) i)) (nI i) u := by
    intro f
    induction f with
    | zero => intro i _ h2; omega
    | succ f ih =>
      intro i i1 i2
      refine uc_read_5 (pk_le n i (fun q => ?_) fun q => ?_)
      · have e : i = n := by omega
        subst e
        exact K
      · rw [nI_add, nI_clamp (by omega), gc_b2_v (hb (off + i) (by omega)), gc_orb (gc_vl_lt _ i) (by omega)]
        exact ⟨vp_in_nI (by omega) (by decide), nm_e (nm_r (nI_1 i) (ih (i + 1) (by omega) (by omega)))⟩
  exact uc_read ⟨n + 1, loop (n + 1) 0 (by omega) (by omega)⟩
theorem gc_WQ_cg {w : Nat} {u v : SX} {Q : Nat → List Nat} {R : List Nat} {x : Int32} (h : gc_Sx u v) (e1 : qg_waitHead v = qg_waitHead u) (e2 : qg_waitNext v = qg_waitNext u) (e3 : qg_waits v = qg_waits u) (q : gc_WQ w u Q R x) : gc_WQ w v Q R x := by
  unfold gc_WQ at q ⊢
  rw [e1, e2, e3, h.2.1.2.1]
  simp only [gc_Sx_Wk h]
  exact q
theorem gc_Ci_l0 {w F : Nat} {u : SX} (C : gc_Ci w u F) {g : Nat} (hg : g < 215) : gc_lvl w (qg_level u) g = 0 := (C.2.2.2.1.1.1 g (by have := C.1.1.2.2.1; omega)).2.1 hg
def gc_DI (w : Nat) (wk : Int32) (u v : SX) : Prop := gc_Sy u v ∧ gc_VL v ∧ (∀ j, (j < w * 2560 + 2 ∨ w * 2560 + 215 ≤ j) → qg_value v j = qg_value u j) ∧ ((wk = 0 ∧ qg_waits v = qg_waits u) ∨ (wk = 1 ∧ ∃ Q, gc_WQ w v Q [] (-1) ∧ Q 0 = [] ∧ ∀ g, gc_Wk w v g → gc_Cg w v g ∨ qg_waits v g ≠ 0))
theorem gc_drive {post : SX → Prop} {u v : SX} {w F s : Nat} {wk x : Int32} (C : gc_Ci w u F) (ci : qg_circuit u = nI w) (I : gc_DI w wk u v) (hs2 : 2 ≤ s) (hs : s < 215) (hx : x = 0 ∨ x = 1)
    (K : ∀ v', gc_DI w wk u v' → qg_value v' (w * 2560 + s) = x → (∀ j, j ≠ w * 2560 + s → qg_value v' j = qg_value v j) → post v') : wpX_drive post v (nI s) x wk := by
  have hS := C.1
  have a1 := hS.1.1
  have a2 := hS.1.2.2
  obtain ⟨Sy, VL, ho, hW⟩ := id I
  have cv := Sy.2.1.trans ci
  have iv : vp_in (nI (w * 2560 + s)) 5120 := vp_in_nI (by omega) (by decide)
  refine uc_drive (nm_r (e' := nI (w * 2560 + s)) (by rw [cv]; exact gc_bs) ?_)
  rw [nI_clamp (by omega)]
  refine ⟨iv, br_c (fun z => K v I z fun _ _ => rfl) fun z => ⟨iv, ?_⟩⟩
  have ex : vp_nar .byte x.toInt8.toInt32 = x := by rw [gc_b2_v hx, gc_b2_by]
  rw [ex]
  refine nm_e ?_
  obtain ⟨s1, s2, s3, s4, s5⟩ := @gc_va_Sy v (upd (qg_value v) (w * 2560 + s) x)
  generalize qs_value v (upd (qg_value v) (w * 2560 + s) x) = v1 at s1 s2 s3 s4 s5 ⊢
  have Sy1 := gc_Sy_tr Sy s1
  have VL1 : gc_VL v1 := fun j hj => by
    rw [s2]
    by_cases e : j = w * 2560 + s
    · rw [e, pk_us]; exact hx
    · rw [pk_un e]; exact VL j hj
  have ho1 : ∀ j, (j < w * 2560 + 2 ∨ w * 2560 + 215 ≤ j) → qg_value v1 j = qg_value u j := fun j hj => by
    rw [s2, pk_un (by omega)]; exact ho j hj
  rcases hW with ⟨w0, w1⟩ | ⟨w0, Q, w1, w2, w3⟩
  · refine br_t w0 (K v1 ⟨Sy1, VL1, ho1, Or.inl ⟨w0, s5.trans w1⟩⟩ (by rw [s2, pk_us]) fun j hj => by rw [s2, pk_un hj])
  · refine br_f (by rw [w0]; decide) ?_
    refine gc_wake C (s1.2.1.trans cv) Sy1 (by omega) (gc_WQ_cg s1.1 s3 s4 s5 w1) fun v' Q' t1 t2 t3 t4 t5 t6 => K v' ⟨gc_Sy_tr Sy1 t1, ?_, ?_, Or.inr ⟨w0, Q', t3, ?_, fun g wk' => ?_⟩⟩ (by rw [t2, s2, pk_us]) fun j hj => by rw [t2, s2, pk_un hj]
    · unfold gc_VL; rw [t2]; exact VL1
    · rw [t2]; exact ho1
    · rw [t4 0 (by omega)]; exact w2
    · have wku := (gc_Sx_Wk (gc_Sx_tr Sy1.1 t1.1)).mp wk'
      have wkv := (gc_Sx_Wk Sy.1).mpr wku
      by_cases hu : ∃ i, i < gc_ni (gc_k w u g) ∧ gc_in w u g i = s
      · exact Or.inr (t6 g wku hu)
      · rcases w3 g wkv with q | q
        · refine Or.inl ?_
          have Cv' : gc_Co v v' := (gc_Sy_tr s1 t1).1.1
          have hS' := gc_St_co Sy.1.1 hS
          have g0 := wkv.1
          refine gc_Cg_cg Cv' hS' wkv.1 wkv.2.1 (by rw [t2, s2, pk_un (by omega)]) (fun i hi => ?_) q
          rw [t2, s2, pk_un]
          intro e
          refine hu ⟨i, ?_, ?_⟩
          · rw [← (gc_Co_n Sy.1.1 w).2.1]; exact hi
          · rw [← gc_Co_in Sy.1.1]; omega
        · exact Or.inr (t5 g (by rw [s5]; exact q))
theorem gc_tb1 {x i : Nat} (h : x < 2 ^ 31) (hi : i < 32) : (nI x >>> (nI i &&& 31)) &&& 1 = gc_b2 (x.testBit i) := by
  rw [gc_bit h hi, Nat.testBit_eq_decide_div_mod_eq]
  rcases Nat.mod_two_eq_zero_or_one (x / 2 ^ i) with e | e
  · rw [e]; rfl
  · rw [e]; rfl
/-- the inputs show the word, the port and the flip-flops -/
def gc_Dr (w : Nat) (u v : SX) (W P : Nat) : Prop := (∀ i, i < 16 → gc_bv w v (2 + i) = W.testBit i) ∧ (∀ i, i < 8 → gc_bv w v (18 + i) = P.testBit i) ∧ ∀ i, i < 189 → gc_bv w v (26 + i) = gc_sb u i
theorem gc_bv2 {w g : Nat} {u : SX} {b : Bool} (h : qg_value u (w * 2560 + g) = gc_b2 b) : gc_bv w u g = b := by
  unfold gc_bv; rw [h]; cases b <;> rfl
theorem gc_drvAll {post : SX → Prop} {u : SX} {w F W P : Nat} {wk : Int32} (C : gc_Ci w u F) (ci : qg_circuit u = nI w) (I : gc_DI w wk u u) (hst : ∀ i, i < 189 → qg_state u i = 0 ∨ qg_state u i = 1) (hW : qg_words u (gc_vl (fun i => gc_sb u (162 + i)) 5) = nI W) (hW2 : W < 65536) (hP : qg_port u = nI P) (hP2 : P < 256)
    (K : ∀ v, gc_DI w wk u v → gc_Dr w u v W P → post v) : wpX_driveAll post u wk := by
  have l70 : ∀ f i v, i ≤ 189 → 189 - i < f → gc_DI w wk u v → (∀ i', i' < 16 → qg_value v (w * 2560 + (2 + i')) = gc_b2 (W.testBit i')) → (∀ i', i' < 8 → qg_value v (w * 2560 + (18 + i')) = gc_b2 (P.testBit i')) → (∀ i', i' < i → qg_value v (w * 2560 + (26 + i')) = qg_state u i') → ux_driveAll_70 post wk f (nI i) v := by
    intro f
    induction f with
    | zero => intro i v _ h2; omega
    | succ f ih =>
      intro i v i1 i2 I h1 h2 h3
      refine uc_driveAll_70 (pk_le 189 i (fun q => ?_) fun q => ?_)
      · have e : i = 189 := by omega
        subst e
        refine K v I ⟨fun i hi => gc_bv2 (h1 i hi), fun i hi => gc_bv2 (h2 i hi), fun i hi => gc_bv2 ?_⟩
        rw [h3 i hi]; exact gc_b2_v (hst i hi)
      · refine ⟨vp_in_nI q (by decide), ?_⟩
        rw [I.1.2.2.1, nI_clamp (by omega), show (26 : Int32) + nI i = nI (26 + i) from nI_add 26 i]
        refine gc_drive C ci I (by omega) (by omega) (hst i q) fun v' I' e1 e2 => nm_r (nI_1 i) (ih (i + 1) v' (by omega) (by omega) I' (fun i' hi' => ?_) (fun i' hi' => ?_) fun i' hi' => ?_)
        · rw [e2 _ (by omega)]; exact h1 i' hi'
        · rw [e2 _ (by omega)]; exact h2 i' hi'
        · by_cases e : i' = i
          · rw [e]; exact e1
          · rw [e2 _ (by omega)]; exact h3 i' (by omega)
  have l39 : ∀ f i v, i ≤ 8 → 8 - i < f → gc_DI w wk u v → (∀ i', i' < 16 → qg_value v (w * 2560 + (2 + i')) = gc_b2 (W.testBit i')) → (∀ i', i' < i → qg_value v (w * 2560 + (18 + i')) = gc_b2 (P.testBit i')) → ux_driveAll_39 post wk f (nI i) v := by
    intro f
    induction f with
    | zero => intro i v _ h2; omega
    | succ f ih =>
      intro i v i1 i2 I h1 h2
      refine uc_driveAll_39 (pk_le 8 i (fun q => ⟨190, ?_⟩) fun q => ?_)
      · have e : i = 8 := by omega
        subst e
        exact l70 190 0 v (by omega) (by omega) I h1 h2 fun i' hi' => absurd hi' (by omega)
      · rw [I.1.1.2.2.2, hP, gc_tb1 (by omega) (by omega), show (18 : Int32) + nI i = nI (18 + i) from nI_add 18 i]
        refine gc_drive C ci I (by omega) (by omega) (gc_b2_01 _) fun v' I' e1 e2 => nm_r (nI_1 i) (ih (i + 1) v' (by omega) (by omega) I' (fun i' hi' => ?_) fun i' hi' => ?_)
        · rw [e2 _ (by omega)]; exact h1 i' hi'
        · by_cases e : i' = i
          · rw [e]; exact e1
          · rw [e2 _ (by omega)]; exact h2 i' (by omega)
  have l12 : ∀ f i v, i ≤ 16 → 16 - i < f → gc_DI w wk u v → (∀ i', i' < i → qg_value v (w * 2560 + (2 + i')) = gc_b2 (W.testBit i')) → ux_driveAll_12 post wk (nI W) f (nI i) v := by
    intro f
    induction f with
    | zero => intro i v _ h2; omega
    | succ f ih =>
      intro i v i1 i2 I h1
      refine uc_driveAll_12 (pk_le 16 i (fun q => ⟨9, ?_⟩) fun q => ?_)
      · have e : i = 16 := by omega
        subst e
        exact l39 9 0 v (by omega) (by omega) I h1 fun i' hi' => absurd hi' (by omega)
      · rw [gc_tb1 (by omega) (by omega), show (2 : Int32) + nI i = nI (2 + i) from nI_add 2 i]
        refine gc_drive C ci I (by omega) (by omega) (gc_b2_01 _) fun v' I' e1 e2 => nm_r (nI_1 i) (ih (i + 1) v' (by omega) (by omega) I' fun i' hi' => ?_)
        by_cases e : i' = i
        · rw [e]; exact e1
        · rw [e2 _ (by omega)]; exact h1 i' (by omega)
  have lt := gc_vl_lt (fun i => gc_sb u (162 + i)) 5
  refine uc_driveAll (uc_counter (gc_read (off := 162) (n := 5) hst (by omega) (by omega) ?_))
  refine ⟨vp_in_nI lt (by decide), ?_⟩
  rw [nI_clamp (by omega), hW]
  exact nm_e ⟨17, l12 17 0 u (by omega) (by omega) I fun i' hi' => absurd hi' (by omega)⟩
end
section
/-! only what changes -/
theorem gc_wt_F {u : SX} {c : Nat → Int32} : gc_Sy u (qs_waits u c) ∧ qg_value (qs_waits u c) = qg_value u ∧ (qg_waitHead (qs_waits u c) = qg_waitHead u ∧ qg_waitNext (qs_waits u c) = qg_waitNext u ∧ qg_waits (qs_waits u c) = c) := ⟨⟨⟨⟨rfl, rfl, rfl, rfl, rfl⟩, ⟨rfl, rfl, rfl, rfl, rfl⟩, rfl, rfl⟩, rfl, rfl, rfl⟩, rfl, rfl, rfl, rfl⟩
theorem gc_vw_F {u : SX} {a c : Nat → Int32} : gc_Sy u (qs_value_waits u a c) ∧ qg_value (qs_value_waits u a c) = a ∧ (qg_waitHead (qs_value_waits u a c) = qg_waitHead u ∧ qg_waitNext (qs_value_waits u a c) = qg_waitNext u ∧ qg_waits (qs_value_waits u a c) = c) := ⟨⟨⟨⟨rfl, rfl, rfl, rfl, rfl⟩, ⟨rfl, rfl, rfl, rfl, rfl⟩, rfl, rfl⟩, rfl, rfl, rfl⟩, rfl, rfl, rfl, rfl⟩
theorem gc_wh_F {u : SX} {a : Nat → Int32} : gc_Sy u (qs_waitHead u a) ∧ qg_value (qs_waitHead u a) = qg_value u ∧ (qg_waitHead (qs_waitHead u a) = a ∧ qg_waitNext (qs_waitHead u a) = qg_waitNext u ∧ qg_waits (qs_waitHead u a) = qg_waits u) := ⟨⟨⟨⟨rfl, rfl, rfl, rfl, rfl⟩, ⟨rfl, rfl, rfl, rfl, rfl⟩, rfl, rfl⟩, rfl, rfl, rfl⟩, rfl, rfl, rfl, rfl⟩
/-- while changes are worked out -/
def gc_CI (w : Nat) (u v : SX) (Q : Nat → List Nat) (R : List Nat) (x : Int32) : Prop := gc_Sy u v ∧ gc_VL v ∧ (∀ j, (j < w * 2560 + 215 ∨ w * 2560 + 2560 ≤ j) → qg_value v j = qg_value u j) ∧ gc_WQ w v Q R x ∧ ∀ g, gc_Wk w v g → gc_Cg w v g ∨ qg_waits v g ≠ 0
theorem gc_WQ_pop {w D g : Nat} {u v v1 : SX} {Q : Nat → List Nat} {R : List Nat} {x : Int32} (h : gc_Sx v v1) (e1 : qg_waitHead v1 = qg_waitHead v) (e2 : qg_waitNext v1 = qg_waitNext v) (e3 : qg_waits v1 = upd (qg_waits v) g 0) (q : gc_WQ w v Q (g :: R) x) (hg : gc_lvl w (qg_level v) g = D) (hQ : Q D = []) : gc_WQ w v1 Q R (qg_waitNext v g) := by
  obtain ⟨W1, ⟨W2, W2'⟩, W3⟩ := q
  have nd := List.nodup_cons.mp W2'
  unfold gc_WQ
  rw [e1, e2, e3, h.2.1.2.1]
  simp only [gc_Sx_Wk h]
  refine ⟨W1, ⟨W2.2, nd.2⟩, fun g' hg' => ?_⟩
  by_cases e : g' = g
  · subst e
    rw [pk_us, hg, hQ]
    refine ⟨Or.inl rfl, fun z => absurd rfl z, ?_⟩
    rintro (z | z)
    · exact absurd z List.not_mem_nil
    · exact absurd z nd.1
  · rw [pk_un e]
    refine ⟨(W3 g' hg').1, (W3 g' hg').2.trans ?_⟩
    rw [List.mem_cons]
    constructor
    · rintro (z | z | z)
      · exact Or.inl z
      · exact absurd z e
      · exact Or.inr z
    · rintro (z | z)
      · exact Or.inl z
      · exact Or.inr (Or.inr z)
theorem gc_wc32 {post : SX → Prop} {J : Int32 → SX → Prop} {u : SX} {w F D : Nat} (C : gc_Ci w u F) (ci : qg_circuit u = nI w)
    (K : ∀ v Q, gc_CI w u v Q [] (-1) → (∀ d, d ≤ D → Q d = []) → J (nI (D + 1)) v) :
    ∀ n R v Q x, R.length = n → gc_CI w u v Q R x → (∀ d, d ≤ D → Q d = []) → (∀ g, g ∈ R → gc_Wk w u g ∧ gc_lvl w (qg_level u) g = D) → ux_workChanges_32 post J (nI (w * 2560)) (nI D) (n + 1) x v := by
  have hS := C.1
  have a1 := hS.1.1
  have a2 := hS.1.2.2.2
  intro n
  induction n with
  | zero =>
    intro R v Q x hR I hQ _
    have e : R = [] := List.length_eq_zero_iff.mp hR
    subst e
    have ex : x = -1 := I.2.2.2.1.2.1.1
    subst ex
    exact uc_workChanges_32 (br_t gc_m1 (nm_r (nI_1 D) (K v Q I hQ)))
  | succ n ih =>
    intro R v Q x hR I hQ hRw
    cases R with
    | nil => exact absurd hR.symm (Nat.succ_ne_zero n)
    | cons g R =>
      obtain ⟨Sy, VL, ho, hW, rw'⟩ := I
      have ex : x = nI g := hW.2.1.1.1
      obtain ⟨wk, lg⟩ := hRw g (List.mem_cons_self ..)
      have hg := wk.2.1
      have h0 := wk.1
      have cv := Sy.2.1.trans ci
      have hRw' : ∀ g, g ∈ R → gc_Wk w u g ∧ gc_lvl w (qg_level u) g = D := fun q hq => hRw q (List.mem_cons_of_mem _ hq)
      have hSv := gc_St_co Sy.1.1 hS
      have cnv := (gc_Co_n Sy.1.1 w).1
      have lgv : gc_lvl w (qg_level v) g = D := by rw [Sy.1.2.1.2.1]; exact lg
      subst ex
      have iv : vp_in (nI g) 2560 := vp_in_nI (by omega) (by decide)
      have iv5 : vp_in (nI (w * 2560 + g)) 5120 := vp_in_nI (by omega) (by decide)
      refine uc_workChanges_32 (br_f (nI_pos (by omega)) ?_)
      rw [nI_clamp (n := g) (by omega), nI_add, nI_clamp (n := w * 2560 + g) (by omega), gc_vb0]
      refine ⟨iv, nm_e ⟨iv, nm_e ?_⟩⟩
      obtain ⟨s1, s2, s3, s4, s5⟩ := @gc_wt_F v (upd (qg_waits v) g 0)
      have VL0 : gc_VL (qs_waits v (upd (qg_waits v) g 0)) := by unfold gc_VL; rw [s2]; exact VL
      have hS0 := gc_St_co s1.1.1 hSv
      have cn0 := (gc_Co_n s1.1.1 w).1
      refine gc_work hS0 (s1.2.1.trans cv) h0 (by omega) VL0 ?_
      -- the value that the inputs give, by v itself
      obtain ⟨n1, n2, n3, n4, n5⟩ := gc_Co_n s1.1.1 w
      have bvE : ∀ y, gc_bv w (qs_waits v (upd (qg_waits v) g 0)) y = gc_bv w v y := fun y => by unfold gc_bv; rw [s2]
      rw [n2, n3, n4, n5, bvE, bvE, bvE]
      generalize hr : gc_op (gc_k w v g) (gc_bv w v (gc_a w v g)) (gc_bv w v (gc_b w v g)) (gc_bv w v (gc_c w v g)) = r
      refine ⟨iv5, br_c (fun z => ?_) fun z => ⟨iv5, ?_⟩⟩
      · generalize qs_waits v (upd (qg_waits v) g 0) = v1 at s1 s2 s3 s4 s5 ⊢
        refine ih R v1 Q _ (Nat.succ.inj hR) ⟨gc_Sy_tr Sy s1, by unfold gc_VL; rw [s2]; exact VL, by rw [s2]; exact ho, gc_WQ_pop (u := u) s1.1 s3 s4 s5 hW lgv (hQ D (Nat.le_refl _)), fun g' wk' => ?_⟩ hQ hRw'
        have wkv := (gc_Sx_Wk s1.1).mp wk'
        have Cv : gc_Cg w v g' → gc_Cg w v1 g' := fun q => gc_Cg_cg s1.1.1 hSv wkv.1 wkv.2.1 (by rw [s2]) (fun i _ => by rw [s2]) q
        by_cases e : g' = g
        · subst e
          refine Or.inl (Cv ?_)
          unfold gc_Cg
          rw [hr, z]
        · rcases rw' g' wkv with q | q
          · exact Or.inl (Cv q)
          · exact Or.inr (by rw [s5, pk_un e]; exact q)
      · rw [gc_b2_by]
        refine nm_e ?_
        obtain ⟨t1, t2, t3, t4, t5⟩ := @gc_vw_F v (upd (qg_value v) (w * 2560 + g) (gc_b2 r)) (upd (qg_waits v) g 0)
        generalize qs_value_waits v (upd (qg_value v) (w * 2560 + g) (gc_b2 r)) (upd (qg_waits v) g 0) = v1 at t1 t2 t3 t4 t5 ⊢
        have Sy1 := gc_Sy_tr Sy t1
        refine gc_wake C (t1.2.1.trans cv) Sy1 hg (gc_WQ_pop (u := u) t1.1 t3 t4 t5 hW lgv (hQ D (Nat.le_refl _))) fun v' Q' k1 k2 k3 k4 k5 k6 => ?_
        have valE : qg_value v' = upd (qg_value v) (w * 2560 + g) (gc_b2 r) := k2.trans t2
        refine ih R v' Q' _ (Nat.succ.inj hR) ⟨gc_Sy_tr Sy1 k1, ?_, ?_, k3, fun g' wk' => ?_⟩ (fun d hd => (k4 d (by omega)).trans (hQ d hd)) hRw'
        · intro j hj
          rw [valE]
          by_cases e : j = w * 2560 + g
          · rw [e, pk_us]; exact gc_b2_01 r
          · rw [pk_un e]; exact VL j hj
        · intro j hj
          rw [valE, pk_un (by omega)]; exact ho j hj
        · have C01 : gc_Co v v' := (gc_Sy_tr t1 k1).1.1
          have wkv := (gc_Sx_Wk (gc_Sx_tr t1.1 k1.1)).mp wk'
          have wku := (gc_Sx_Wk Sy.1).mp wkv
          by_cases hu : ∃ i, i < gc_ni (gc_k w u g') ∧ gc_in w u g' i = g
          · exact Or.inr (k6 g' wku hu)
          · have inE : ∀ i, i < gc_ni (gc_k w v g') → qg_value v' (w * 2560 + gc_in w v g' i) = qg_value v (w * 2560 + gc_in w v g' i) := fun i hi => by
              rw [valE, pk_un]
              intro e
              refine hu ⟨i, ?_, ?_⟩
              · rw [← (gc_Co_n Sy.1.1 w).2.1]; exact hi
              · rw [← gc_Co_in Sy.1.1]; omega
            by_cases e : g' = g
            · subst e
              refine Or.inl ?_
              obtain ⟨m1, m2, m3, m4, m5⟩ := gc_Co_n C01 w
              obtain ⟨i1, i2, i3⟩ := (gc_St_g hSv h0 (by omega)).2.2.1
              have bvx : ∀ y, y < g' → gc_bv w v' y = gc_bv w v y := fun y hy => by
                unfold gc_bv; rw [valE, pk_un (by omega)]
              unfold gc_Cg
              rw [m2, m3, m4, m5, bvx _ i1, bvx _ i2, bvx _ i3, hr, valE, pk_us]
            · rcases rw' g' wkv with q | q
              · exact Or.inl (gc_Cg_cg C01 hSv wkv.1 wkv.2.1 (by rw [valE, pk_un (by omega)]) inE q)
              · exact Or.inr (k5 g' (by rw [t5, pk_un e]; exact q))
theorem gc_wChg {post : SX → Prop} {u : SX} {w F : Nat} (C : gc_Ci w u F) (ci : qg_circuit u = nI w) (hv : gc_VL u) {Q0 : Nat → List Nat} (hW : gc_WQ w u Q0 [] (-1)) (hQ0 : Q0 0 = []) (hR : ∀ g, gc_Wk w u g → gc_Cg w u g ∨ qg_waits u g ≠ 0)
    (K : ∀ v, gc_Sy u v → (∀ g, g < 2560 → qg_waits v g = 0) → gc_VL v → (∀ j, (j < w * 2560 + 215 ∨ w * 2560 + 2560 ≤ j) → qg_value v j = qg_value u j) → (∀ g, gc_Wk w v g → gc_Cg w v g) → post v) : wpX_workChanges post u := by
  have hS := C.1
  have a1 := hS.1.1
  have a2 := hS.1.2.2.2
  have loop : ∀ f D v Q, D < 512 → 512 - (D + 1) < f → gc_CI w u v Q [] (-1) → (∀ d, d ≤ D → Q d = []) → ux_workChanges_11 post (nI (w * 2560)) f (nI (D + 1)) v := by
    intro f
    induction f with
    | zero => intro D v Q _ h2; omega
    | succ f ih =>
      intro D v Q hD i2 I hQ
      obtain ⟨Sy, VL, ho, hW, rw'⟩ := id I
      refine uc_workChanges_11 (pk_le 512 (D + 1) (fun q => ?_) fun q => ?_)
      · have wz : ∀ g, g < 2560 → qg_waits v g = 0 := fun g hg => by
          rcases (hW.2.2 g hg).1 with z | z
          · exact z
          · exfalso
            rcases (hW.2.2 g hg).2.mp (by rw [z]; decide) with m | m
            · obtain ⟨wk, lv⟩ := (hW.1 _).2.2 g m
              have wku := (gc_Sx_Wk Sy.1).mp wk
              have lb := C.2.2.2.1.2 g wku.2.1
              rw [Sy.1.2.1.2.1, hQ _ (by omega)] at m
              exact absurd m List.not_mem_nil
            · exact absurd m List.not_mem_nil
        refine K v Sy wz VL ho fun g wk => ?_
        rcases rw' g wk with z | z
        · exact z
        · exact absurd (wz g (by have := ((gc_Sx_Wk Sy.1).mp wk).2.1; omega)) z
      · rw [nI_clamp (by omega), gc_shm]
        obtain ⟨s1, s2, s3, s4, s5⟩ := @gc_wh_F v (upd (qg_waitHead v) (D + 1) (-1))
        have iv : vp_in (nI (D + 1)) 512 := vp_in_nI (by omega) (by decide)
        refine ⟨iv, nm_e ⟨iv, nm_e ⟨(Q (D + 1)).length + 1, ?_⟩⟩⟩
        generalize qs_waitHead v (upd (qg_waitHead v) (D + 1) (-1)) = v1 at s1 s2 s3 s4 s5 ⊢
        obtain ⟨W1, W2, W3⟩ := hW
        obtain ⟨c1, c2, c3⟩ := W1 (D + 1)
        refine gc_wc32 C ci (fun v' Q' I' hQ' => ih (D + 1) v' Q' (by omega) (by omega) I' hQ') _ (Q (D + 1)) v1 (fun d => if d = D + 1 then [] else Q d) _ rfl ⟨gc_Sy_tr Sy s1, by unfold gc_VL; rw [s2]; exact VL, by rw [s2]; exact ho, ?_, fun g wk => ?_⟩ (fun d hd => ?_) fun g hg => ?_
        · unfold gc_WQ
          rw [s3, s4, s5, s1.1.2.1.2.1]
          simp only [gc_Sx_Wk s1.1]
          refine ⟨fun d => ?_, ⟨c1 (by omega), c2⟩, fun g hg => ⟨(W3 g hg).1, (W3 g hg).2.trans ?_⟩⟩
          · by_cases e : d = D + 1
            · rw [if_pos e, e]
              exact ⟨fun _ => pk_us, List.nodup_nil, fun g hg => absurd hg List.not_mem_nil⟩
            · rw [if_neg e, pk_un e]
              exact W1 d
          · by_cases e : gc_lvl w (qg_level v) g = D + 1
            · rw [if_pos e, e]
              constructor
              · rintro (z | z)
                · exact Or.inr z
                · exact absurd z List.not_mem_nil
              · rintro (z | z)
                · exact absurd z List.not_mem_nil
                · exact Or.inl z
            · rw [if_neg e]
              constructor
              · rintro (z | z)
                · exact Or.inl z
                · exact absurd z List.not_mem_nil
              · rintro (z | z)
                · exact Or.inl z
                · exact absurd (c3 g z).2 e
        · have wkv := (gc_Sx_Wk s1.1).mp wk
          rcases rw' g wkv with z | z
          · exact Or.inl (gc_Cg_cg s1.1.1 (gc_St_co Sy.1.1 hS) wkv.1 wkv.2.1 (by rw [s2]) (fun i _ => by rw [s2]) z)
          · exact Or.inr (by rw [s5]; exact z)
        · show (if d = D + 1 then [] else Q d) = []
          by_cases e : d = D + 1
          · rw [if_pos e]
          · rw [if_neg e]; exact hQ d (by omega)
        · obtain ⟨p1, p2⟩ := c3 g hg
          exact ⟨(gc_Sx_Wk Sy.1).mp p1, by rw [← Sy.1.2.1.2.1]; exact p2⟩
  refine uc_workChanges (nm_r (e' := nI (w * 2560)) (by rw [ci]; exact gc_b0) ⟨512, ?_⟩)
  exact loop 512 0 u Q0 (by omega) (by omega) ⟨gc_Sy_rf, hv, fun _ _ => rfl, hW, hR⟩ fun d hd => by
    have : d = 0 := by omega
    rw [this]; exact hQ0
end
section
/-! one cycle -/
theorem gc_Vex {w : Nat} {u : SX} (hS : gc_St w u) (env : Nat → Bool) (e0 : env 0 = false) (e1 : env 1 = true) : ∃ V, gc_Cs w u V ∧ ∀ g, g < 215 → V g = env g := by
  have key : ∀ n, n ≤ gc_cn w u → ∃ V : Nat → Bool, (∀ g, g < 215 → V g = env g) ∧ ∀ g, 215 ≤ g → g < n → V g = gc_op (gc_k w u g) (V (gc_a w u g)) (V (gc_b w u g)) (V (gc_c w u g)) := by
    intro n
    induction n with
    | zero => exact fun _ => ⟨env, fun _ _ => rfl, fun g _ h => absurd h (by omega)⟩
    | succ n ih =>
      intro hn
      obtain ⟨V, v1, v2⟩ := ih (by omega)
      rcases Nat.lt_or_ge n 215 with q | q
      · exact ⟨V, v1, fun g h0 hg => v2 g h0 (by omega)⟩
      · refine ⟨fun g => if g = n then gc_op (gc_k w u n) (V (gc_a w u n)) (V (gc_b w u n)) (V (gc_c w u n)) else V g, fun g hg => ?_, fun g h0 hg => ?_⟩
        · show (if g = n then _ else V g) = env g
          rw [if_neg (by omega)]; exact v1 g hg
        · obtain ⟨i1, i2, i3⟩ := (gc_St_g hS h0 (by omega)).2.2.1
          dsimp only
          rw [if_neg (show gc_a w u g ≠ n by omega), if_neg (show gc_b w u g ≠ n by omega), if_neg (show gc_c w u g ≠ n by omega)]
          by_cases e : g = n
          · rw [if_pos e, e]
          · rw [if_neg e]; exact v2 g h0 (by omega)
  obtain ⟨V, v1, v2⟩ := key (gc_cn w u) (Nat.le_refl _)
  exact ⟨V, ⟨(v1 0 (by omega)).trans e0, (v1 1 (by omega)).trans e1, v2⟩, v1⟩
/-- what is worked out agrees with a valuation of all gates -/
theorem gc_Vlv {w F : Nat} {u : SX} (C : gc_Ci w u F) (h0 : qg_value u (w * 2560) = 0) (h1 : qg_value u (w * 2560 + 1) = 1) (hR : ∀ g, gc_Wk w u g → gc_Cg w u g) : ∃ V, gc_Cs w u V ∧ (∀ g, g < 215 → V g = gc_bv w u g) ∧ ∀ i, i < 189 → V (gc_a w u (26 + i)) = gc_bv w u (gc_a w u (26 + i)) := by
  have hS := C.1
  obtain ⟨V, v1, v2⟩ := gc_Vex hS (gc_bv w u) (by unfold gc_bv; rw [Nat.add_zero, h0]; rfl) (by unfold gc_bv; rw [h1]; rfl)
  have cl := C.2.2.1
  have key : ∀ n g, g < n → g < gc_cn w u → (g < 215 ∨ gc_Wk w u g) → V g = gc_bv w u g := by
    intro n
    induction n with
    | zero => exact fun g h => absurd h (by omega)
    | succ n ih =>
      intro g hg hc hh
      rcases hh with q | wk
      · exact v2 g q
      · have hin := gc_St_in hS wk.1 hc
        have use : ∀ i, i < gc_ni (gc_k w u g) → V (gc_in w u g i) = gc_bv w u (gc_in w u g i) := fun i hi => by
          have l1 := cl.1.2.2 g (by omega) wk.1 hc wk.2.2 i hi
          have := hin i
          refine ih _ (by omega) (by omega) ?_
          rcases Nat.lt_or_ge (gc_in w u g i) 215 with q | q
          · exact Or.inl q
          · exact Or.inr ⟨q, by omega, by rw [l1]; decide⟩
        have n0 := gc_ni_le (gc_k w u g)
        rw [v1.2.2 g wk.1 hc, gc_bv2 (hR g wk)]
        refine gc_op_cg (gc_St_g hS wk.1 hc).2.1 (use 0 (by omega)) (fun z => use 1 ?_) fun z => use 2 ?_
        · unfold gc_ni; split <;> omega
        · unfold gc_ni; rw [if_pos z]; omega
  refine ⟨V, v1, v2, fun i hi => ?_⟩
  have fa := (gc_St_F hS hi).2
  refine key _ _ (Nat.lt_succ_self _) fa ?_
  rcases Nat.lt_or_ge (gc_a w u (26 + i)) 215 with q | q
  · exact Or.inl q
  · exact Or.inr ⟨q, fa, by rw [cl.2 i hi]; decide⟩
theorem gc_st_F {u : SX} {a : Nat → Int32} : (gc_Sx u (qs_state u a) ∧ qg_circuit (qs_state u a) = qg_circuit u ∧ qg_fresh (qs_state u a) = qg_fresh u ∧ qg_value (qs_state u a) = qg_value u ∧ qg_waits (qs_state u a) = qg_waits u) ∧ qg_state (qs_state u a) = a := ⟨⟨⟨⟨rfl, rfl, rfl, rfl, rfl⟩, ⟨rfl, rfl, rfl, rfl, rfl⟩, rfl, rfl⟩, rfl, rfl, rfl, rfl⟩, rfl⟩
theorem gc_st_s {u : SX} {a b : Nat → Int32} : qs_state (qs_state u a) b = qs_state u b := rfl
theorem gc_st_e {u : SX} : qs_state u (qg_state u) = u := rfl
theorem gc_t100 {post : SX → Prop} {u : SX} {w : Nat} (hS : gc_St w u) (hv : gc_VL u)
    (K : ∀ a, (∀ i, i < 189 → a i = qg_value u (w * 2560 + gc_a w u (26 + i))) → post (qs_state u a)) : ∃ n, ux_tick_100 post (nI (w * 2560)) n 0 u := by
  have a1 := hS.1.1
  have a2 := hS.1.2.2.2
  have loop : ∀ f i a, i ≤ 189 → 189 - i < f → (∀ i', i' < i → a i' = qg_value u (w * 2560 + gc_a w u (26 + i'))) → ux_tick_100 post (nI (w * 2560)) f (nI i) (qs_state u a) := by
    intro f
    induction f with
    | zero => intro i a _ h2; omega
    | succ f ih =>
      intro i a i1 i2 ha
      obtain ⟨⟨s1, s2, s3, s4, s5⟩, s6⟩ := @gc_st_F u a
      refine uc_tick_100 (pk_le 189 i (fun q => ?_) fun q => ?_)
      · have e : i = 189 := by omega
        subst e
        exact K a ha
      · have ff := gc_St_F hS q
        have e1 : nI (w * 2560) + 26 + nI i = nI (w * 2560 + (26 + i)) := by rw [show (26 : Int32) = nI 26 from rfl, nI_add, nI_add, Nat.add_assoc]
        rw [e1, nI_clamp (by omega), s1.1.2.2.1, s4, s6]
        refine ⟨vp_in_nI (by omega) (by decide), nm_r ff.1 ?_⟩
        rw [nI_add, nI_clamp (n := i) (by omega), nI_clamp (n := w * 2560 + gc_a w u (26 + i)) (by omega)]
        have eb : vp_nar .byte (qg_value u (w * 2560 + gc_a w u (26 + i))) = qg_value u (w * 2560 + gc_a w u (26 + i)) := by
          rcases hv (w * 2560 + gc_a w u (26 + i)) (by omega) with z | z
          · rw [z]; exact gc_vby0
          · rw [z]; exact gc_vby1
        rw [eb]
        refine ⟨vp_in_nI (by omega) (by decide), vp_in_nI q (by decide), nm_e (nm_r (nI_1 i) ?_)⟩
        rw [gc_st_s]
        refine ih (i + 1) _ (by omega) (by omega) fun i' hi' => ?_
        by_cases e : i' = i
        · rw [e, pk_us]
        · rw [pk_un e]; exact ha i' (by omega)
  refine ⟨190, ?_⟩
  have := loop 190 0 (qg_state u) (by omega) (by omega) fun i' hi' => absurd hi' (by omega)
  rw [gc_st_e] at this
  exact this
theorem gc_fr_F {u : SX} {a : Nat → Int32} : (gc_Sx u (qs_fresh u a) ∧ qg_circuit (qs_fresh u a) = qg_circuit u ∧ qg_state (qs_fresh u a) = qg_state u ∧ qg_value (qs_fresh u a) = qg_value u ∧ qg_waits (qs_fresh u a) = qg_waits u) ∧ qg_fresh (qs_fresh u a) = a := ⟨⟨⟨⟨rfl, rfl, rfl, rfl, rfl⟩, ⟨rfl, rfl, rfl, rfl, rfl⟩, rfl, rfl⟩, rfl, rfl, rfl, rfl⟩, rfl⟩
theorem gc_ci_F {u : SX} {a : Int32} : (gc_Sx u (qs_circuit u a) ∧ qg_state (qs_circuit u a) = qg_state u ∧ qg_fresh (qs_circuit u a) = qg_fresh u ∧ qg_value (qs_circuit u a) = qg_value u ∧ qg_waits (qs_circuit u a) = qg_waits u) ∧ qg_circuit (qs_circuit u a) = a := ⟨⟨⟨⟨rfl, rfl, rfl, rfl, rfl⟩, ⟨rfl, rfl, rfl, rfl, rfl⟩, rfl, rfl⟩, rfl, rfl, rfl, rfl⟩, rfl⟩
theorem gc_wh_s {u : SX} {a b : Nat → Int32} : qs_waitHead (qs_waitHead u a) b = qs_waitHead u b := rfl
theorem gc_wh_e {u : SX} : qs_waitHead u (qg_waitHead u) = u := rfl
/-- what a cycle of circuit w does to the flip-flops -/
def gc_Tk (w : Nat) (u u' : SX) (W P : Nat) : Prop := ∃ V, gc_Cs w u V ∧ (∀ i, i < 16 → V (2 + i) = W.testBit i) ∧ (∀ i, i < 8 → V (18 + i) = P.testBit i) ∧ (∀ i, i < 189 → V (26 + i) = gc_sb u i) ∧ ∀ i, i < 189 → gc_sb u' i = V (gc_a w u (26 + i))
/-- the end of a cycle: v is worked out -/
theorem gc_tEnd {u v u' : SX} {w F W P : Nat} (X : gc_XI u) (hw : w < 2) (C : gc_Ci w u F) (hSx : gc_Sx u v) (VL : gc_VL v) (hval : ∀ j, (j < w * 2560 + 2 ∨ w * 2560 + 2560 ≤ j) → qg_value v j = qg_value u j) (hR : ∀ g, gc_Wk w v g → gc_Cg w v g) (hwt : ∀ g, g < 2560 → qg_waits v g = 0) (hfr : ∀ w', w' < 2 → w' ≠ w → qg_fresh v w' = qg_fresh u w') (hDr : gc_Dr w u v W P)
    (hu' : gc_Sx v u' ∧ qg_fresh u' = qg_fresh v ∧ qg_value u' = qg_value v ∧ qg_waits u' = qg_waits v) (hst : ∀ i, i < 189 → qg_state u' i = qg_value v (w * 2560 + gc_a w v (26 + i))) : gc_XI u' ∧ gc_Tk w u u' W P := by
  obtain ⟨k1, k2, k3, k4⟩ := hu'
  have Sxu := gc_Sx_tr hSx k1
  have Cv := gc_Sx_Ci hSx C
  have hS := C.1
  have hSv := Cv.1
  have a2 := hSv.1.2.2.2
  obtain ⟨X1, X2, X3, X4, X5, X6, X7⟩ := X
  obtain ⟨V, v1, v2, v3⟩ := gc_Vlv Cv (by rw [hval _ (Or.inl (by omega))]; exact (X3 w hw).1) (by rw [hval _ (Or.inl (by omega))]; exact (X3 w hw).2) hR
  have nE := gc_Co_n hSx.1 w
  refine ⟨⟨?_, ?_, fun w' hw' => ?_, ?_, fun w' hw' hf g wk => ?_, fun g hg => by rw [k4]; exact hwt g hg, fun i hi => ?_⟩, V, gc_Cs_co hSx.1 v1, fun i hi => ?_, fun i hi => ?_, fun i hi => ?_, fun i hi => ?_⟩
  · obtain ⟨F1, h1⟩ := X1; exact ⟨F1, gc_Sx_Ci Sxu h1⟩
  · obtain ⟨F1, h1⟩ := X2; exact ⟨F1, gc_Sx_Ci Sxu h1⟩
  · rw [k3]
    by_cases e : w' = w
    · subst e
      rw [hval _ (Or.inl (by omega)), hval _ (Or.inl (by omega))]; exact X3 w' hw'
    · have : w' = 0 ∧ w = 1 ∨ w' = 1 ∧ w = 0 := by omega
      rw [hval _ (by omega), hval _ (by omega)]; exact X3 w' hw'
  · unfold gc_VL; rw [k3]; exact VL
  · by_cases e : w' = w
    · subst e
      have wkv := (gc_Sx_Wk k1).mp wk
      exact gc_Cg_cg k1.1 hSv wkv.1 wkv.2.1 (by rw [k3]) (fun i _ => by rw [k3]) (hR g wkv)
    · obtain ⟨F1, C1⟩ := gc_XI_c ⟨X1, X2, X3, X4, X5, X6, X7⟩ hw'
      have wku := (gc_Sx_Wk Sxu).mp wk
      rw [k2, hfr w' hw' e] at hf
      have s4 := C1.1.1.2.2.2
      have gl := wku.2.1
      have hin := gc_St_in C1.1 wku.1 wku.2.1
      have : w' = 0 ∧ w = 1 ∨ w' = 1 ∧ w = 0 := by omega
      refine gc_Cg_cg Sxu.1 C1.1 wku.1 wku.2.1 (by rw [k3, hval _ (by omega)]) (fun i _ => ?_) (X5 w' hw' hf g wku)
      have := hin i
      rw [k3, hval _ (by omega)]
  · have := (gc_St_F hSv hi).2
    rw [hst i hi]; exact VL _ (by omega)
  · rw [v2 _ (by omega)]; exact hDr.1 i hi
  · rw [v2 _ (by omega)]; exact hDr.2.1 i hi
  · rw [v2 _ (by omega)]; exact hDr.2.2 i hi
  · unfold gc_sb
    rw [hst i hi, ← nE.2.2.1, v3 i hi]
    rfl
theorem gc_tick {post : SX → Prop} {u : SX} {e W P : Nat} (X : gc_XI u) (he : e < 4) (hW : qg_words u (gc_vl (fun i => gc_sb u (162 + i)) 5) = nI W) (hW2 : W < 65536) (hP : qg_port u = nI P) (hP2 : P < 256)
    (K : ∀ u', gc_XI u' → qg_words u' = qg_words u → qg_port u' = qg_port u → gc_Tk (e / 2) u u' W P → post u') : wpX_tick post u (nI e) := by
  have hw : e / 2 < 2 := by omega
  have ee : ∀ e, e < 4 → nI e >>> ((1 : Int32) &&& 31) = nI (e / 2) ∧ (nI e &&& 1 = 1 ↔ e % 2 = 1) := by decide +kernel
  obtain ⟨e1, e2⟩ := ee e he
  generalize hwe : e / 2 = w at hw e1 K
  obtain ⟨F, C⟩ := gc_XI_c X hw
  refine uc_tick (nm_r e1 ?_)
  obtain ⟨⟨c1, c2, c3, c4, c5⟩, c6⟩ := @gc_ci_F u (nI w)
  generalize qs_circuit u (nI w) = u1 at c1 c2 c3 c4 c5 c6 ⊢
  have C1 := gc_Sx_Ci c1 C
  have VL1 : gc_VL u1 := by unfold gc_VL; rw [c4]; exact X.2.2.2.1
  have hst1 : ∀ i, i < 189 → qg_state u1 i = 0 ∨ qg_state u1 i = 1 := by rw [c2]; exact X.2.2.2.2.2.2
  have sbE : ∀ i, gc_sb u1 i = gc_sb u i := fun i => by unfold gc_sb; rw [c2]
  have hW1 : qg_words u1 (gc_vl (fun i => gc_sb u1 (162 + i)) 5) = nI W := by
    simp only [sbE]; rw [c1.2.2.1]; exact hW
  have hP1 : qg_port u1 = nI P := c1.2.2.2.trans hP
  have w0 : ∀ g, g < 2560 → qg_waits u1 g = 0 := by rw [c5]; exact X.2.2.2.2.2.1
  have plain : ux_tick_30 post u1 := by
    refine uc_tick_30 (uc_tick_31 (br_t rfl (uc_tick_58 ?_)))
    refine gc_drvAll C1 c6 ⟨gc_Sy_rf, VL1, fun _ _ => rfl, Or.inl ⟨rfl, rfl⟩⟩ hst1 hW1 hW2 hP1 hP2 fun v I D => br_t rfl ?_
    obtain ⟨Sy, VLv, hov, hwv⟩ := I
    have wv : qg_waits v = qg_waits u1 := by
      rcases hwv with ⟨_, q⟩ | ⟨q, _⟩
      · exact q
      · exact absurd q (by decide)
    have cv := Sy.2.1.trans c6
    have Cv := gc_Sx_Ci Sy.1 C1
    refine gc_wAll Cv.1 cv VLv fun v2 Sy2 wt2 VL2 ho2 hR2 => ?_
    have cv2 := Sy2.2.1.trans cv
    have Cv2 := gc_Sx_Ci Sy2.1 Cv
    rw [cv2, nI_clamp (by omega), gc_vb1, gc_b0]
    refine ⟨vp_in_nI hw (by decide), nm_e (nm_e ?_)⟩
    obtain ⟨⟨f1, f2, f3, f4, f5⟩, f6⟩ := @gc_fr_F v2 (upd (qg_fresh v2) w 1)
    generalize qs_fresh v2 (upd (qg_fresh v2) w 1) = v3 at f1 f2 f3 f4 f5 f6 ⊢
    have Cv3 := gc_Sx_Ci f1 Cv2
    have VL3 : gc_VL v3 := by unfold gc_VL; rw [f4]; exact VL2
    refine gc_t100 Cv3.1 VL3 fun a ha => ?_
    obtain ⟨⟨s1, s2, s3, s4, s5⟩, s6⟩ := @gc_st_F v3 a
    generalize qs_state v3 a = v4 at s1 s2 s3 s4 s5 s6 ⊢
    have Sx3 := gc_Sx_tr (gc_Sx_tr (gc_Sx_tr c1 Sy.1) Sy2.1) f1
    have bvE : ∀ g, g < 215 → gc_bv w v3 g = gc_bv w v g := fun g hg => by unfold gc_bv; rw [f4, ho2 _ (Or.inl (by omega))]
    have res := gc_tEnd (u' := v4) X hw C Sx3 VL3 (fun j hj => by
      rw [f4, ho2 j (by omega), hov j (by omega), c4]) (fun g wk => by
      have wk2 := (gc_Sx_Wk f1).mp wk
      exact gc_Cg_cg f1.1 Cv2.1 wk2.1 wk2.2.1 (by rw [f4]) (fun i _ => by rw [f4]) (hR2 g wk2)) (fun g hg => by rw [f5, wt2, wv]; exact w0 g hg) (fun w' _ hne => by rw [f6, pk_un hne, Sy2.2.2.2, Sy.2.2.2, c3]) ⟨fun i hi => by rw [bvE _ (by omega)]; exact D.1 i hi, fun i hi => by rw [bvE _ (by omega)]; exact D.2.1 i hi, fun i hi => by rw [bvE _ (by omega), D.2.2 i hi]; exact sbE i⟩ ⟨s1, s3, s4, s5⟩ (fun i hi => by rw [s6]; exact ha i hi)
    have SxA := gc_Sx_tr Sx3 s1
    exact K v4 res.1 SxA.2.2.1 SxA.2.2.2 res.2
  by_cases od : e % 2 = 1
  · refine br_t (e2.mpr od) ?_
    rw [nI_clamp (n := w) (by omega)]
    refine ⟨vp_in_nI hw (by decide), br_c (fun _ => plain) fun hf => ?_⟩
    refine uc_tick_31 (br_f (by decide) ⟨513, ?_⟩)
    have l38 : ∀ f i a, i ≤ 512 → 512 - i < f → (∀ d, d < i → a d = -1) → ux_tick_38 post 1 f (nI i) (qs_waitHead u1 a) := by
      intro f
      induction f with
      | zero => intro i a _ h2; omega
      | succ f ih =>
        intro i a i1 i2 ha
        obtain ⟨h1, h2, h3, h4, h5⟩ := @gc_wh_F u1 a
        refine uc_tick_38 (pk_le 512 i (fun q => ?_) fun q => ?_)
        · have e : i = 512 := by omega
          subst e
          generalize qs_waitHead u1 a = v0 at h1 h2 h3 h4 h5 ⊢
          have C0 := gc_Sx_Ci h1.1 C1
          have VL0 : gc_VL v0 := by unfold gc_VL; rw [h2]; exact VL1
          have WQ0 : gc_WQ w v0 (fun _ => []) [] (-1) := by
            refine ⟨fun d => ⟨fun hd => ?_, List.nodup_nil, fun g hg => absurd hg List.not_mem_nil⟩, ⟨rfl, List.nodup_nil⟩, fun g hg => ?_⟩
            · rw [h3]; exact ha d hd
            · rw [h5, w0 g hg]
              refine ⟨Or.inl rfl, fun z => absurd rfl z, ?_⟩
              rintro (z | z) <;> exact absurd z List.not_mem_nil
          have fr0 : ∀ g, gc_Wk w v0 g → gc_Cg w v0 g := fun g wk => by
            have S0 := gc_Sx_tr c1 h1.1
            have wku := (gc_Sx_Wk S0).mp wk
            exact gc_Cg_cg S0.1 C.1 wku.1 wku.2.1 (by rw [h2, c4]) (fun i _ => by rw [h2, c4]) (X.2.2.2.2.1 w hw hf g wku)
          have sbE0 : ∀ i, gc_sb v0 i = gc_sb u i := fun i => by unfold gc_sb; rw [h1.2.2.1, c2]
          refine uc_tick_58 ?_
          refine gc_drvAll C0 (h1.2.1.trans c6) ⟨gc_Sy_rf, VL0, fun _ _ => rfl, Or.inr ⟨rfl, _, WQ0, rfl, fun g wk => Or.inl (fr0 g wk)⟩⟩ (by rw [h1.2.2.1]; exact hst1) (by simp only [sbE0]; rw [h1.1.2.2.1, c1.2.2.1]; exact hW) hW2 (h1.1.2.2.2.trans hP1) hP2 fun v I D => br_f (by decide) ?_
          obtain ⟨Sy, VLv, hov, hwv⟩ := I
          have wq : ∃ Q, gc_WQ w v Q [] (-1) ∧ Q 0 = [] ∧ ∀ g, gc_Wk w v g → gc_Cg w v g ∨ qg_waits v g ≠ 0 := by
            rcases hwv with ⟨q, _⟩ | ⟨_, q⟩
            · exact absurd q (by decide)
            · exact q
          obtain ⟨Q, q1, q2, q3⟩ := wq
          have cv := Sy.2.1.trans (h1.2.1.trans c6)
          have Cv := gc_Sx_Ci Sy.1 C0
          refine gc_wChg Cv cv VLv q1 q2 q3 fun v2 Sy2 wt2 VL2 ho2 hR2 => ?_
          have cv2 := Sy2.2.1.trans cv
          have Cv2 := gc_Sx_Ci Sy2.1 Cv
          rw [cv2, gc_b0]
          refine nm_e ?_
          refine gc_t100 Cv2.1 VL2 fun a ha => ?_
          obtain ⟨⟨s1, s2, s3, s4, s5⟩, s6⟩ := @gc_st_F v2 a
          generalize qs_state v2 a = v4 at s1 s2 s3 s4 s5 s6 ⊢
          have Sx3 := gc_Sx_tr (gc_Sx_tr (gc_Sx_tr c1 h1.1) Sy.1) Sy2.1
          have bvE : ∀ g, g < 215 → gc_bv w v2 g = gc_bv w v g := fun g hg => by unfold gc_bv; rw [ho2 _ (Or.inl (by omega))]
          have res := gc_tEnd (u' := v4) X hw C Sx3 VL2 (fun j hj => by
            rw [ho2 j (by omega), hov j (by omega), h2, c4]) hR2 wt2 (fun w' _ hne => by rw [Sy2.2.2.2, Sy.2.2.2, h1.2.2.2, c3]) ⟨fun i hi => by rw [bvE _ (by omega)]; exact D.1 i hi, fun i hi => by rw [bvE _ (by omega)]; exact D.2.1 i hi, fun i hi => by rw [bvE _ (by omega), D.2.2 i hi]; exact sbE0 i⟩ ⟨s1, s3, s4, s5⟩ (fun i hi => by rw [s6]; exact ha i hi)
          have SxA := gc_Sx_tr Sx3 s1
          exact K v4 res.1 SxA.2.2.1 SxA.2.2.2 res.2
        · rw [h3, gc_shm, nI_clamp (by omega)]
          refine ⟨vp_in_nI q (by decide), nm_e (nm_r (nI_1 i) ?_)⟩
          rw [gc_wh_s]
          refine ih (i + 1) _ (by omega) (by omega) fun d hd => ?_
          by_cases e : d = i
          · rw [e, pk_us]
          · rw [pk_un e]; exact ha d (by omega)
    have := l38 513 0 (qg_waitHead u1) (by omega) (by omega) fun d hd => absurd hd (by omega)
    rw [gc_wh_e] at this
    exact this
  · exact br_f (fun z => od (e2.mp z)) plain
end
section
/-! the plain law: what the result is, in numbers -/
theorem gc_vl_of {f : Nat → Bool} {n z : Nat} (hz : z < 2 ^ n) (h : ∀ j, j < n → z.testBit j = f j) : gc_vl f n = z := by
  have := gc_vl_tb z n
  rw [Nat.mod_eq_of_lt hz] at this
  rw [← gc_vl_cg h]; exact this
theorem gc_vl_tk (W k n : Nat) : gc_vl (fun j => W.testBit (k + j)) n = W / 2 ^ k % 2 ^ n := by
  rw [← gc_vl_tb]
  exact gc_vl_cg fun j _ => by rw [Nat.testBit_div_two_pow, Nat.add_comm]
theorem gc_vl_not (f : Nat → Bool) (n : Nat) : gc_vl (fun j => f j ^^ true) n + gc_vl f n + 1 = 2 ^ n := by
  induction n with
  | zero => rfl
  | succ n ih =>
    have e : 2 ^ (n + 1) = 2 * 2 ^ n := Nat.pow_succ'
    show gc_vl (fun j => f j ^^ true) n + (if (f n ^^ true) then 2 ^ n else 0) + (gc_vl f n + (if f n then 2 ^ n else 0)) + 1 = _
    rw [e]
    generalize gc_vl (fun j => f j ^^ true) n = A at ih
    generalize gc_vl f n = B at ih
    cases f n
    · show A + 2 ^ n + (B + 0) + 1 = 2 * 2 ^ n
      omega
    · show A + 0 + (B + 2 ^ n) + 1 = 2 * 2 ^ n
      omega
def gc_tu (y : Nat) : Nat := gc_vl (fun j => y.testBit (7 - j)) 8
def gc_rs (op m x y P : Nat) (c : Bool) (cl : Nat → Nat) : Nat :=
  if op = 1 then m else if op = 2 then (if m % 4 = 0 then y else if m % 4 = 1 then x * y % 256 else if m % 4 = 2 then x * y / 256 else gc_tu y) else if op = 3 then (x + y) % 256 else if op = 4 then (x + y + (if c then 1 else 0)) % 256 else if op = 5 then (x + 256 - y) % 256 else if op = 6 then x &&& y else if op = 7 then x ||| y else if op = 8 then x ^^^ y else if op = 9 then (if m % 2 = 0 then 2 * x % 256 + (if (decide (m / 2 % 2 = 1) && c) then 1 else 0) else x / 2 + (if (decide (m / 2 % 2 = 1) && c) then 128 else 0)) else if op = 10 then cl ((y + m) % 16) else P
def gc_cy (op m x y : Nat) (c : Bool) : Bool := if op = 3 then decide (256 ≤ x + y) else if op = 4 then decide (256 ≤ x + y + (if c then 1 else 0)) else if op = 5 then decide (x < y) else if m % 2 = 0 then decide (128 ≤ x) else decide (x % 2 = 1)
theorem gc_m01 (f : Nat → Bool) : (f 0 = decide (gc_vl f 8 % 2 = 1)) ∧ (f 1 = decide (gc_vl f 8 / 2 % 2 = 1)) ∧ gc_vl f 8 % 4 = (if f 0 then 1 else 0) + (if f 1 then 2 else 0) ∧ gc_vl f 8 % 2 = (if f 0 then 1 else 0) := by
  have h1 := gc_vl_mod f (m := 1) (n := 8) (by decide)
  have h2 := gc_vl_mod f (m := 2) (n := 8) (by decide)
  have e1 : gc_vl f 1 = (if f 0 then 1 else 0) := by show 0 + (if f 0 then 2 ^ 0 else 0) = _; rw [Nat.zero_add]
  have e2 : gc_vl f 2 = gc_vl f 1 + (if f 1 then 2 ^ 1 else 0) := rfl
  rw [e1] at h1
  rw [e2, e1] at h2
  have h1' : gc_vl f 8 % 2 = (if f 0 then 1 else 0) := h1
  have h2' : gc_vl f 8 % 4 = (if f 0 then 1 else 0) + (if f 1 then 2 else 0) := h2
  generalize gc_vl f 8 = m at h1' h2'
  refine ⟨?_, ?_, h2', h1'⟩
  · rw [h1']; cases f 0 <;> rfl
  · have : m / 2 % 2 = (if f 1 then 1 else 0) := by
      cases h0 : f 0 <;> cases h3 : f 1 <;> rw [h0, h3] at h2' <;> simp at h2' ⊢ <;> omega
    rw [this]; cases f 1 <;> rfl
theorem gc_rsX {V : Nat → Bool} {O L R Rs Ad : Nat → Nat} {c op : Nat} {cl : Nat → Nat} (h : gc_RS V O L R Rs Ad c) (hO : ∀ j, j < 16 → V (O j) = decide (op = j)) (hcl : ∀ a, a < 16 → cl a = gc_vl (fun t => V (58 + 8 * a + t)) 8) :
    (gc_vl (fun j => V (Ad j)) 4 = (gc_vl (fun j => V (R j)) 8 + gc_vl (fun j => V (10 + j)) 8) % 16) ∧
    ((1 ≤ op ∧ op ≤ 10) ∨ op = 15 → gc_vl (fun j => V (Rs j)) 8 = gc_rs op (gc_vl (fun j => V (10 + j)) 8) (gc_vl (fun j => V (L j)) 8) (gc_vl (fun j => V (R j)) 8) (gc_vl (fun j => V (18 + j)) 8) (V 187) cl) ∧
    ((3 ≤ op ∧ op ≤ 5) ∨ op = 9 → V c = gc_cy op (gc_vl (fun j => V (10 + j)) 8) (gc_vl (fun j => V (L j)) 8) (gc_vl (fun j => V (R j)) 8) (V 187)) := by
  obtain ⟨sm, P, p1, p2, p3, p4, q⟩ := h
  have hL := gc_vl_lt (fun j => V (L j)) 8
  have hR := gc_vl_lt (fun j => V (R j)) 8
  have m01 := gc_m01 (fun j => V (10 + j))
  have ad : gc_vl (fun j => V (Ad j)) 4 = (gc_vl (fun j => V (R j)) 8 + gc_vl (fun j => V (10 + j)) 8) % 16 := by
    have a1 := gc_vl_mod (fun j => V (Ad j)) (m := 4) (n := 5) (by decide)
    have a2 := gc_vl_mod (fun j => V (R j)) (m := 4) (n := 8) (by decide)
    have a3 := gc_vl_mod (fun j => V (10 + j)) (m := 4) (n := 8) (by decide)
    omega
  have s8 := gc_vl_mod sm (m := 8) (n := 9) (by decide)
  have s9 : gc_vl sm 9 = gc_vl sm 8 + (if sm 8 then 256 else 0) := rfl
  have sl := gc_vl_lt sm 8
  have tbL : ∀ j, j < 8 → (gc_vl (fun j => V (L j)) 8).testBit j = V (L j) := fun j hj => gc_tb_vl hj
  have tbR : ∀ j, j < 8 → (gc_vl (fun j => V (R j)) 8).testBit j = V (R j) := fun j hj => gc_tb_vl hj
  -- the three sums
  have sum34 : V (O 5) = false → V (O 1) = false → V (O 2) = false → V (O 6) = false → V (O 7) = false → V (O 8) = false → V (O 9) = false → V (O 10) = false → V (O 15) = false → gc_vl (fun j => V (Rs j)) 8 = (gc_vl (fun j => V (L j)) 8 + gc_vl (fun j => V (R j)) 8 + (if (V (O 4) && V 187) then 1 else 0)) % 256 ∧ V c = decide (256 ≤ gc_vl (fun j => V (L j)) 8 + gc_vl (fun j => V (R j)) 8 + (if (V (O 4) && V 187) then 1 else 0)) := by
    intro o5 o1 o2 o6 o7 o8 o9 o10 o15
    rw [o5] at p1
    have e1 : gc_vl (fun j => V (R j) ^^ false) 8 = gc_vl (fun j => V (R j)) 8 := gc_vl_cg fun j _ => Bool.xor_false _
    rw [e1, Bool.false_or] at p1
    have e2 : gc_vl (fun j => V (Rs j)) 8 = gc_vl sm 8 := gc_vl_cg fun j hj => by
      rw [q j hj, o1, o2, o6, o7, o8, o9, o10, o15]; rfl
    rw [e2, p2, o9, o5, ← p1]
    refine ⟨s8.symm, ?_⟩
    show (sm 8 ^^ false) = _
    rw [Bool.xor_false, s9]
    cases sm 8
    · simp; omega
    · simp
  refine ⟨ad, fun hop => ?_, fun hop => ?_⟩
  · have hop' : op = 1 ∨ op = 2 ∨ op = 3 ∨ op = 4 ∨ op = 5 ∨ op = 6 ∨ op = 7 ∨ op = 8 ∨ op = 9 ∨ op = 10 ∨ op = 15 := by omega
    rcases hop' with rfl | rfl | rfl | rfl | rfl | rfl | rfl | rfl | rfl | rfl | rfl
    · have o1 : V (O 1) = true := hO 1 (by omega)
      exact gc_vl_cg fun j hj => by rw [q j hj, o1]; rfl
    · have o1 : V (O 1) = false := hO 1 (by omega)
      have o2 : V (O 2) = true := hO 2 (by omega)
      have eP := gc_vl_mod P (m := 8) (n := 16) (by decide)
      have eD := gc_vl_div P (m := 8) (n := 16) (by decide)
      rw [p3] at eP eD
      show _ = if gc_vl (fun j => V (10 + j)) 8 % 4 = 0 then _ else if gc_vl (fun j => V (10 + j)) 8 % 4 = 1 then _ else if gc_vl (fun j => V (10 + j)) 8 % 4 = 2 then _ else _
      rw [m01.2.2.1]
      show _ = if (if V 10 then 1 else 0) + (if V 11 then 2 else 0) = 0 then _ else if (if V 10 then 1 else 0) + (if V 11 then 2 else 0) = 1 then _ else if (if V 10 then 1 else 0) + (if V 11 then 2 else 0) = 2 then _ else _
      cases v10 : V 10 <;> cases v11 : V 11
      · exact gc_vl_cg fun j hj => by rw [q j hj, o1, o2, v10, v11]; rfl
      · show _ = gc_vl (fun j => V (L j)) 8 * gc_vl (fun j => V (R j)) 8 / 256
        rw [show (256 : Nat) = 2 ^ 8 from rfl, eD]
        exact gc_vl_cg fun j hj => by rw [q j hj, o1, o2, v10, v11]; rfl
      · show _ = gc_vl (fun j => V (L j)) 8 * gc_vl (fun j => V (R j)) 8 % 256
        rw [show (256 : Nat) = 2 ^ 8 from rfl, eP]
        exact gc_vl_cg fun j hj => by rw [q j hj, o1, o2, v10, v11]; rfl
      · show _ = gc_tu _
        exact gc_vl_cg fun j hj => by rw [q j hj, o1, o2, v10, v11, tbR (7 - j) (by omega)]; rfl
    · have s := (sum34 (hO 5 (by omega)) (hO 1 (by omega)) (hO 2 (by omega)) (hO 6 (by omega)) (hO 7 (by omega)) (hO 8 (by omega)) (hO 9 (by omega)) (hO 10 (by omega)) (hO 15 (by omega))).1
      rw [show V (O 4) = false from hO 4 (by omega)] at s
      exact s
    · have s := (sum34 (hO 5 (by omega)) (hO 1 (by omega)) (hO 2 (by omega)) (hO 6 (by omega)) (hO 7 (by omega)) (hO 8 (by omega)) (hO 9 (by omega)) (hO 10 (by omega)) (hO 15 (by omega))).1
      rw [show V (O 4) = true from hO 4 (by omega), Bool.true_and] at s
      exact s
    · have o5 : V (O 5) = true := hO 5 (by omega)
      rw [o5] at p1
      have en := gc_vl_not (fun j => V (R j)) 8
      have e2 : gc_vl (fun j => V (Rs j)) 8 = gc_vl sm 8 := gc_vl_cg fun j hj => by
        rw [q j hj, show V (O 1) = false from hO 1 (by omega), show V (O 2) = false from hO 2 (by omega), show V (O 6) = false from hO 6 (by omega), show V (O 7) = false from hO 7 (by omega), show V (O 8) = false from hO 8 (by omega), show V (O 9) = false from hO 9 (by omega), show V (O 10) = false from hO 10 (by omega), show V (O 15) = false from hO 15 (by omega)]; rfl
      rw [e2, ← s8, p1]
      show (_ + _ + 1) % 256 = (gc_vl (fun j => V (L j)) 8 + 256 - gc_vl (fun j => V (R j)) 8) % 256
      congr 1
      omega
    · have e : gc_vl (fun j => V (Rs j)) 8 = gc_vl (fun j => V (L j) && V (R j)) 8 := gc_vl_cg fun j hj => by
        rw [q j hj, show V (O 1) = false from hO 1 (by omega), show V (O 2) = false from hO 2 (by omega), show V (O 6) = true from hO 6 (by omega)]; rfl
      rw [e]
      show _ = gc_vl (fun j => V (L j)) 8 &&& gc_vl (fun j => V (R j)) 8
      exact gc_vl_of (Nat.and_lt_two_pow _ hR) fun j hj => by rw [Nat.testBit_and, tbL j hj, tbR j hj]
    · have e : gc_vl (fun j => V (Rs j)) 8 = gc_vl (fun j => V (L j) || V (R j)) 8 := gc_vl_cg fun j hj => by
        rw [q j hj, show V (O 1) = false from hO 1 (by omega), show V (O 2) = false from hO 2 (by omega), show V (O 6) = false from hO 6 (by omega), show V (O 7) = true from hO 7 (by omega)]; rfl
      rw [e]
      show _ = gc_vl (fun j => V (L j)) 8 ||| gc_vl (fun j => V (R j)) 8
      exact gc_vl_of (Nat.or_lt_two_pow hL hR) fun j hj => by rw [Nat.testBit_or, tbL j hj, tbR j hj]
    · have e : gc_vl (fun j => V (Rs j)) 8 = gc_vl (fun j => V (L j) ^^ V (R j)) 8 := gc_vl_cg fun j hj => by
        rw [q j hj, show V (O 1) = false from hO 1 (by omega), show V (O 2) = false from hO 2 (by omega), show V (O 6) = false from hO 6 (by omega), show V (O 7) = false from hO 7 (by omega), show V (O 8) = true from hO 8 (by omega)]; rfl
      rw [e]
      show _ = gc_vl (fun j => V (L j)) 8 ^^^ gc_vl (fun j => V (R j)) 8
      exact gc_vl_of (Nat.xor_lt_two_pow hL hR) fun j hj => by rw [Nat.testBit_xor, tbL j hj, tbR j hj]
    · have e : gc_vl (fun j => V (Rs j)) 8 = gc_vl (fun j => if V 10 then (if j = 7 then (V 11 && V 187) else V (L (j + 1))) else (if j = 0 then (V 11 && V 187) else V (L (j - 1)))) 8 := gc_vl_cg fun j hj => by
        rw [q j hj, show V (O 1) = false from hO 1 (by omega), show V (O 2) = false from hO 2 (by omega), show V (O 6) = false from hO 6 (by omega), show V (O 7) = false from hO 7 (by omega), show V (O 8) = false from hO 8 (by omega), show V (O 9) = true from hO 9 (by omega)]; rfl
      rw [e]
      show _ = if gc_vl (fun j => V (10 + j)) 8 % 2 = 0 then 2 * gc_vl (fun j => V (L j)) 8 % 256 + (if (decide (gc_vl (fun j => V (10 + j)) 8 / 2 % 2 = 1) && V 187) then 1 else 0) else gc_vl (fun j => V (L j)) 8 / 2 + (if (decide (gc_vl (fun j => V (10 + j)) 8 / 2 % 2 = 1) && V 187) then 128 else 0)
      rw [← m01.2.1, m01.2.2.2]
      show _ = if (if V 10 then 1 else 0) = 0 then 2 * gc_vl (fun j => V (L j)) 8 % 256 + (if (V 11 && V 187) then 1 else 0) else gc_vl (fun j => V (L j)) 8 / 2 + (if (V 11 && V 187) then 128 else 0)
      generalize (V 11 && V 187) = inn
      cases V 10
      · show gc_vl (fun j => if j = 0 then inn else V (L (j - 1))) 8 = 2 * gc_vl (fun j => V (L j)) 8 % 256 + (if inn then 1 else 0)
        have e1 := gc_vl_s (fun j => if j = 0 then inn else V (L (j - 1))) 7
        have e2 : gc_vl (fun i => if i + 1 = 0 then inn else V (L (i + 1 - 1))) 7 = gc_vl (fun j => V (L j)) 7 := gc_vl_cg fun j _ => by
          rw [if_neg (by omega), Nat.add_sub_cancel]
        rw [e2] at e1
        have e3 : gc_vl (fun j => V (L j)) 8 = gc_vl (fun j => V (L j)) 7 + (if V (L 7) then 128 else 0) := rfl
        have l7 := gc_vl_lt (fun j => V (L j)) 7
        rw [e1, e3]
        show (if inn then 1 else 0) + _ = _
        generalize gc_vl (fun j => V (L j)) 7 = A at l7
        cases V (L 7)
        · show _ = 2 * (A + 0) % 256 + _
          omega
        · show _ = 2 * (A + 128) % 256 + _
          omega
      · show gc_vl (fun j => if j = 7 then inn else V (L (j + 1))) 8 = gc_vl (fun j => V (L j)) 8 / 2 + (if inn then 128 else 0)
        have e1 : gc_vl (fun j => if j = 7 then inn else V (L (j + 1))) 8 = gc_vl (fun j => if j = 7 then inn else V (L (j + 1))) 7 + (if inn then 128 else 0) := rfl
        have e2 : gc_vl (fun j => if j = 7 then inn else V (L (j + 1))) 7 = gc_vl (fun j => V (L (j + 1))) 7 := gc_vl_cg fun j hj => by
          rw [if_neg (by omega)]
        have e3 := gc_vl_s (fun j => V (L j)) 7
        rw [e1, e2, e3]
        congr 1
        split <;> omega
    · have e : gc_vl (fun j => V (Rs j)) 8 = gc_vl (fun j => V (58 + 8 * gc_vl (fun j => V (Ad j)) 4 + j)) 8 := gc_vl_cg fun j hj => by
        rw [q j hj, show V (O 1) = false from hO 1 (by omega), show V (O 2) = false from hO 2 (by omega), show V (O 6) = false from hO 6 (by omega), show V (O 7) = false from hO 7 (by omega), show V (O 8) = false from hO 8 (by omega), show V (O 9) = false from hO 9 (by omega), show V (O 10) = true from hO 10 (by omega)]; rfl
      rw [e, ad]
      exact (hcl _ (Nat.mod_lt _ (by decide))).symm
    · exact gc_vl_cg fun j hj => by
        rw [q j hj, show V (O 1) = false from hO 1 (by omega), show V (O 2) = false from hO 2 (by omega), show V (O 6) = false from hO 6 (by omega), show V (O 7) = false from hO 7 (by omega), show V (O 8) = false from hO 8 (by omega), show V (O 9) = false from hO 9 (by omega), show V (O 10) = false from hO 10 (by omega), show V (O 15) = true from hO 15 (by omega)]; rfl
  · have hop' : op = 3 ∨ op = 4 ∨ op = 5 ∨ op = 9 := by omega
    rcases hop' with rfl | rfl | rfl | rfl
    · have s := (sum34 (hO 5 (by omega)) (hO 1 (by omega)) (hO 2 (by omega)) (hO 6 (by omega)) (hO 7 (by omega)) (hO 8 (by omega)) (hO 9 (by omega)) (hO 10 (by omega)) (hO 15 (by omega))).2
      rw [show V (O 4) = false from hO 4 (by omega)] at s
      exact s
    · have s := (sum34 (hO 5 (by omega)) (hO 1 (by omega)) (hO 2 (by omega)) (hO 6 (by omega)) (hO 7 (by omega)) (hO 8 (by omega)) (hO 9 (by omega)) (hO 10 (by omega)) (hO 15 (by omega))).2
      rw [show V (O 4) = true from hO 4 (by omega), Bool.true_and] at s
      exact s
    · have o5 : V (O 5) = true := hO 5 (by omega)
      have o9 : V (O 9) = false := hO 9 (by omega)
      rw [o5] at p1
      have en := gc_vl_not (fun j => V (R j)) 8
      have p1' : gc_vl sm 9 = gc_vl (fun j => V (L j)) 8 + gc_vl (fun j => V (R j) ^^ true) 8 + 1 := p1
      rw [p2, o5, o9]
      show (sm 8 ^^ true) = decide (gc_vl (fun j => V (L j)) 8 < gc_vl (fun j => V (R j)) 8)
      rw [s9] at p1'
      cases hs : sm 8
      · rw [hs] at p1'
        have p1'' : gc_vl sm 8 + 0 = gc_vl (fun j => V (L j)) 8 + gc_vl (fun j => V (R j) ^^ true) 8 + 1 := p1'
        show true = _
        exact (decide_eq_true (by omega)).symm
      · rw [hs] at p1'
        have p1'' : gc_vl sm 8 + 256 = gc_vl (fun j => V (L j)) 8 + gc_vl (fun j => V (R j) ^^ true) 8 + 1 := p1'
        show false = _
        exact (decide_eq_false (by omega)).symm
    · have o9 : V (O 9) = true := hO 9 (by omega)
      rw [p2, o9]
      show (if V 10 then V (L 0) else V (L 7)) = if gc_vl (fun j => V (10 + j)) 8 % 2 = 0 then decide (128 ≤ gc_vl (fun j => V (L j)) 8) else decide (gc_vl (fun j => V (L j)) 8 % 2 = 1)
      rw [m01.2.2.2]
      show _ = if (if V 10 then 1 else 0) = 0 then decide (128 ≤ gc_vl (fun j => V (L j)) 8) else decide (gc_vl (fun j => V (L j)) 8 % 2 = 1)
      cases V 10
      · show V (L 7) = decide (128 ≤ gc_vl (fun j => V (L j)) 8)
        have e3 : gc_vl (fun j => V (L j)) 8 = gc_vl (fun j => V (L j)) 7 + (if V (L 7) then 128 else 0) := rfl
        have l7 := gc_vl_lt (fun j => V (L j)) 7
        rw [e3]
        cases V (L 7)
        · simp; omega
        · simp
      · show V (L 0) = decide (gc_vl (fun j => V (L j)) 8 % 2 = 1)
        have e1 := (gc_m01 (fun j => V (L j))).1
        exact e1
end
section
/-! one cycle, in numbers -/
def gc_rg (u : SX) (r : Nat) : Nat := gc_vl (fun i => gc_sb u (8 * r + i)) 8
def gc_ce (u : SX) (a : Nat) : Nat := gc_vl (fun i => gc_sb u (32 + 8 * a + i)) 8
def gc_at (u : SX) : Nat := gc_vl (fun i => gc_sb u (162 + i)) 5
def gc_bk (u : SX) : Nat := gc_vl (fun i => gc_sb u (167 + i)) 5
def gc_ou (u : SX) : Nat := gc_vl (fun i => gc_sb u (172 + i)) 8
def gc_tm (u : SX) : Nat := gc_vl (fun i => gc_sb u (180 + i)) 8
/-- is it a write of a register -/
def gc_wr (op m : Nat) : Bool := decide ((1 ≤ op ∧ op ≤ 10) ∨ (op = 15 ∧ m % 2 = 0))
def gc_nt (op d m at' bk : Nat) (z c : Bool) : Nat := if op = 14 ∧ 128 ≤ m then bk else if op = 12 ∨ (op = 13 ∧ ((if 2 ≤ d then c else z) ^^ decide (d % 2 = 1)) = true) ∨ (op = 14 ∧ m < 128) then m % 32 else (at' + 1) % 32
theorem gc_Fl_v {w F i : Nat} {u : SX} {q : (Nat → Bool) → Bool} {V : Nat → Bool} (C : gc_Ci w u F) (f : gc_Fl w u i q) (c : gc_Cs w u V) : V (gc_a w u (26 + i)) = q V := by
  obtain ⟨g, g1, g2, g3⟩ := f
  have := C.1.1.2.2.2
  have e : gc_a w u (26 + i) = g := by unfold gc_a; rw [g1]; exact nI_clamp (by omega)
  rw [e]; exact g3 V c
theorem gc_vl_if {b : Bool} {f g : Nat → Bool} {n : Nat} : gc_vl (fun i => if b then f i else g i) n = if b then gc_vl f n else gc_vl g n := by
  cases b <;> rfl
/-- all that one cycle does, by the numbers before it -/
def gc_SX (u u' : SX) (op d s m P : Nat) : Prop :=
  (∀ r, r < 4 → gc_rg u' r = if (decide (d = r) && gc_wr op m) then gc_rs op m (gc_rg u d) (gc_rg u s) P (gc_sb u 161) (gc_ce u) else gc_rg u r) ∧
  (∀ a, a < 16 → gc_ce u' a = if (decide ((gc_rg u s + m) % 16 = a) && decide (op = 11)) then gc_rg u d else gc_ce u a) ∧
  gc_sb u' 160 = (if decide (3 ≤ op ∧ op ≤ 9) then decide (gc_rs op m (gc_rg u d) (gc_rg u s) P (gc_sb u 161) (gc_ce u) = 0) else gc_sb u 160) ∧
  gc_sb u' 161 = (if decide ((3 ≤ op ∧ op ≤ 5) ∨ op = 9) then gc_cy op m (gc_rg u d) (gc_rg u s) (gc_sb u 161) else gc_sb u 161) ∧
  gc_at u' = (if op = 0 then gc_at u else gc_nt op d m (gc_at u) (gc_bk u) (gc_sb u 160) (gc_sb u 161)) ∧
  gc_bk u' = (if op = 14 ∧ m < 128 then (gc_at u + 1) % 32 else gc_bk u) ∧
  gc_ou u' = (if op = 15 ∧ m % 2 = 1 then gc_rg u d else gc_ou u) ∧
  gc_tm u' = (if op = 15 ∧ m % 2 = 1 then (gc_tm u + 1) % 256 else gc_tm u) ∧
  gc_sb u' 188 = decide (op = 0)
theorem gc_ite_b {α : Type} {b : Bool} {p : Prop} [Decidable p] {x y : α} (h : b = true ↔ p) : (if b then x else y) = if p then x else y := by
  by_cases hp : p
  · rw [if_pos hp, if_pos (h.mpr hp)]
  · rw [if_neg hp, if_neg fun z => hp (h.mp z)]
theorem gc_stepX {w F W P : Nat} {u u' : SX} (C : gc_Ci w u F) (T : gc_Tk w u u' W P) (hh : gc_sb u 188 = false) (hW : W < 65536) (hP : P < 256) : gc_SX u u' (W % 16) (W / 16 % 4) (W / 64 % 4) (W / 256) P := by
  obtain ⟨V, hV, w1, w2, w3, w4⟩ := T
  obtain ⟨rn, c, O, L, R, Rs, Ad, sem, f1, f2, f3, f4, f5, f6, f7, f8, f9⟩ := C.2.1
  obtain ⟨hrn, hO0, hL, hR, hRS⟩ := sem V hV
  have V214 : V 214 = false := (w3 188 (by omega)).trans hh
  rw [V214] at hrn
  have op4 : gc_vl (fun i => V (2 + i)) 4 = W % 16 := by
    rw [gc_vl_cg (g := fun j => W.testBit j) fun j hj => w1 j (by omega)]
    exact gc_vl_tb W 4
  have hO : ∀ j, j < 16 → V (O j) = decide (W % 16 = j) := fun j hj => by
    rw [hO0 j hj, hrn, gc_nb_v hj, op4]
    show (_ && true) = _
    rw [Bool.and_true]
  have dv : gc_vl (fun j => V (2 + (4 + j))) 2 = W / 16 % 4 := by
    rw [gc_vl_cg (g := fun j => W.testBit (4 + j)) fun j hj => w1 (4 + j) (by omega)]
    exact gc_vl_tk W 4 2
  have sv : gc_vl (fun j => V (2 + (6 + j))) 2 = W / 64 % 4 := by
    rw [gc_vl_cg (g := fun j => W.testBit (6 + j)) fun j hj => w1 (6 + j) (by omega)]
    exact gc_vl_tk W 6 2
  have mv : gc_vl (fun j => V (10 + j)) 8 = W / 256 := by
    rw [gc_vl_cg (g := fun j => W.testBit (8 + j)) fun j hj => by
      have := w1 (8 + j) (by omega)
      rw [← Nat.add_assoc] at this
      exact this]
    rw [gc_vl_tk W 8 8]
    show W / 256 % 256 = W / 256
    omega
  have pv : gc_vl (fun j => V (18 + j)) 8 = P := by
    rw [gc_vl_cg (g := fun j => P.testBit j) fun j hj => w2 j hj, gc_vl_tb]
    exact Nat.mod_eq_of_lt hP
  have d4 : W / 16 % 4 < 4 := Nat.mod_lt _ (by decide)
  have s4 : W / 64 % 4 < 4 := Nat.mod_lt _ (by decide)
  have bit : ∀ k i, k + i < 189 → V (26 + k + i) = gc_sb u (k + i) := fun k i hk => by
    rw [Nat.add_assoc]; exact w3 (k + i) hk
  have Lv : gc_vl (fun j => V (L j)) 8 = gc_rg u (W / 16 % 4) := gc_vl_cg fun t ht => by
    rw [hL t ht, dv]; exact bit (8 * (W / 16 % 4)) t (by omega)
  have Rv : gc_vl (fun j => V (R j)) 8 = gc_rg u (W / 64 % 4) := gc_vl_cg fun t ht => by
    rw [hR t ht, sv]; exact bit (8 * (W / 64 % 4)) t (by omega)
  have cev : ∀ a, a < 16 → gc_ce u a = gc_vl (fun t => V (58 + 8 * a + t)) 8 := fun a ha => gc_vl_cg fun t ht => by
    have := w3 (32 + 8 * a + t) (by omega)
    rw [← this]
    exact congrArg V (by omega)
  have V187 : V 187 = gc_sb u 161 := w3 161 (by omega)
  have V186 : V 186 = gc_sb u 160 := w3 160 (by omega)
  obtain ⟨r1, r2, r3⟩ := gc_rsX (cl := gc_ce u) hRS hO cev
  rw [Rv, mv] at r1
  rw [Lv, Rv, mv, pv, V187] at r2
  rw [Lv, Rv, mv, V187] at r3
  have m01 := gc_m01 (fun j => V (10 + j))
  rw [mv] at m01
  have V10 : V 10 = decide (W / 256 % 2 = 1) := m01.1
  have V17 : V 17 = decide (128 ≤ W / 256) := by
    have e3 : gc_vl (fun j => V (10 + j)) 8 = gc_vl (fun j => V (10 + j)) 7 + (if V 17 then 128 else 0) := rfl
    have l7 := gc_vl_lt (fun j => V (10 + j)) 7
    rw [mv] at e3
    rw [e3]
    cases V 17
    · exact (decide_eq_false (by show ¬ 128 ≤ gc_vl (fun j => V (10 + j)) 7 + 0; omega)).symm
    · exact (decide_eq_true (by show 128 ≤ gc_vl (fun j => V (10 + j)) 7 + 128; omega)).symm
  have d01 : V 6 = decide (W / 16 % 4 % 2 = 1) ∧ V 7 = decide (2 ≤ W / 16 % 4) := by
    have e3 : gc_vl (fun j => V (2 + (4 + j))) 2 = 0 + (if V 6 then 1 else 0) + (if V 7 then 2 else 0) := rfl
    rw [dv] at e3
    rw [e3]
    cases V 6 <;> cases V 7 <;> exact ⟨rfl, rfl⟩
  have fl : ∀ {i : Nat} {q : (Nat → Bool) → Bool}, i < 189 → gc_Fl w u i q → gc_sb u' i = q V := fun hi f => (w4 _ hi).trans (gc_Fl_v C f hV)
  have wsv : gc_ws V O 9 = gc_wr (W % 16) (W / 256) := by
    show (V (O 10) || (V (O 15) && !(V 10)) || V (O 1) || V (O 2) || V (O 3) || V (O 4) || V (O 5) || V (O 6) || V (O 7) || V (O 8) || V (O 9)) = _
    rw [hO 10 (by omega), hO 15 (by omega), hO 1 (by omega), hO 2 (by omega), hO 3 (by omega), hO 4 (by omega), hO 5 (by omega), hO 6 (by omega), hO 7 (by omega), hO 8 (by omega), hO 9 (by omega), V10]
    unfold gc_wr
    rw [Bool.eq_iff_iff]
    simp only [Bool.or_eq_true, Bool.and_eq_true, decide_eq_true_eq, Bool.not_eq_true', decide_eq_false_iff_not]
    omega
  have scv : gc_sc V O = decide ((3 ≤ W % 16 ∧ W % 16 ≤ 5) ∨ W % 16 = 9) := by
    unfold gc_sc
    rw [hO 3 (by omega), hO 4 (by omega), hO 5 (by omega), hO 9 (by omega), Bool.eq_iff_iff]
    simp only [Bool.or_eq_true, decide_eq_true_eq]
    omega
  have szv : (gc_sc V O || gc_lg V O) = decide (3 ≤ W % 16 ∧ W % 16 ≤ 9) := by
    rw [scv]
    unfold gc_lg
    rw [hO 6 (by omega), hO 7 (by omega), hO 8 (by omega), Bool.eq_iff_iff]
    simp only [Bool.or_eq_true, decide_eq_true_eq]
    omega
  have cav : gc_ca V O = true ↔ (W % 16 = 14 ∧ W / 256 < 128) := by
    unfold gc_ca
    rw [hO 14 (by omega), V17]
    simp only [Bool.and_eq_true, decide_eq_true_eq, Bool.not_eq_true', decide_eq_false_iff_not]
    omega
  have bev : gc_vl (gc_be V) 5 = (gc_at u + 1) % 32 := by
    have e := gc_up_vl (fun j => V (188 + j)) 5
    have e2 : gc_vl (fun j => V (188 + j)) 5 = gc_at u := gc_vl_cg fun j hj => by
      have := w3 (162 + j) (by omega)
      rw [← this]
      exact congrArg V (by omega)
    rw [e2] at e
    exact e
  refine ⟨fun r hr => ?_, fun a ha => ?_, ?_, ?_, ?_, ?_, ?_, ?_, ?_⟩
  · have e : gc_rg u' r = gc_vl (fun i => if (decide (W / 16 % 4 = r) && gc_wr (W % 16) (W / 256)) then V (Rs i) else gc_sb u (8 * r + i)) 8 := gc_vl_cg fun i hi => by
      rw [fl (by omega) (f1 r hr i hi), gc_nb_v (show r < 2 ^ 2 from hr), dv, wsv, w3 (8 * r + i) (by omega)]
    rw [e, gc_vl_if]
    by_cases hc : (decide (W / 16 % 4 = r) && gc_wr (W % 16) (W / 256)) = true
    · rw [if_pos hc, if_pos hc]
      have hwr := (Bool.and_eq_true _ _ ▸ hc).2
      unfold gc_wr at hwr
      have hwr' := of_decide_eq_true hwr
      exact r2 (by omega)
    · rw [if_neg hc, if_neg hc]; rfl
  · have e : gc_ce u' a = gc_vl (fun i => if (decide ((gc_rg u (W / 64 % 4) + W / 256) % 16 = a) && decide (W % 16 = 11)) then V (L i) else gc_sb u (32 + 8 * a + i)) 8 := gc_vl_cg fun i hi => by
      rw [fl (by omega) (f2 a ha i hi), gc_nb_v (show a < 2 ^ 4 from ha), r1, hO 11 (by omega), w3 (32 + 8 * a + i) (by omega)]
    rw [e, gc_vl_if, Lv]
    rfl
  · rw [fl (by omega) f3, szv]
    by_cases hc : 3 ≤ W % 16 ∧ W % 16 ≤ 9
    · rw [if_pos (decide_eq_true hc), if_pos (decide_eq_true hc), r2 (by omega)]
    · rw [if_neg (by rw [decide_eq_true_eq]; exact hc), if_neg (by rw [decide_eq_true_eq]; exact hc)]
      exact w3 160 (by omega)
  · rw [fl (by omega) f4, scv]
    by_cases hc : (3 ≤ W % 16 ∧ W % 16 ≤ 5) ∨ W % 16 = 9
    · rw [if_pos (decide_eq_true hc), if_pos (decide_eq_true hc), r3 hc]
    · rw [if_neg (by rw [decide_eq_true_eq]; exact hc), if_neg (by rw [decide_eq_true_eq]; exact hc)]
      exact w3 161 (by omega)
  · have hmv : (V rn && !(V (O 0))) = !(decide (W % 16 = 0)) := by rw [hrn, hO 0 (by omega)]; rfl
    have e : gc_at u' = gc_vl (fun j => if (!(decide (W % 16 = 0))) then gc_nx V O j else gc_sb u (162 + j)) 5 := gc_vl_cg fun j hj => by
      rw [fl (by omega) (f5 j hj), hmv, w3 (162 + j) (by omega)]
    rw [e, gc_vl_if]
    by_cases h0 : W % 16 = 0
    · rw [if_pos h0, if_neg (by rw [decide_eq_true h0]; decide)]; rfl
    · rw [if_neg h0, if_pos (by rw [decide_eq_false h0]; rfl)]
      have e1 : gc_vl (gc_nx V O) 5 = if (V (O 14) && V 17) then gc_vl (fun j => V (193 + j)) 5 else if ((V (O 12) || gc_br V O) || gc_ca V O) then gc_vl (fun j => V (10 + j)) 5 else gc_vl (gc_be V) 5 := by
        show gc_vl (fun j => if (V (O 14) && V 17) then V (193 + j) else if ((V (O 12) || gc_br V O) || gc_ca V O) then V (10 + j) else gc_be V j) 5 = _
        rw [gc_vl_if, gc_vl_if]
      have e2 : gc_vl (fun j => V (193 + j)) 5 = gc_bk u := gc_vl_cg fun j hj => by
        have := w3 (167 + j) (by omega)
        rw [← this]
        exact congrArg V (by omega)
      have e3 : gc_vl (fun j => V (10 + j)) 5 = W / 256 % 32 := by
        have := gc_vl_mod (fun j => V (10 + j)) (m := 5) (n := 8) (by decide)
        rw [mv] at this
        exact this.symm
      show gc_vl (gc_nx V O) 5 = gc_nt _ _ _ _ _ _ _
      rw [e1, e2, e3, bev]
      unfold gc_nt
      have h14 : (V (O 14) && V 17) = true ↔ (W % 16 = 14 ∧ 128 ≤ W / 256) := by
        rw [hO 14 (by omega), V17]
        simp only [Bool.and_eq_true, decide_eq_true_eq]
      have hj : ((V (O 12) || gc_br V O) || gc_ca V O) = true ↔ (W % 16 = 12 ∨ (W % 16 = 13 ∧ ((if 2 ≤ W / 16 % 4 then gc_sb u 161 else gc_sb u 160) ^^ decide (W / 16 % 4 % 2 = 1)) = true) ∨ (W % 16 = 14 ∧ W / 256 < 128)) := by
        rw [Bool.or_eq_true, Bool.or_eq_true, cav, hO 12 (by omega), decide_eq_true_eq]
        unfold gc_br
        rw [hO 13 (by omega), d01.1, d01.2, V186, V187, Bool.and_eq_true, decide_eq_true_eq]
        have ei : (if (decide (2 ≤ W / 16 % 4)) = true then gc_sb u 161 else gc_sb u 160) = (if 2 ≤ W / 16 % 4 then gc_sb u 161 else gc_sb u 160) := gc_ite_b decide_eq_true_iff
        rw [ei, or_assoc]
      rw [gc_ite_b h14, gc_ite_b hj]
  · have e : gc_bk u' = gc_vl (fun j => if gc_ca V O then gc_be V j else gc_sb u (167 + j)) 5 := gc_vl_cg fun j hj => by
      rw [fl (by omega) (f6 j hj), w3 (167 + j) (by omega)]
    rw [e, gc_vl_if, gc_ite_b cav]
    show (if _ then gc_vl (gc_be V) 5 else gc_bk u) = _
    rw [bev]
  · have ho : (V (O 15) && V 10) = true ↔ (W % 16 = 15 ∧ W / 256 % 2 = 1) := by
      rw [hO 15 (by omega), V10]
      simp only [Bool.and_eq_true, decide_eq_true_eq]
    have e : gc_ou u' = gc_vl (fun j => if (V (O 15) && V 10) then V (L j) else gc_sb u (172 + j)) 8 := gc_vl_cg fun j hj => by
      rw [fl (by omega) (f7 j hj), w3 (172 + j) (by omega)]
    rw [e, gc_vl_if, gc_ite_b ho, Lv]
    rfl
  · have ho : (V (O 15) && V 10) = true ↔ (W % 16 = 15 ∧ W / 256 % 2 = 1) := by
      rw [hO 15 (by omega), V10]
      simp only [Bool.and_eq_true, decide_eq_true_eq]
    have e : gc_tm u' = gc_vl (fun j => if (V (O 15) && V 10) then (V (206 + j) ^^ gc_up (fun j => V (206 + j)) j) else gc_sb u (180 + j)) 8 := gc_vl_cg fun j hj => by
      rw [fl (by omega) (f8 j hj), w3 (180 + j) (by omega)]
    have e2 : gc_vl (fun j => V (206 + j)) 8 = gc_tm u := gc_vl_cg fun j hj => by
      have := w3 (180 + j) (by omega)
      rw [← this]
      exact congrArg V (by omega)
    rw [e, gc_vl_if, gc_ite_b ho, gc_up_vl, e2]
    rfl
  · rw [fl (by omega) f9, hO 0 (by omega), w3 188 (by omega), hh, hV.2.1]
    cases decide (W % 16 = 0) <;> rfl
end
section
def yg_zero (u : SY) : Int32 := u.1
def yg_carry (u : SY) : Int32 := u.2.1
def yg_at (u : SY) : Int32 := u.2.2.1
def yg_back (u : SY) : Int32 := u.2.2.2.1
def yg_input (u : SY) : Int32 := u.2.2.2.2.1
def yg_output (u : SY) : Int32 := u.2.2.2.2.2.1
def yg_times (u : SY) : Int32 := u.2.2.2.2.2.2.1
def yg_stopped (u : SY) : Int32 := u.2.2.2.2.2.2.2.1
def yg_words (u : SY) : Nat → Int32 := u.2.2.2.2.2.2.2.2.1
def yg_registers (u : SY) : Nat → Int32 := u.2.2.2.2.2.2.2.2.2.1
def yg_cells (u : SY) : Nat → Int32 := u.2.2.2.2.2.2.2.2.2.2
def ys_zero (u : SY) (x_zero : Int32) : SY := (x_zero, u.2.1, u.2.2.1, u.2.2.2.1, u.2.2.2.2.1, u.2.2.2.2.2.1, u.2.2.2.2.2.2.1, u.2.2.2.2.2.2.2.1, u.2.2.2.2.2.2.2.2.1, u.2.2.2.2.2.2.2.2.2.1, u.2.2.2.2.2.2.2.2.2.2)
def ys_carry (u : SY) (x_carry : Int32) : SY := (u.1, x_carry, u.2.2.1, u.2.2.2.1, u.2.2.2.2.1, u.2.2.2.2.2.1, u.2.2.2.2.2.2.1, u.2.2.2.2.2.2.2.1, u.2.2.2.2.2.2.2.2.1, u.2.2.2.2.2.2.2.2.2.1, u.2.2.2.2.2.2.2.2.2.2)
def ys_at (u : SY) (x_at : Int32) : SY := (u.1, u.2.1, x_at, u.2.2.2.1, u.2.2.2.2.1, u.2.2.2.2.2.1, u.2.2.2.2.2.2.1, u.2.2.2.2.2.2.2.1, u.2.2.2.2.2.2.2.2.1, u.2.2.2.2.2.2.2.2.2.1, u.2.2.2.2.2.2.2.2.2.2)
def ys_back (u : SY) (x_back : Int32) : SY := (u.1, u.2.1, u.2.2.1, x_back, u.2.2.2.2.1, u.2.2.2.2.2.1, u.2.2.2.2.2.2.1, u.2.2.2.2.2.2.2.1, u.2.2.2.2.2.2.2.2.1, u.2.2.2.2.2.2.2.2.2.1, u.2.2.2.2.2.2.2.2.2.2)
def ys_input (u : SY) (x_input : Int32) : SY := (u.1, u.2.1, u.2.2.1, u.2.2.2.1, x_input, u.2.2.2.2.2.1, u.2.2.2.2.2.2.1, u.2.2.2.2.2.2.2.1, u.2.2.2.2.2.2.2.2.1, u.2.2.2.2.2.2.2.2.2.1, u.2.2.2.2.2.2.2.2.2.2)
def ys_output (u : SY) (x_output : Int32) : SY := (u.1, u.2.1, u.2.2.1, u.2.2.2.1, u.2.2.2.2.1, x_output, u.2.2.2.2.2.2.1, u.2.2.2.2.2.2.2.1, u.2.2.2.2.2.2.2.2.1, u.2.2.2.2.2.2.2.2.2.1, u.2.2.2.2.2.2.2.2.2.2)
def ys_times (u : SY) (x_times : Int32) : SY := (u.1, u.2.1, u.2.2.1, u.2.2.2.1, u.2.2.2.2.1, u.2.2.2.2.2.1, x_times, u.2.2.2.2.2.2.2.1, u.2.2.2.2.2.2.2.2.1, u.2.2.2.2.2.2.2.2.2.1, u.2.2.2.2.2.2.2.2.2.2)
def ys_stopped (u : SY) (x_stopped : Int32) : SY := (u.1, u.2.1, u.2.2.1, u.2.2.2.1, u.2.2.2.2.1, u.2.2.2.2.2.1, u.2.2.2.2.2.2.1, x_stopped, u.2.2.2.2.2.2.2.2.1, u.2.2.2.2.2.2.2.2.2.1, u.2.2.2.2.2.2.2.2.2.2)
def ys_words (u : SY) (x_words : Nat → Int32) : SY := (u.1, u.2.1, u.2.2.1, u.2.2.2.1, u.2.2.2.2.1, u.2.2.2.2.2.1, u.2.2.2.2.2.2.1, u.2.2.2.2.2.2.2.1, x_words, u.2.2.2.2.2.2.2.2.2.1, u.2.2.2.2.2.2.2.2.2.2)
def ys_registers (u : SY) (x_registers : Nat → Int32) : SY := (u.1, u.2.1, u.2.2.1, u.2.2.2.1, u.2.2.2.2.1, u.2.2.2.2.2.1, u.2.2.2.2.2.2.1, u.2.2.2.2.2.2.2.1, u.2.2.2.2.2.2.2.2.1, x_registers, u.2.2.2.2.2.2.2.2.2.2)
def ys_cells (u : SY) (x_cells : Nat → Int32) : SY := (u.1, u.2.1, u.2.2.1, u.2.2.2.1, u.2.2.2.2.1, u.2.2.2.2.2.1, u.2.2.2.2.2.2.1, u.2.2.2.2.2.2.2.1, u.2.2.2.2.2.2.2.2.1, u.2.2.2.2.2.2.2.2.2.1, x_cells)
def ys_output_times (u : SY) (x_output : Int32) (x_times : Int32) : SY := (u.1, u.2.1, u.2.2.1, u.2.2.2.1, u.2.2.2.2.1, x_output, x_times, u.2.2.2.2.2.2.2.1, u.2.2.2.2.2.2.2.2.1, u.2.2.2.2.2.2.2.2.2.1, u.2.2.2.2.2.2.2.2.2.2)
def ys_at_back_stopped (u : SY) (x_at : Int32) (x_back : Int32) (x_stopped : Int32) : SY := (u.1, u.2.1, x_at, x_back, u.2.2.2.2.1, u.2.2.2.2.2.1, u.2.2.2.2.2.2.1, x_stopped, u.2.2.2.2.2.2.2.2.1, u.2.2.2.2.2.2.2.2.2.1, u.2.2.2.2.2.2.2.2.2.2)
theorem yc_isByte {post : Int32 → Prop} {u : SY} {p0 : Int32} (h : ((p0 < 0 → (post 0)) ∧ (¬ p0 < 0 → (((255 < p0 → (post 0)) ∧ (¬ 255 < p0 → (post 1))))))) : wpY_isByte post u p0 := h
theorem yc_isRegister {post : Int32 → Prop} {u : SY} {p0 : Int32} (h : ((p0 < 0 → (post 0)) ∧ (¬ p0 < 0 → (((3 < p0 → (post 0)) ∧ (¬ 3 < p0 → (post 1))))))) : wpY_isRegister post u p0 := h
theorem yc_program {post : Int32 → SY → Prop} {u : SY} {p0 : Int32} {p1 : Int32} (h : ((p0 < 0 → (post 0 u)) ∧ (¬ p0 < 0 → (((31 < p0 → (post 0 u)) ∧ (¬ 31 < p0 → (((p1 < 0 → (post 0 u)) ∧ (¬ p1 < 0 → (((p1 ≤ 65535 → (vp_in p0 32 ∧ ∀ a_words_6 : Nat → Int32, a_words_6 = upd (yg_words u) p0.toNatClampNeg p1 → (post 1 (ys_words u a_words_6)))) ∧ (¬ p1 ≤ 65535 → (post 0 u))))))))))))) : wpY_program post u p0 p1 := h
theorem yc_word {post : Int32 → Prop} {u : SY} {p0 : Int32} (h : ((p0 < 0 → (post (-1))) ∧ (¬ p0 < 0 → (((31 < p0 → (post (-1))) ∧ (¬ 31 < p0 → (vp_in p0 32 ∧ (post ((yg_words u) p0.toNatClampNeg))))))))) : wpY_word post u p0 := h
def uy_in_17 (post : Int32 → SY → Prop) (x1 : Int32) (z0 : Int32) (u : SY) : Prop := wY_in_17 post x1 z0 (yg_zero u) (yg_carry u) (yg_at u) (yg_back u) (yg_input u) (yg_output u) (yg_times u) (yg_stopped u) (yg_words u) (yg_registers u) (yg_cells u)
theorem yc_in_17 {post : Int32 → SY → Prop} {x1 : Int32} {z0 : Int32} {u : SY} (h : wpY_isByte (fun r_14 => (narrow .boolean (.int r_14) = .int r_14 ∧ (post r_14 (ys_input u z0)))) (ys_input u z0) x1) : uy_in_17 post x1 z0 u := h
theorem yc_in {post : Int32 → SY → Prop} {u : SY} {p0 : Int32} (h : wpY_isByte (fun r_1 => (((r_1 = 0 → (uy_in_17 post p0 (yg_input u) u)) ∧ (¬ r_1 = 0 → (uy_in_17 post p0 p0 u))))) u p0) : wpY_in post u p0 := h
theorem yc_setRegister {post : Int32 → SY → Prop} {u : SY} {p0 : Int32} {p1 : Int32} (h : wpY_isRegister (fun r_1 => (((r_1 = 0 → (post 0 u)) ∧ (¬ r_1 = 0 → (wpY_isByte (fun r_14 => (((r_14 = 0 → (post 0 u)) ∧ (¬ r_14 = 0 → (vp_in p0 4 ∧ ∀ a_registers_28 : Nat → Int32, a_registers_28 = upd (yg_registers u) p0.toNatClampNeg p1 → (post 1 (ys_registers u a_registers_28))))))) u p1))))) u p0) : wpY_setRegister post u p0 p1 := h
theorem yc_setMemory {post : Int32 → SY → Prop} {u : SY} {p0 : Int32} {p1 : Int32} (h : ((p0 < 0 → (post 0 u)) ∧ (¬ p0 < 0 → (((15 < p0 → (post 0 u)) ∧ (¬ 15 < p0 → (wpY_isByte (fun r_3 => (((r_3 = 0 → (post 0 u)) ∧ (¬ r_3 = 0 → (vp_in p0 16 ∧ ∀ a_cells_17 : Nat → Int32, a_cells_17 = upd (yg_cells u) p0.toNatClampNeg p1 → (post 1 (ys_cells u a_cells_17))))))) u p1))))))) : wpY_setMemory post u p0 p1 := h
def uy_turned_4 (post : Int32 → Prop) (x1 : Int32) (n : Nat) (x2 : Int32) (x3 : Int32) (u : SY) : Prop := wY_turned_4 post x1 (yg_zero u) (yg_carry u) (yg_at u) (yg_back u) (yg_input u) (yg_output u) (yg_times u) (yg_stopped u) (yg_words u) (yg_registers u) (yg_cells u) n x2 x3
theorem yc_turned_4 {post : Int32 → Prop} {x1 : Int32} {n : Nat} {x2 : Int32} {x3 : Int32} {u : SY} (h : ((8 ≤ x3 → (post x2)) ∧ (¬ 8 ≤ x3 → (((((x1 >>> (x3 &&& 31)) &&& 1) = 1 → (∀ x2_4 : Int32, x2_4 = x2 ||| ((128 : Int32) >>> (x3 &&& 31)) → (∀ x3_5 : Int32, x3_5 = x3 + 1 → (uy_turned_4 post x1 n x2_4 x3_5 u)))) ∧ (¬ ((x1 >>> (x3 &&& 31)) &&& 1) = 1 → (∀ x3_3 : Int32, x3_3 = x3 + 1 → (uy_turned_4 post x1 n x2 x3_3 u)))))))) : uy_turned_4 post x1 (n + 1) x2 x3 u := h
theorem yc_turned {post : Int32 → Prop} {u : SY} {p0 : Int32} (h : ∃ n4 : Nat, uy_turned_4 post p0 n4 0 0 u) : wpY_turned post u p0 := h
theorem yc_moved {post : Int32 → Prop} {u : SY} {p0 : Int32} {p1 : Int32} {p2 : Int32} (h : ((p2 = 0 → (post p1)) ∧ (¬ p2 = 0 → (((p2 = 1 → (post ((p0 * p1) &&& 255))) ∧ (¬ p2 = 1 → (((p2 = 2 → (¬ (256 : Int32) = 0 ∧ (post ((p0 * p1) / 256)))) ∧ (¬ p2 = 2 → (wpY_turned (fun r_4 => (post r_4)) u p1)))))))))) : wpY_moved post u p0 p1 p2 := h
def uy_calculated_30 (post : Int32 → SY → Prop) (z0 : Int32) (u : SY) : Prop := wY_calculated_30 post z0 (yg_zero u) (yg_carry u) (yg_at u) (yg_back u) (yg_input u) (yg_output u) (yg_times u) (yg_stopped u) (yg_words u) (yg_registers u) (yg_cells u)
theorem yc_calculated_30 {post : Int32 → SY → Prop} {z0 : Int32} {u : SY} (h : ((255 < z0 → (post (z0 &&& 255) (ys_carry u 1))) ∧ (¬ 255 < z0 → (((0 ≤ z0 → (post (z0 &&& 255) (ys_carry u 0))) ∧ (¬ 0 ≤ z0 → (post (z0 &&& 255) (ys_carry u 1)))))))) : uy_calculated_30 post z0 u := h
theorem yc_calculated {post : Int32 → SY → Prop} {u : SY} {p0 : Int32} {p1 : Int32} {p2 : Int32} (h : ((p0 = 3 → (uy_calculated_30 post (p1 + p2) u)) ∧ (¬ p0 = 3 → (((p0 = 4 → (uy_calculated_30 post ((p1 + p2) + (yg_carry u)) u)) ∧ (¬ p0 = 4 → (uy_calculated_30 post (p1 - p2) u))))))) : wpY_calculated post u p0 p1 p2 := h
def uy_shifted_46 (post : Int32 → SY → Prop) (x1 : Int32) (x3 : Int32) (x4 : Int32) (z0 : Int32) (u : SY) : Prop := wY_shifted_46 post x1 x3 x4 z0 (yg_zero u) (yg_carry u) (yg_at u) (yg_back u) (yg_input u) (yg_output u) (yg_times u) (yg_stopped u) (yg_words u) (yg_registers u) (yg_cells u)
theorem yc_shifted_46 {post : Int32 → SY → Prop} {x1 : Int32} {x3 : Int32} {x4 : Int32} {z0 : Int32} {u : SY} (h : ((x4 = 0 → (¬ (2 : Int32) = 0 ∧ (post ((x1 / 2) + (128 * x3)) (ys_carry u z0)))) ∧ (¬ x4 = 0 → (¬ (256 : Int32) = 0 ∧ (post (((2 * x1) - (2 * x1) / 256 * 256) + x3) (ys_carry u z0)))))) : uy_shifted_46 post x1 x3 x4 z0 u := h
def uy_shifted_27 (post : Int32 → SY → Prop) (x1 : Int32) (x3 : Int32) (z0 : Int32) (u : SY) : Prop := wY_shifted_27 post x1 x3 z0 (yg_zero u) (yg_carry u) (yg_at u) (yg_back u) (yg_input u) (yg_output u) (yg_times u) (yg_stopped u) (yg_words u) (yg_registers u) (yg_cells u)
theorem yc_shifted_27 {post : Int32 → SY → Prop} {x1 : Int32} {x3 : Int32} {z0 : Int32} {u : SY} (h : ((z0 = 0 → (¬ (2 : Int32) = 0 ∧ (uy_shifted_46 post x1 x3 z0 (x1 - x1 / 2 * 2) u))) ∧ (¬ z0 = 0 → (¬ (128 : Int32) = 0 ∧ (uy_shifted_46 post x1 x3 z0 (x1 / 128) u))))) : uy_shifted_27 post x1 x3 z0 u := h
def uy_shifted_15 (post : Int32 → SY → Prop) (x1 : Int32) (x2 : Int32) (z0 : Int32) (u : SY) : Prop := wY_shifted_15 post x1 x2 z0 (yg_zero u) (yg_carry u) (yg_at u) (yg_back u) (yg_input u) (yg_output u) (yg_times u) (yg_stopped u) (yg_words u) (yg_registers u) (yg_cells u)
theorem yc_shifted_15 {post : Int32 → SY → Prop} {x1 : Int32} {x2 : Int32} {z0 : Int32} {u : SY} (h : ¬ (2 : Int32) = 0 ∧ ((((x2 - x2 / 2 * 2) = 0 → (uy_shifted_27 post x1 z0 1 u)) ∧ (¬ (x2 - x2 / 2 * 2) = 0 → (uy_shifted_27 post x1 z0 0 u))))) : uy_shifted_15 post x1 x2 z0 u := h
theorem yc_shifted {post : Int32 → SY → Prop} {u : SY} {p0 : Int32} {p1 : Int32} (h : ¬ (4 : Int32) = 0 ∧ ((((p1 - p1 / 4 * 4) < 2 → (uy_shifted_15 post p0 p1 0 u)) ∧ (¬ (p1 - p1 / 4 * 4) < 2 → (uy_shifted_15 post p0 p1 (yg_carry u) u))))) : wpY_shifted post u p0 p1 := h
theorem yc_setZero {post : SY → Prop} {u : SY} {p0 : Int32} (h : ((p0 = 0 → (post (ys_zero u 1))) ∧ (¬ p0 = 0 → (post (ys_zero u 0))))) : wpY_setZero post u p0 := h
def uy_work_125 (post : SY → Prop) (x2 : Int32) (z0 : Int32) (u : SY) : Prop := wY_work_125 post x2 z0 (yg_zero u) (yg_carry u) (yg_at u) (yg_back u) (yg_input u) (yg_output u) (yg_times u) (yg_stopped u) (yg_words u) (yg_registers u) (yg_cells u)
theorem yc_work_125 {post : SY → Prop} {x2 : Int32} {z0 : Int32} {u : SY} (h : vp_in x2 4 ∧ ∀ a_registers_39 : Nat → Int32, a_registers_39 = upd (yg_registers u) x2.toNatClampNeg z0 → (wpY_setZero (fun u41 => (post u41)) (ys_registers u a_registers_39) z0)) : uy_work_125 post x2 z0 u := h
theorem yc_work {post : SY → Prop} {u : SY} {p0 : Int32} {p1 : Int32} {p2 : Int32} {p3 : Int32} (h : vp_in p1 4 ∧ (∀ x5_2 : Int32, x5_2 = (yg_registers u) p1.toNatClampNeg → (vp_in p2 4 ∧ (∀ x6_4 : Int32, x6_4 = (yg_registers u) p2.toNatClampNeg → (((2 < p0 → (((9 < p0 → (((p0 = 10 → (¬ (16 : Int32) = 0 ∧ (vp_in ((x6_4 + p3) - (x6_4 + p3) / 16 * 16) 16 ∧ (vp_in p1 4 ∧ ∀ a_registers_21 : Nat → Int32, a_registers_21 = upd (yg_registers u) p1.toNatClampNeg ((yg_cells u) ((x6_4 + p3) - (x6_4 + p3) / 16 * 16).toNatClampNeg) → (post (ys_registers u a_registers_21)))))) ∧ (¬ p0 = 10 → (((p0 = 11 → (¬ (16 : Int32) = 0 ∧ (vp_in ((x6_4 + p3) - (x6_4 + p3) / 16 * 16) 16 ∧ ∀ a_cells_17 : Nat → Int32, a_cells_17 = upd (yg_cells u) ((x6_4 + p3) - (x6_4 + p3) / 16 * 16).toNatClampNeg x5_2 → (post (ys_cells u a_cells_17))))) ∧ (¬ p0 = 11 → (¬ (2 : Int32) = 0 ∧ ((((p3 - p3 / 2 * 2) = 0 → (vp_in p1 4 ∧ ∀ a_registers_14 : Nat → Int32, a_registers_14 = upd (yg_registers u) p1.toNatClampNeg (yg_input u) → (post (ys_registers u a_registers_14)))) ∧ (¬ (p3 - p3 / 2 * 2) = 0 → (¬ (256 : Int32) = 0 ∧ (∀ f_times_12 : Int32, f_times_12 = ((yg_times u) + 1) - ((yg_times u) + 1) / 256 * 256 → (post (ys_output_times u x5_2 f_times_12))))))))))))))) ∧ (¬ 9 < p0 → (((5 < p0 → (((p0 = 6 → (uy_work_125 post p1 (x5_2 &&& x6_4) u)) ∧ (¬ p0 = 6 → (((p0 = 7 → (uy_work_125 post p1 (x5_2 ||| x6_4) u)) ∧ (¬ p0 = 7 → (((p0 = 8 → (uy_work_125 post p1 (x5_2 ^^^ x6_4) u)) ∧ (¬ p0 = 8 → (wpY_shifted (fun r_26 u27 => (uy_work_125 post p1 r_26 u27)) u x5_2 p3))))))))))) ∧ (¬ 5 < p0 → (wpY_calculated (fun r_52 u53 => (uy_work_125 post p1 r_52 u53)) u p0 x5_2 x6_4)))))))) ∧ (¬ 2 < p0 → (((p0 = 1 → (vp_in p1 4 ∧ ∀ a_registers_81 : Nat → Int32, a_registers_81 = upd (yg_registers u) p1.toNatClampNeg p3 → (post (ys_registers u a_registers_81)))) ∧ (¬ p0 = 1 → (¬ (4 : Int32) = 0 ∧ (wpY_moved (fun r_66 => (vp_in p1 4 ∧ ∀ a_registers_79 : Nat → Int32, a_registers_79 = upd (yg_registers u) p1.toNatClampNeg r_66 → (post (ys_registers u a_registers_79)))) u x5_2 x6_4 (p3 - p3 / 4 * 4))))))))))))) : wpY_work post u p0 p1 p2 p3 := h
def uy_following_48 (post : Int32 → Prop) (x2 : Int32) (x4 : Int32) (x5 : Int32) (z0 : Int32) (u : SY) : Prop := wY_following_48 post x2 x4 x5 z0 (yg_zero u) (yg_carry u) (yg_at u) (yg_back u) (yg_input u) (yg_output u) (yg_times u) (yg_stopped u) (yg_words u) (yg_registers u) (yg_cells u)
theorem yc_following_48 {post : Int32 → Prop} {x2 : Int32} {x4 : Int32} {x5 : Int32} {z0 : Int32} {u : SY} (h : ¬ (2 : Int32) = 0 ∧ (((z0 = (1 - (x2 - x2 / 2 * 2)) → (post x5)) ∧ (¬ z0 = (1 - (x2 - x2 / 2 * 2)) → (post x4))))) : uy_following_48 post x2 x4 x5 z0 u := h
theorem yc_following {post : Int32 → Prop} {u : SY} {p0 : Int32} {p1 : Int32} {p2 : Int32} (h : ¬ (32 : Int32) = 0 ∧ (∀ x4_2 : Int32, x4_2 = ((yg_at u) + 1) - ((yg_at u) + 1) / 32 * 32 → (¬ (32 : Int32) = 0 ∧ (∀ x5_4 : Int32, x5_4 = p2 - p2 / 32 * 32 → (((p0 = 0 → (post (yg_at u))) ∧ (¬ p0 = 0 → (((p0 = 13 → (((2 ≤ p1 → (uy_following_48 post p1 x4_2 x5_4 (yg_carry u) u)) ∧ (¬ 2 ≤ p1 → (uy_following_48 post p1 x4_2 x5_4 (yg_zero u) u))))) ∧ (¬ p0 = 13 → (((p0 = 12 → (post x5_4)) ∧ (¬ p0 = 12 → (((p0 = 14 → (((128 ≤ p2 → (post (yg_back u))) ∧ (¬ 128 ≤ p2 → (post x5_4))))) ∧ (¬ p0 = 14 → (post x4_2))))))))))))))))) : wpY_following post u p0 p1 p2 := h
def uy_once_105 (post : SY → Prop) (x2 : Int32) (x6 : Int32) (z0 : Int32) (u : SY) : Prop := wY_once_105 post x2 x6 z0 (yg_zero u) (yg_carry u) (yg_at u) (yg_back u) (yg_input u) (yg_output u) (yg_times u) (yg_stopped u) (yg_words u) (yg_registers u) (yg_cells u)
theorem yc_once_105 {post : SY → Prop} {x2 : Int32} {x6 : Int32} {z0 : Int32} {u : SY} (h : ((x2 = 0 → (post (ys_at_back_stopped u x6 z0 1))) ∧ (¬ x2 = 0 → (post (ys_at_back_stopped u x6 z0 0))))) : uy_once_105 post x2 x6 z0 u := h
def uy_once_101 (post : SY → Prop) (x2 : Int32) (x6 : Int32) (u : SY) : Prop := wY_once_101 post x2 x6 (yg_zero u) (yg_carry u) (yg_at u) (yg_back u) (yg_input u) (yg_output u) (yg_times u) (yg_stopped u) (yg_words u) (yg_registers u) (yg_cells u)
theorem yc_once_101 {post : SY → Prop} {x2 : Int32} {x6 : Int32} {u : SY} (h : uy_once_105 post x2 x6 (yg_back u) u) : uy_once_101 post x2 x6 u := h
def uy_once_74 (post : SY → Prop) (x2 : Int32) (x5 : Int32) (x6 : Int32) (u : SY) : Prop := wY_once_74 post x2 x5 x6 (yg_zero u) (yg_carry u) (yg_at u) (yg_back u) (yg_input u) (yg_output u) (yg_times u) (yg_stopped u) (yg_words u) (yg_registers u) (yg_cells u)
theorem yc_once_74 {post : SY → Prop} {x2 : Int32} {x5 : Int32} {x6 : Int32} {u : SY} (h : ((x2 = 14 → (((128 ≤ x5 → (uy_once_101 post x2 x6 u)) ∧ (¬ 128 ≤ x5 → (¬ (32 : Int32) = 0 ∧ (uy_once_105 post x2 x6 (((yg_at u) + 1) - ((yg_at u) + 1) / 32 * 32) u)))))) ∧ (¬ x2 = 14 → (uy_once_101 post x2 x6 u)))) : uy_once_74 post x2 x5 x6 u := h
def uy_once_64 (post : SY → Prop) (x2 : Int32) (x3 : Int32) (x4 : Int32) (x5 : Int32) (x6 : Int32) (u : SY) : Prop := wY_once_64 post x2 x3 x4 x5 x6 (yg_zero u) (yg_carry u) (yg_at u) (yg_back u) (yg_input u) (yg_output u) (yg_times u) (yg_stopped u) (yg_words u) (yg_registers u) (yg_cells u)
theorem yc_once_64 {post : SY → Prop} {x2 : Int32} {x3 : Int32} {x4 : Int32} {x5 : Int32} {x6 : Int32} {u : SY} (h : wpY_work (fun u32 => (uy_once_74 post x2 x5 x6 u32)) u x2 x3 x4 x5) : uy_once_64 post x2 x3 x4 x5 x6 u := h
def uy_once_58 (post : SY → Prop) (x2 : Int32) (x3 : Int32) (x4 : Int32) (x5 : Int32) (x6 : Int32) (u : SY) : Prop := wY_once_58 post x2 x3 x4 x5 x6 (yg_zero u) (yg_carry u) (yg_at u) (yg_back u) (yg_input u) (yg_output u) (yg_times u) (yg_stopped u) (yg_words u) (yg_registers u) (yg_cells u)
theorem yc_once_58 {post : SY → Prop} {x2 : Int32} {x3 : Int32} {x4 : Int32} {x5 : Int32} {x6 : Int32} {u : SY} (h : ((x2 = 15 → (uy_once_64 post x2 x3 x4 x5 x6 u)) ∧ (¬ x2 = 15 → (uy_once_74 post x2 x5 x6 u)))) : uy_once_58 post x2 x3 x4 x5 x6 u := h
theorem yc_once {post : SY → Prop} {u : SY} (h : vp_in (yg_at u) 32 ∧ (∀ x1_2 : Int32, x1_2 = (yg_words u) (yg_at u).toNatClampNeg → (¬ (16 : Int32) = 0 ∧ (∀ x2_4 : Int32, x2_4 = x1_2 - x1_2 / 16 * 16 → (¬ (16 : Int32) = 0 ∧ (¬ (4 : Int32) = 0 ∧ (∀ x3_7 : Int32, x3_7 = (x1_2 / 16) - (x1_2 / 16) / 4 * 4 → (¬ (64 : Int32) = 0 ∧ (¬ (4 : Int32) = 0 ∧ (∀ x4_10 : Int32, x4_10 = (x1_2 / 64) - (x1_2 / 64) / 4 * 4 → (¬ (256 : Int32) = 0 ∧ (∀ x5_12 : Int32, x5_12 = x1_2 / 256 → (wpY_following (fun r_13 => (((x2_4 < 1 → (uy_once_58 post x2_4 x3_7 x4_10 x5_12 r_13 u)) ∧ (¬ x2_4 < 1 → (((x2_4 ≤ 11 → (uy_once_64 post x2_4 x3_7 x4_10 x5_12 r_13 u)) ∧ (¬ x2_4 ≤ 11 → (uy_once_58 post x2_4 x3_7 x4_10 x5_12 r_13 u)))))))) u x2_4 x3_7 x5_12))))))))))))) : wpY_once post u := h
def uy_cycle_27 (post : Int32 → SY → Prop) (x3 : Int32) (n : Nat) (x4 : Int32) (u : SY) : Prop := wY_cycle_27 post x3 n x4 (yg_zero u) (yg_carry u) (yg_at u) (yg_back u) (yg_input u) (yg_output u) (yg_times u) (yg_stopped u) (yg_words u) (yg_registers u) (yg_cells u)
theorem yc_cycle_27 {post : Int32 → SY → Prop} {x3 : Int32} {n : Nat} {x4 : Int32} {u : SY} (h : ((x3 ≤ x4 → (post x4 u)) ∧ (¬ x3 ≤ x4 → ((((yg_stopped u) = 0 → (wpY_once (fun u7 => (∀ x4_18 : Int32, x4_18 = x4 + 1 → (uy_cycle_27 post x3 n x4_18 u7))) u)) ∧ (¬ (yg_stopped u) = 0 → (post x4 u))))))) : uy_cycle_27 post x3 (n + 1) x4 u := h
theorem yc_cycle {post : Int32 → SY → Prop} {u : SY} {p0 : Int32} {p1 : Int32} (h : ((p1 < 0 → (post (-1) u)) ∧ (¬ p1 < 0 → (((p1 ≤ 3 → (((p0 ≤ 60 → (∃ n27 : Nat, uy_cycle_27 post p0 n27 0 u)) ∧ (¬ p0 ≤ 60 → (∃ n27 : Nat, uy_cycle_27 post 60 n27 0 u))))) ∧ (¬ p1 ≤ 3 → (post (-1) u))))))) : wpY_cycle post u p0 p1 := h
theorem yc_halted {post : Int32 → Prop} {u : SY} (h : narrow .boolean (.int (yg_stopped u)) = .int (yg_stopped u) ∧ (post (yg_stopped u))) : wpY_halted post u := h
theorem yc_counter {post : Int32 → Prop} {u : SY} (h : post (yg_at u)) : wpY_counter post u := h
theorem yc_register {post : Int32 → Prop} {u : SY} {p0 : Int32} (h : wpY_isRegister (fun r_1 => (((r_1 = 0 → (post (-1))) ∧ (¬ r_1 = 0 → (vp_in p0 4 ∧ (post ((yg_registers u) p0.toNatClampNeg))))))) u p0) : wpY_register post u p0 := h
theorem yc_memory {post : Int32 → Prop} {u : SY} {p0 : Int32} (h : ((p0 < 0 → (post (-1))) ∧ (¬ p0 < 0 → (((15 < p0 → (post (-1))) ∧ (¬ 15 < p0 → (vp_in p0 16 ∧ (post ((yg_cells u) p0.toNatClampNeg))))))))) : wpY_memory post u p0 := h
theorem yc_flags {post : Int32 → Prop} {u : SY} (h : post ((yg_zero u) + (2 * (yg_carry u)))) : wpY_flags post u := h
theorem yc_link {post : Int32 → Prop} {u : SY} (h : post (yg_back u)) : wpY_link post u := h
theorem yc_out {post : Int32 → Prop} {u : SY} (h : post (yg_output u)) : wpY_out post u := h
theorem yc_outs {post : Int32 → Prop} {u : SY} (h : post (yg_times u)) : wpY_outs post u := h
theorem yc_same {post : Int32 → Prop} {u : SY} {p0 : Int32} {p1 : Int32} (h : wpY_isRegister (fun r_1 => (((r_1 = 0 → (post 0)) ∧ (¬ r_1 = 0 → (wpY_isRegister (fun r_14 => (((r_14 = 0 → (post 0)) ∧ (¬ r_14 = 0 → (vp_in p0 4 ∧ (vp_in p1 4 ∧ (((((yg_registers u) p0.toNatClampNeg) = ((yg_registers u) p1.toNatClampNeg) → (post 1)) ∧ (¬ ((yg_registers u) p0.toNatClampNeg) = ((yg_registers u) p1.toNatClampNeg) → (post 0)))))))))) u p1))))) u p0) : wpY_same post u p0 p1 := h
def uy_reset_2 (post : SY → Prop) (n : Nat) (x1 : Int32) (u : SY) (wd rg ce : Nat → Int32) : Prop := wY_reset_2 post (yg_zero u) (yg_carry u) (yg_at u) (yg_back u) (yg_input u) (yg_output u) (yg_times u) (yg_stopped u) n x1 wd rg ce
theorem yc_reset_2 {post : SY → Prop} {n : Nat} {x1 : Int32} {u : SY} {wd rg ce : Nat → Int32} (h : ((16 ≤ x1 → (post (0, 0, 0, 0, (yg_input u), 0, 0, 0, wd, rg, ce))) ∧ (¬ 16 ≤ x1 → (vp_in x1 16 ∧ ∀ a : Nat → Int32, a = upd ce x1.toNatClampNeg 0 → (¬ (4 : Int32) = 0 ∧ (vp_in (x1 - x1 / 4 * 4) 4 ∧ ∀ b : Nat → Int32, b = upd rg (x1 - x1 / 4 * 4).toNatClampNeg 0 → (∀ y : Int32, y = x1 + 1 → (uy_reset_2 post n y u wd b a)))))))) : uy_reset_2 post (n + 1) x1 u wd rg ce := h
theorem yc_reset {post : SY → Prop} {u : SY} (h : ∃ n2 : Nat, uy_reset_2 post n2 0 u (yg_words u) (yg_registers u) (yg_cells u)) : wpY_reset post u := h
end
section
/-! the reference's step, in numbers -/
def gc_YS (v : SY) (wd : Nat → Int32) (inp : Int32) (z c : Bool) (at' bk ou tm : Nat) (hl : Bool) (rg ce : Nat → Nat) : Prop := (yg_words v = wd ∧ yg_input v = inp ∧ yg_zero v = gc_b2 z ∧ yg_carry v = gc_b2 c ∧ yg_at v = nI at' ∧ yg_back v = nI bk ∧ yg_output v = nI ou ∧ yg_times v = nI tm ∧ yg_stopped v = gc_b2 hl) ∧ (∀ r, r < 4 → yg_registers v r = nI (rg r)) ∧ ∀ a, a < 16 → yg_cells v a = nI (ce a)
theorem gc_YS_cg {v : SY} {wd : Nat → Int32} {inp : Int32} {z z' c c' : Bool} {at1 at2 bk bk' ou ou' tm tm' : Nat} {hl hl' : Bool} {rg rg' ce ce' : Nat → Nat} (h : gc_YS v wd inp z c at1 bk ou tm hl rg ce) (e1 : z = z') (e2 : c = c') (e3 : at1 = at2) (e4 : bk = bk') (e5 : ou = ou') (e6 : tm = tm') (e7 : hl = hl') (e8 : ∀ r, r < 4 → rg r = rg' r) (e9 : ∀ a, a < 16 → ce a = ce' a) : gc_YS v wd inp z' c' at2 bk' ou' tm' hl' rg' ce' := by
  subst e1 e2 e3 e4 e5 e6 e7
  exact ⟨h.1, fun r hr => by rw [← e8 r hr]; exact h.2.1 r hr, fun a ha => by rw [← e9 a ha]; exact h.2.2 a ha⟩
theorem gc_b2_n (b : Bool) : gc_b2 b = nI (if b then 1 else 0) := by cases b <;> rfl
theorem gc_b2_1 {b : Bool} : gc_b2 b = 1 ↔ b = true := by cases b <;> decide
theorem gc_b2_0 {b : Bool} : gc_b2 b = 0 ↔ b = false := by cases b <;> decide
theorem gc_rm2 (a : Nat) (h : a < 2 ^ 31) : nI a - nI a / 2 * 2 = nI (a % 2) := pk_rem (d := 2) h (by omega) (by omega)
theorem gc_rm4 (a : Nat) (h : a < 2 ^ 31) : nI a - nI a / 4 * 4 = nI (a % 4) := pk_rem (d := 4) h (by omega) (by omega)
theorem gc_rm16 (a : Nat) (h : a < 2 ^ 31) : nI a - nI a / 16 * 16 = nI (a % 16) := pk_rem (d := 16) h (by omega) (by omega)
theorem gc_rm32 (a : Nat) (h : a < 2 ^ 31) : nI a - nI a / 32 * 32 = nI (a % 32) := pk_rem (d := 32) h (by omega) (by omega)
theorem gc_rm256 (a : Nat) (h : a < 2 ^ 31) : nI a - nI a / 256 * 256 = nI (a % 256) := pk_rem (d := 256) h (by omega) (by omega)
theorem gc_dv2 (a : Nat) (h : a < 2 ^ 31) : nI a / 2 = nI (a / 2) := pk_div (d := 2) h (by omega) (by omega)
theorem gc_dv16 (a : Nat) (h : a < 2 ^ 31) : nI a / 16 = nI (a / 16) := pk_div (d := 16) h (by omega) (by omega)
theorem gc_dv64 (a : Nat) (h : a < 2 ^ 31) : nI a / 64 = nI (a / 64) := pk_div (d := 64) h (by omega) (by omega)
theorem gc_dv128 (a : Nat) (h : a < 2 ^ 31) : nI a / 128 = nI (a / 128) := pk_div (d := 128) h (by omega) (by omega)
theorem gc_dv256 (a : Nat) (h : a < 2 ^ 31) : nI a / 256 = nI (a / 256) := pk_div (d := 256) h (by omega) (by omega)
theorem gc_255 {n : Nat} (h : n < 2 ^ 32) : nI n &&& 255 = nI (n % 256) := pk_andN h (m := 255) 8 (by decide)
theorem gc_yFol {post : Int32 → Prop} {v : SY} {wd : Nat → Int32} {inp : Int32} {z c hl : Bool} {at' bk ou tm op d m : Nat} {rg ce : Nat → Nat} (Y : gc_YS v wd inp z c at' bk ou tm hl rg ce) (ha : at' < 32) (hop : op < 16) (hd : d < 4) (hm : m < 256) (K : post (nI (if op = 0 then at' else gc_nt op d m at' bk z c))) : wpY_following post v (nI op) (nI d) (nI m) := by
  obtain ⟨⟨_, _, y3, y4, y5, y6, _, _, _⟩, _, _⟩ := Y
  refine yc_following ?_
  rw [y3, y4, y5, y6, nI_1, gc_rm32 (at' + 1) (by omega), gc_rm32 m (by omega)]
  refine ⟨by decide, nm_e ⟨by decide, nm_e ?_⟩⟩
  unfold gc_nt at K
  have f48 : ∀ b : Bool, op = 13 → (if 2 ≤ d then c else z) = b → uy_following_48 post (nI d) (nI ((at' + 1) % 32)) (nI (m % 32)) (gc_b2 b) v := by
    intro b ho hb
    rw [if_neg (by omega), if_neg (by omega), hb] at K
    have d2 : nI d - nI d / 2 * 2 = nI (d % 2) := gc_rm2 d (by omega)
    have d3 : (1 : Int32) - nI (d % 2) = nI (1 - d % 2) := pk_sub (a := 1) (by omega)
    refine yc_following_48 ?_
    rw [d2, d3]
    refine ⟨by decide, ?_⟩
    rcases Nat.mod_two_eq_zero_or_one d with e | e
    · rw [e] at K ⊢
      cases b
      · refine br_f (by decide) ?_
        rw [if_neg (by simp; omega)] at K
        exact K
      · refine br_t (by decide) ?_
        rw [if_pos (Or.inr (Or.inl ⟨ho, by decide⟩))] at K
        exact K
    · rw [e] at K ⊢
      cases b
      · refine br_t (by decide) ?_
        rw [if_pos (Or.inr (Or.inl ⟨ho, by decide⟩))] at K
        exact K
      · refine br_f (by decide) ?_
        rw [if_neg (by simp; omega)] at K
        exact K
  refine pk_eq op 0 (fun e => ?_) fun e0 => pk_eq op 13 (fun e => ?_) fun e1 => pk_eq op 12 (fun e => ?_) fun e2 => pk_eq op 14 (fun e => ?_) fun e3 => ?_
  · rw [if_pos e] at K; exact K
  · exact pk_le 2 d (fun q => f48 c e (if_pos q)) fun q => f48 z e (if_neg (by omega))
  · rw [if_neg (by omega), if_neg (by omega), if_pos (Or.inl e)] at K; exact K
  · refine pk_le 128 m (fun q => ?_) fun q => ?_
    · rw [if_neg (by omega), if_pos ⟨e, q⟩] at K; exact K
    · rw [if_neg (by omega), if_neg (by omega), if_pos (Or.inr (Or.inr ⟨e, q⟩))] at K; exact K
  · rw [if_neg (by omega), if_neg (by omega), if_neg (by omega)] at K; exact K
theorem gc_abs_F {v : SY} {a b c : Int32} : (yg_words (ys_at_back_stopped v a b c) = yg_words v ∧ yg_input (ys_at_back_stopped v a b c) = yg_input v ∧ yg_zero (ys_at_back_stopped v a b c) = yg_zero v ∧ yg_carry (ys_at_back_stopped v a b c) = yg_carry v ∧ yg_output (ys_at_back_stopped v a b c) = yg_output v ∧ yg_times (ys_at_back_stopped v a b c) = yg_times v) ∧ (yg_registers (ys_at_back_stopped v a b c) = yg_registers v ∧ yg_cells (ys_at_back_stopped v a b c) = yg_cells v) ∧ yg_at (ys_at_back_stopped v a b c) = a ∧ yg_back (ys_at_back_stopped v a b c) = b ∧ yg_stopped (ys_at_back_stopped v a b c) = c := ⟨⟨rfl, rfl, rfl, rfl, rfl, rfl⟩, ⟨rfl, rfl⟩, rfl, rfl, rfl⟩
theorem gc_y74 {post : SY → Prop} {v : SY} {wd : Nat → Int32} {inp : Int32} {z c : Bool} {at' bk ou tm op m nx : Nat} {rg ce : Nat → Nat} (Y : gc_YS v wd inp z c at' bk ou tm false rg ce) (ha : at' < 32) (hop : op < 16) (hm : m < 256)
    (K : ∀ v', gc_YS v' wd inp z c nx (if op = 14 ∧ m < 128 then (at' + 1) % 32 else bk) ou tm (decide (op = 0)) rg ce → post v') : uy_once_74 post (nI op) (nI m) (nI nx) v := by
  have b105 : ∀ b, (if op = 14 ∧ m < 128 then (at' + 1) % 32 else bk) = b → uy_once_105 post (nI op) (nI nx) (nI b) v := by
    intro b hb
    have fin : ∀ x : Int32, x = gc_b2 (decide (op = 0)) → post (ys_at_back_stopped v (nI nx) (nI b) x) := fun x hx => by
      obtain ⟨⟨q1, q2, q3, q4, q5, q6⟩, ⟨q7, q8⟩, q9, q10, q11⟩ := @gc_abs_F v (nI nx) (nI b) x
      obtain ⟨⟨y1, y2, y3, y4, y5, y6, y7, y8, y9⟩, y10, y11⟩ := Y
      exact K _ ⟨⟨q1.trans y1, q2.trans y2, q3.trans y3, q4.trans y4, q9, by rw [q10, hb], q5.trans y7, q6.trans y8, q11.trans hx⟩, by rw [q7]; exact y10, by rw [q8]; exact y11⟩
    exact yc_once_105 (pk_eq op 0 (fun e => fin 1 (by rw [decide_eq_true e]; rfl)) fun e => fin 0 (by rw [decide_eq_false e]; rfl))
  have y5 := Y.1.2.2.2.2.1
  have y6 := Y.1.2.2.2.2.2.1
  refine yc_once_74 ?_
  rw [y5, nI_1, gc_rm32 (at' + 1) (by omega)]
  have b101 : ¬ (op = 14 ∧ m < 128) → uy_once_101 post (nI op) (nI nx) v := fun hn => by
    refine yc_once_101 ?_
    rw [y6]; exact b105 bk (if_neg hn)
  exact pk_eq op 14 (fun e => pk_le 128 m (fun q => b101 (by omega)) fun q => ⟨by decide, b105 _ (if_pos ⟨e, q⟩)⟩) fun e => b101 (by omega)
def gc_tr (y : Nat) : Nat → Int32
  | 0 => 0
  | k + 1 => if y.testBit k then gc_tr y k ||| ((128 : Int32) >>> (nI k &&& 31)) else gc_tr y k
theorem gc_tr_v : ∀ y, y < 256 → gc_tr y 8 = nI (gc_tu y) := by decide +kernel
theorem gc_yTur {post : Int32 → Prop} {v : SY} {y : Nat} (hy : y < 256) (K : post (nI (gc_tu y))) : wpY_turned post v (nI y) := by
  have loop : ∀ f k, k ≤ 8 → 8 - k < f → uy_turned_4 post (nI y) f (gc_tr y k) (nI k) v := by
    intro f
    induction f with
    | zero => intro k _ h2; omega
    | succ f ih =>
      intro k k1 k2
      refine yc_turned_4 (pk_le 8 k (fun q => ?_) fun q => ?_)
      · have e : k = 8 := by omega
        subst e
        rw [gc_tr_v y hy]; exact K
      · rw [gc_tb1 (by omega) (by omega)]
        have ih' := ih (k + 1) (by omega) (by omega)
        have e : gc_tr y (k + 1) = if y.testBit k then gc_tr y k ||| ((128 : Int32) >>> (nI k &&& 31)) else gc_tr y k := rfl
        rw [e] at ih'
        refine ek_if gc_b2_1 (fun z => ?_) fun z => ?_
        · rw [if_pos z] at ih'
          exact nm_e (nm_r (nI_1 k) ih')
        · rw [if_neg z] at ih'
          exact nm_r (nI_1 k) ih'
  exact yc_turned ⟨9, loop 9 0 (by omega) (by omega)⟩
theorem gc_yMov {post : Int32 → Prop} {v : SY} {x y m : Nat} (hx : x < 256) (hy : y < 256) (K : post (nI (if m % 4 = 0 then y else if m % 4 = 1 then x * y % 256 else if m % 4 = 2 then x * y / 256 else gc_tu y))) : wpY_moved post v (nI x) (nI y) (nI (m % 4)) := by
  have hxy : x * y < 65536 := Nat.lt_of_lt_of_le (Nat.mul_lt_mul'' hx hy) (by decide)
  refine yc_moved ?_
  rw [pk_mul, gc_255 (by omega), gc_dv256 (x * y) (by omega)]
  refine pk_eq (m % 4) 0 (fun e => ?_) fun e0 => pk_eq (m % 4) 1 (fun e => ?_) fun e1 => pk_eq (m % 4) 2 (fun e => ⟨by decide, ?_⟩) fun e2 => ?_
  · rw [if_pos e] at K; exact K
  · rw [if_neg e0, if_pos e] at K; exact K
  · rw [if_neg e0, if_neg e1, if_pos e] at K; exact K
  · rw [if_neg e0, if_neg e1, if_neg e2] at K; exact gc_yTur hy K
theorem gc_yCal {post : Int32 → SY → Prop} {v : SY} {op x y m P : Nat} {c : Bool} {ce : Nat → Nat} (hc : yg_carry v = gc_b2 c) (hop : op = 3 ∨ op = 4 ∨ op = 5) (hx : x < 256) (hy : y < 256) (K : post (nI (gc_rs op m x y P c ce)) (ys_carry v (gc_b2 (gc_cy op m x y c)))) : wpY_calculated post v (nI op) (nI x) (nI y) := by
  have up : ∀ n, n < 1000 → post (nI (n % 256)) (ys_carry v (gc_b2 (decide (256 ≤ n)))) → uy_calculated_30 post (nI n) v := by
    intro n hn K
    refine yc_calculated_30 ?_
    rw [gc_255 (by omega)]
    refine pk_lt 255 n (fun q => ?_) fun q => br_t (nI_pos' (by omega)) ?_
    · rw [decide_eq_true (by omega)] at K; exact K
    · rw [decide_eq_false (by omega)] at K; exact K
  refine yc_calculated ?_
  rw [hc, gc_b2_n, nI_add, nI_add]
  rcases hop with rfl | rfl | rfl
  · exact br_t rfl (up (x + y) (by omega) K)
  · exact br_f (by decide) (br_t rfl (up _ (by split <;> omega) K))
  · refine br_f (by decide) (br_f (by decide) ?_)
    have K' : post (nI ((x + 256 - y) % 256)) (ys_carry v (gc_b2 (decide (x < y)))) := K
    rcases Nat.lt_or_ge x y with q | q
    · rw [decide_eq_true q] at K'
      have ti : (nI x - nI y).toInt = (x : Int) - y := pk_sub_toInt (by omega) (by omega)
      have n1 : ¬ (255 : Int32) < nI x - nI y := by
        rw [Int32.lt_iff_toInt_lt, ti, show (255 : Int32).toInt = 255 from by decide]; omega
      have n2 : ¬ (0 : Int32) ≤ nI x - nI y := by
        rw [Int32.le_iff_toInt_le, ti, show (0 : Int32).toInt = 0 from by decide]; omega
      have e : (nI x - nI y) &&& 255 = nI ((x + 256 - y) % 256) := by
        rw [pk_and (nI x - nI y) (m := 255) 8 (by decide), Int32.toBitVec_sub, BitVec.toNat_sub, pk_tn (by omega), pk_tn (by omega)]
        exact congrArg nI (by omega)
      refine yc_calculated_30 (br_f n1 (br_f n2 ?_))
      rw [e]; exact K'
    · rw [decide_eq_false (by omega)] at K'
      rw [pk_sub q]
      refine up (x - y) (by omega) ?_
      rw [decide_eq_false (by omega)]
      have : (x - y) % 256 = (x + 256 - y) % 256 := by omega
      rw [this]; exact K'
theorem gc_yShi {post : Int32 → SY → Prop} {v : SY} {x y m P : Nat} {c : Bool} {ce : Nat → Nat} (hc : yg_carry v = gc_b2 c) (hx : x < 256) (hm : m < 256) (K : post (nI (gc_rs 9 m x y P c ce)) (ys_carry v (gc_b2 (gc_cy 9 m x y c)))) : wpY_shifted post v (nI x) (nI m) := by
  have K' : post (nI (if m % 2 = 0 then 2 * x % 256 + (if (decide (m / 2 % 2 = 1) && c) then 1 else 0) else x / 2 + (if (decide (m / 2 % 2 = 1) && c) then 128 else 0))) (ys_carry v (gc_b2 (if m % 2 = 0 then decide (128 ≤ x) else decide (x % 2 = 1)))) := K
  have b15 : ∀ b : Bool, (decide (m / 2 % 2 = 1) && c) = b → uy_shifted_15 post (nI x) (nI m) (gc_b2 b) v := by
    intro b hb
    rw [hb] at K'
    refine yc_shifted_15 ?_
    rw [gc_rm2 m (by omega)]
    refine ⟨by decide, pk_eq (m % 2) 0 (fun e => yc_shifted_27 (br_f (by decide) ⟨by decide, ?_⟩)) fun e => yc_shifted_27 (br_t rfl ⟨by decide, ?_⟩)⟩
    · rw [if_pos e, if_pos e] at K'
      refine yc_shifted_46 (br_f (by decide) ⟨by decide, ?_⟩)
      have e1 : nI x / 128 = gc_b2 (decide (128 ≤ x)) := by
        rw [gc_dv128 x (by omega), gc_b2_n]
        by_cases q : 128 ≤ x
        · rw [decide_eq_true q]; exact congrArg nI (by show x / 128 = 1; omega)
        · rw [decide_eq_false q]; exact congrArg nI (by show x / 128 = 0; omega)
      rw [show (2 : Int32) = nI 2 from rfl, pk_mul, gc_rm256 (2 * x) (by omega), gc_b2_n b, nI_add, e1]
      exact K'
    · rw [if_neg e, if_neg e] at K'
      refine yc_shifted_46 (br_t rfl ⟨by decide, ?_⟩)
      have e1 : nI x - nI x / 2 * 2 = gc_b2 (decide (x % 2 = 1)) := by
        rw [gc_rm2 x (by omega), gc_b2_n]
        by_cases q : x % 2 = 1
        · rw [decide_eq_true q]; exact congrArg nI q
        · rw [decide_eq_false q]; exact congrArg nI (by show x % 2 = 0; omega)
      have e2 : (128 : Int32) * gc_b2 b = nI (if b then 128 else 0) := by cases b <;> decide
      rw [e1, e2, gc_dv2 x (by omega), nI_add]
      exact K'
  refine yc_shifted ?_
  rw [gc_rm4 m (by omega), hc]
  refine ⟨by decide, pk_lt (m % 4) 2 (fun q => ?_) fun q => ?_⟩
  · exact b15 false (by rw [decide_eq_false (by omega)]; rfl)
  · exact b15 c (by rw [decide_eq_true (by omega)]; rfl)
end
section
/-! the reference's step as a whole -/
theorem gc_nand (a b : Nat) : nI a &&& nI b = nI (a &&& b) := by
  apply Int32.toBitVec_inj.1
  show BitVec.ofNat 32 a &&& BitVec.ofNat 32 b = BitVec.ofNat 32 (a &&& b)
  rw [BitVec.ofNat_and]
theorem gc_nxor (a b : Nat) : nI a ^^^ nI b = nI (a ^^^ b) := by
  apply Int32.toBitVec_inj.1
  show BitVec.ofNat 32 a ^^^ BitVec.ofNat 32 b = BitVec.ofNat 32 (a ^^^ b)
  rw [BitVec.ofNat_xor]
theorem gc_yre_F {v : SY} {a : Nat → Int32} : (yg_words (ys_registers v a) = yg_words v ∧ yg_input (ys_registers v a) = yg_input v ∧ yg_zero (ys_registers v a) = yg_zero v ∧ yg_carry (ys_registers v a) = yg_carry v ∧ yg_at (ys_registers v a) = yg_at v ∧ yg_back (ys_registers v a) = yg_back v ∧ yg_output (ys_registers v a) = yg_output v ∧ yg_times (ys_registers v a) = yg_times v ∧ yg_stopped (ys_registers v a) = yg_stopped v) ∧ yg_registers (ys_registers v a) = a ∧ yg_cells (ys_registers v a) = yg_cells v := ⟨⟨rfl, rfl, rfl, rfl, rfl, rfl, rfl, rfl, rfl⟩, rfl, rfl⟩
theorem gc_yReg {v : SY} {wd : Nat → Int32} {inp : Int32} {z c hl : Bool} {at' bk ou tm d R : Nat} {rg ce : Nat → Nat} (Y : gc_YS v wd inp z c at' bk ou tm hl rg ce) : gc_YS (ys_registers v (upd (yg_registers v) d (nI R))) wd inp z c at' bk ou tm hl (fun r => if r = d then R else rg r) ce := by
  obtain ⟨⟨y1, y2, y3, y4, y5, y6, y7, y8, y9⟩, y10, y11⟩ := Y
  refine ⟨⟨y1, y2, y3, y4, y5, y6, y7, y8, y9⟩, fun r hr => ?_, y11⟩
  show upd (yg_registers v) d (nI R) r = nI (if r = d then R else rg r)
  by_cases e : r = d
  · rw [e, pk_us, if_pos rfl]
  · rw [pk_un e, if_neg e]; exact y10 r hr
theorem gc_yCel {v : SY} {wd : Nat → Int32} {inp : Int32} {z c hl : Bool} {at' bk ou tm d R : Nat} {rg ce : Nat → Nat} (Y : gc_YS v wd inp z c at' bk ou tm hl rg ce) : gc_YS (ys_cells v (upd (yg_cells v) d (nI R))) wd inp z c at' bk ou tm hl rg (fun a => if a = d then R else ce a) := by
  obtain ⟨⟨y1, y2, y3, y4, y5, y6, y7, y8, y9⟩, y10, y11⟩ := Y
  refine ⟨⟨y1, y2, y3, y4, y5, y6, y7, y8, y9⟩, y10, fun r hr => ?_⟩
  show upd (yg_cells v) d (nI R) r = nI (if r = d then R else ce r)
  by_cases e : r = d
  · rw [e, pk_us, if_pos rfl]
  · rw [pk_un e, if_neg e]; exact y11 r hr
theorem gc_yCar {v : SY} {wd : Nat → Int32} {inp : Int32} {z c c' hl : Bool} {at' bk ou tm : Nat} {rg ce : Nat → Nat} (Y : gc_YS v wd inp z c at' bk ou tm hl rg ce) : gc_YS (ys_carry v (gc_b2 c')) wd inp z c' at' bk ou tm hl rg ce := by
  obtain ⟨⟨y1, y2, y3, y4, y5, y6, y7, y8, y9⟩, y10, y11⟩ := Y
  exact ⟨⟨y1, y2, y3, rfl, y5, y6, y7, y8, y9⟩, y10, y11⟩
theorem gc_yZer {v : SY} {wd : Nat → Int32} {inp : Int32} {z z' c hl : Bool} {at' bk ou tm : Nat} {rg ce : Nat → Nat} (Y : gc_YS v wd inp z c at' bk ou tm hl rg ce) : gc_YS (ys_zero v (gc_b2 z')) wd inp z' c at' bk ou tm hl rg ce := by
  obtain ⟨⟨y1, y2, y3, y4, y5, y6, y7, y8, y9⟩, y10, y11⟩ := Y
  exact ⟨⟨y1, y2, rfl, y4, y5, y6, y7, y8, y9⟩, y10, y11⟩
theorem gc_yOut {v : SY} {wd : Nat → Int32} {inp : Int32} {z c hl : Bool} {at' bk ou tm x t : Nat} {rg ce : Nat → Nat} (Y : gc_YS v wd inp z c at' bk ou tm hl rg ce) : gc_YS (ys_output_times v (nI x) (nI t)) wd inp z c at' bk x t hl rg ce := by
  obtain ⟨⟨y1, y2, y3, y4, y5, y6, y7, y8, y9⟩, y10, y11⟩ := Y
  exact ⟨⟨y1, y2, y3, y4, y5, y6, rfl, rfl, y9⟩, y10, y11⟩
theorem gc_y125 {post : SY → Prop} {v : SY} {wd : Nat → Int32} {inp : Int32} {z c hl : Bool} {at' bk ou tm d R : Nat} {rg ce : Nat → Nat} (Y : gc_YS v wd inp z c at' bk ou tm hl rg ce) (hd : d < 4) (hR : R < 1000)
    (K : ∀ v', gc_YS v' wd inp (decide (R = 0)) c at' bk ou tm hl (fun r => if r = d then R else rg r) ce → post v') : uy_work_125 post (nI d) (nI R) v := by
  refine yc_work_125 ⟨vp_in_nI hd (by decide), nm_r (e' := upd (yg_registers v) d (nI R)) (by rw [nI_clamp (by omega)]) ?_⟩
  have Y1 := gc_yReg (d := d) (R := R) Y
  refine yc_setZero (pk_eq R 0 (fun e => ?_) fun e => ?_)
  · refine K _ ?_
    rw [decide_eq_true e]
    exact gc_yZer (z' := true) Y1
  · refine K _ ?_
    rw [decide_eq_false e]
    exact gc_yZer (z' := false) Y1
theorem gc_rs_lt {op m x y P : Nat} {c : Bool} {ce : Nat → Nat} (h : 3 ≤ op ∧ op ≤ 9) (hx : x < 256) (hy : y < 256) : gc_rs op m x y P c ce < 1000 := by
  have hop : op = 3 ∨ op = 4 ∨ op = 5 ∨ op = 6 ∨ op = 7 ∨ op = 8 ∨ op = 9 := by omega
  rcases hop with rfl | rfl | rfl | rfl | rfl | rfl | rfl
  · show (x + y) % 256 < 1000; omega
  · show (x + y + (if c then 1 else 0)) % 256 < 1000; omega
  · show (x + 256 - y) % 256 < 1000; omega
  · show x &&& y < 1000
    exact Nat.lt_of_lt_of_le (Nat.and_lt_two_pow (n := 8) x hy) (by decide)
  · show x ||| y < 1000
    exact Nat.lt_of_lt_of_le (Nat.or_lt_two_pow (n := 8) hx hy) (by decide)
  · show x ^^^ y < 1000
    exact Nat.lt_of_lt_of_le (Nat.xor_lt_two_pow (n := 8) hx hy) (by decide)
  · show (if m % 2 = 0 then 2 * x % 256 + (if (decide (m / 2 % 2 = 1) && c) then 1 else 0) else x / 2 + (if (decide (m / 2 % 2 = 1) && c) then 128 else 0)) < 1000
    split <;> split <;> omega
theorem gc_yWk {post : SY → Prop} {v : SY} {wd : Nat → Int32} {z c : Bool} {at' bk ou tm op d s m P : Nat} {rg ce : Nat → Nat} (Y : gc_YS v wd (nI P) z c at' bk ou tm false rg ce) (hop : (1 ≤ op ∧ op ≤ 11) ∨ op = 15) (hd : d < 4) (hs : s < 4) (hm : m < 256) (hrg : ∀ r, r < 4 → rg r < 256) (htm : tm < 256)
    (K : ∀ v', gc_YS v' wd (nI P) (if decide (3 ≤ op ∧ op ≤ 9) then decide (gc_rs op m (rg d) (rg s) P c ce = 0) else z) (if decide ((3 ≤ op ∧ op ≤ 5) ∨ op = 9) then gc_cy op m (rg d) (rg s) c else c) at' bk (if op = 15 ∧ m % 2 = 1 then rg d else ou) (if op = 15 ∧ m % 2 = 1 then (tm + 1) % 256 else tm) false (fun r => if (decide (d = r) && gc_wr op m) then gc_rs op m (rg d) (rg s) P c ce else rg r) (fun a => if (decide ((rg s + m) % 16 = a) && decide (op = 11)) then rg d else ce a) → post v') : wpY_work post v (nI op) (nI d) (nI s) (nI m) := by
  obtain ⟨⟨y1, y2, y3, y4, y5, y6, y7, y8, y9⟩, y10, y11⟩ := id Y
  have hx := hrg d hd
  have hy := hrg s hs
  have ivd : vp_in (nI d) 4 := vp_in_nI hd (by decide)
  have ivs : vp_in (nI s) 4 := vp_in_nI hs (by decide)
  -- a register alone
  have regA : ∀ R : Nat, gc_rs op m (rg d) (rg s) P c ce = R → (op = 1 ∨ op = 2 ∨ op = 10 ∨ (op = 15 ∧ m % 2 = 0)) → post (ys_registers v (upd (yg_registers v) d (nI R))) := by
    intro R hR ho
    refine K _ (gc_YS_cg (gc_yReg (d := d) (R := R) Y) ?_ ?_ rfl rfl ?_ ?_ rfl (fun r _ => ?_) fun a _ => ?_)
    · rw [if_neg (by rw [decide_eq_true_eq]; omega)]
    · rw [if_neg (by rw [decide_eq_true_eq]; omega)]
    · rw [if_neg (by omega)]
    · rw [if_neg (by omega)]
    · have hw : gc_wr op m = true := decide_eq_true (by omega)
      rw [hw, Bool.and_true, hR]
      by_cases e : r = d
      · rw [if_pos e, if_pos (decide_eq_true e.symm)]
      · rw [if_neg e, if_neg (by rw [decide_eq_true_eq]; exact Ne.symm e)]
    · rw [decide_eq_false (p := op = 11) (by omega), Bool.and_false]; rfl
  -- a register and the flags
  have regB : ∀ (v1 : SY) (c1 : Bool), gc_YS v1 wd (nI P) z c1 at' bk ou tm false rg ce → (3 ≤ op ∧ op ≤ 9) → (if decide ((3 ≤ op ∧ op ≤ 5) ∨ op = 9) then gc_cy op m (rg d) (rg s) c else c) = c1 → uy_work_125 post (nI d) (nI (gc_rs op m (rg d) (rg s) P c ce)) v1 := by
    intro v1 c1 Y1 ho hc1
    refine gc_y125 Y1 hd (gc_rs_lt ho hx hy) fun v' Y' => K v' (gc_YS_cg Y' ?_ hc1.symm rfl rfl ?_ ?_ rfl (fun r _ => ?_) fun a _ => ?_)
    · rw [if_pos (decide_eq_true ho)]
    · rw [if_neg (by omega)]
    · rw [if_neg (by omega)]
    · have hw : gc_wr op m = true := decide_eq_true (by omega)
      rw [hw, Bool.and_true]
      by_cases e : r = d
      · rw [if_pos e, if_pos (decide_eq_true e.symm)]
      · rw [if_neg e, if_neg (by rw [decide_eq_true_eq]; exact Ne.symm e)]
    · rw [decide_eq_false (p := op = 11) (by omega), Bool.and_false]; rfl
  refine yc_work ?_
  rw [nI_clamp (n := d) (by omega), nI_clamp (n := s) (by omega), y8, y2, nI_1]
  refine ⟨ivd, nm_r (y10 d hd) ⟨ivs, nm_r (y10 s hs) ?_⟩⟩
  rw [nI_add, gc_rm16 (rg s + m) (by omega), gc_rm2 m (by omega), gc_rm4 m (by omega), gc_rm256 (tm + 1) (by omega), nI_clamp (n := (rg s + m) % 16) (by omega), gc_nand, gc_nor, gc_nxor]
  have iva : vp_in (nI ((rg s + m) % 16)) 16 := vp_in_nI (by omega) (by decide)
  have hop' : op = 1 ∨ op = 2 ∨ (op = 3 ∨ op = 4 ∨ op = 5) ∨ op = 6 ∨ op = 7 ∨ op = 8 ∨ op = 9 ∨ op = 10 ∨ op = 11 ∨ op = 15 := by omega
  rcases hop' with rfl | rfl | h35 | rfl | rfl | rfl | rfl | rfl | rfl | rfl
  · exact br_f (by decide) (br_t rfl ⟨ivd, nm_e (regA m rfl (by omega))⟩)
  · refine br_f (by decide) (br_f (by decide) ⟨by decide, ?_⟩)
    exact gc_yMov hx hy ⟨ivd, nm_e (regA _ rfl (by omega))⟩
  · refine pk_lt 2 op (fun _ => pk_lt 9 op (fun q => absurd q (by omega)) fun _ => pk_lt 5 op (fun q => absurd q (by omega)) fun _ => ?_) fun q => absurd q (by omega)
    exact gc_yCal (P := P) (ce := ce) (m := m) y4 h35 hx hy (regB _ _ (gc_yCar Y) (by omega) (by rw [if_pos (decide_eq_true (by omega))]))
  · exact br_t (by decide) (br_f (by decide) (br_t (by decide) (br_t rfl (regB v c Y (by omega) (by rw [if_neg (by rw [decide_eq_true_eq]; omega)])))))
  · exact br_t (by decide) (br_f (by decide) (br_t (by decide) (br_f (by decide) (br_t rfl (regB v c Y (by omega) (by rw [if_neg (by rw [decide_eq_true_eq]; omega)]))))))
  · exact br_t (by decide) (br_f (by decide) (br_t (by decide) (br_f (by decide) (br_f (by decide) (br_t rfl (regB v c Y (by omega) (by rw [if_neg (by rw [decide_eq_true_eq]; omega)])))))))
  · refine br_t (by decide) (br_f (by decide) (br_t (by decide) (br_f (by decide) (br_f (by decide) (br_f (by decide) ?_)))))
    exact gc_yShi (y := rg s) (P := P) (ce := ce) y4 hx hm (regB _ _ (gc_yCar Y) (by omega) (by rw [if_pos (decide_eq_true (by omega))]))
  · refine br_t (by decide) (br_t (by decide) (br_t rfl ⟨by decide, iva, ivd, ?_⟩))
    rw [y11 _ (by omega)]
    exact nm_e (regA _ rfl (by omega))
  · refine br_t (by decide) (br_t (by decide) (br_f (by decide) (br_t rfl ⟨by decide, iva, nm_e ?_⟩)))
    refine K _ (gc_YS_cg (gc_yCel (d := (rg s + m) % 16) (R := rg d) Y) rfl rfl rfl rfl ?_ ?_ rfl (fun r _ => ?_) fun a _ => ?_)
    · rw [if_neg (by omega)]
    · rw [if_neg (by omega)]
    · have hw : gc_wr 11 m = false := decide_eq_false (by omega)
      rw [hw, Bool.and_false]; rfl
    · rw [decide_eq_true (p := 11 = 11) rfl, Bool.and_true]
      by_cases e : a = (rg s + m) % 16
      · rw [if_pos e, if_pos (decide_eq_true e.symm)]
      · rw [if_neg e, if_neg (by rw [decide_eq_true_eq]; exact Ne.symm e)]
  · refine br_t (by decide) (br_t (by decide) (br_f (by decide) (br_f (by decide) ⟨by decide, pk_eq (m % 2) 0 (fun e => ⟨ivd, nm_e (regA _ rfl (by omega))⟩) fun e => ⟨by decide, nm_e ?_⟩⟩)))
    refine K _ (gc_YS_cg (gc_yOut (x := rg d) (t := (tm + 1) % 256) Y) rfl rfl rfl rfl ?_ ?_ rfl (fun r _ => ?_) fun a _ => ?_)
    · rw [if_pos ⟨rfl, by omega⟩]
    · rw [if_pos ⟨rfl, by omega⟩]
    · have hw : gc_wr 15 m = false := decide_eq_false (by omega)
      rw [hw, Bool.and_false]; rfl
    · rw [decide_eq_false (p := 15 = 11) (by omega), Bool.and_false]; rfl
theorem gc_yOnce {post : SY → Prop} {v : SY} {wd : Nat → Int32} {z c : Bool} {at' bk ou tm W P : Nat} {rg ce : Nat → Nat} (Y : gc_YS v wd (nI P) z c at' bk ou tm false rg ce) (ha : at' < 32) (hW : wd at' = nI W) (hW2 : W < 65536) (hrg : ∀ r, r < 4 → rg r < 256) (htm : tm < 256)
    (K : ∀ v', gc_YS v' wd (nI P) (if decide (3 ≤ W % 16 ∧ W % 16 ≤ 9) then decide (gc_rs (W % 16) (W / 256) (rg (W / 16 % 4)) (rg (W / 64 % 4)) P c ce = 0) else z) (if decide ((3 ≤ W % 16 ∧ W % 16 ≤ 5) ∨ W % 16 = 9) then gc_cy (W % 16) (W / 256) (rg (W / 16 % 4)) (rg (W / 64 % 4)) c else c) (if W % 16 = 0 then at' else gc_nt (W % 16) (W / 16 % 4) (W / 256) at' bk z c) (if W % 16 = 14 ∧ W / 256 < 128 then (at' + 1) % 32 else bk) (if W % 16 = 15 ∧ W / 256 % 2 = 1 then rg (W / 16 % 4) else ou) (if W % 16 = 15 ∧ W / 256 % 2 = 1 then (tm + 1) % 256 else tm) (decide (W % 16 = 0)) (fun r => if (decide (W / 16 % 4 = r) && gc_wr (W % 16) (W / 256)) then gc_rs (W % 16) (W / 256) (rg (W / 16 % 4)) (rg (W / 64 % 4)) P c ce else rg r) (fun a => if (decide ((rg (W / 64 % 4) + W / 256) % 16 = a) && decide (W % 16 = 11)) then rg (W / 16 % 4) else ce a) → post v') : wpY_once post v := by
  have y1 := Y.1.1
  have y5 := Y.1.2.2.2.2.1
  refine yc_once ?_
  rw [y5, y1, nI_clamp (by omega), hW]
  refine ⟨vp_in_nI ha (by decide), nm_e ⟨by decide, nm_r (gc_rm16 W (by omega)) ⟨by decide, by decide, ?_⟩⟩⟩
  rw [gc_dv16 W (by omega), gc_dv64 W (by omega), gc_dv256 W (by omega)]
  refine nm_r (gc_rm4 (W / 16) (by omega)) ⟨by decide, by decide, nm_r (gc_rm4 (W / 64) (by omega)) ⟨by decide, nm_e ?_⟩⟩
  have hm : W / 256 < 256 := by omega
  have hop : W % 16 < 16 := by omega
  have hd : W / 16 % 4 < 4 := by omega
  have hs : W / 64 % 4 < 4 := by omega
  generalize W % 16 = op at K hop ⊢
  generalize W / 16 % 4 = d at K hd ⊢
  generalize W / 64 % 4 = s at K hs ⊢
  generalize W / 256 = m at K hm ⊢
  refine gc_yFol Y ha hop hd hm ?_
  generalize (if op = 0 then at' else gc_nt op d m at' bk z c) = nx at K ⊢
  have work : ((1 ≤ op ∧ op ≤ 11) ∨ op = 15) → uy_once_64 post (nI op) (nI d) (nI s) (nI m) (nI nx) v := fun ho =>
    yc_once_64 (gc_yWk Y ho hd hs hm hrg htm fun v' Y' => gc_y74 Y' ha hop hm fun v2 Y2 => K v2 Y2)
  have rest : ¬ ((1 ≤ op ∧ op ≤ 11) ∨ op = 15) → uy_once_74 post (nI op) (nI m) (nI nx) v := fun ho => by
    refine gc_y74 Y ha hop hm fun v2 Y2 => K v2 (gc_YS_cg Y2 ?_ ?_ rfl rfl ?_ ?_ rfl (fun r _ => ?_) fun a _ => ?_)
    · rw [if_neg (by rw [decide_eq_true_eq]; omega)]
    · rw [if_neg (by rw [decide_eq_true_eq]; omega)]
    · rw [if_neg (by omega)]
    · rw [if_neg (by omega)]
    · have hw : gc_wr op m = false := decide_eq_false (by omega)
      rw [hw, Bool.and_false]; rfl
    · rw [decide_eq_false (p := op = 11) (by omega), Bool.and_false]; rfl
  have b58 : ¬ (1 ≤ op ∧ op ≤ 11) → uy_once_58 post (nI op) (nI d) (nI s) (nI m) (nI nx) v := fun ho =>
    yc_once_58 (pk_eq op 15 (fun e => work (Or.inr e)) fun e => rest (by omega))
  exact pk_lt op 1 (fun q => b58 (by omega)) fun q => pk_le op 11 (fun q2 => work (Or.inl ⟨q, q2⟩)) fun q2 => b58 (by omega)
end
section
/-! the relation -/
/-- the component's flip-flops hold the reference's numbers -/
def i_Rel (k : Nat) (u : SX) (v : SY) : Prop := gc_XI u ∧ (∃ P, P < 256 ∧ qg_port u = nI P) ∧ (∀ j, j < 32 → ∃ W, W < 65536 ∧ qg_words u j = nI W) ∧ gc_YS v (qg_words u) (qg_port u) (gc_sb u 160) (gc_sb u 161) (gc_at u) (gc_bk u) (gc_ou u) (gc_tm u) (gc_sb u 188) (gc_rg u) (gc_ce u)
theorem i_up {k : Nat} {u : SX} {v : SY} (h : i_Rel k u v) : i_Rel (k + 3) u v := h
theorem gc_y0 {post : SY → Prop} (h : post (0, 0, 0, 0, 0, 0, 0, 0, (fun _ => 0), (fun _ => 0), (fun _ => 0))) : wpY_init post := h
theorem i_vc0 : wpX_init (fun u => wpY_init (fun v => i_Rel 0 u v)) := by
  refine gc_xinit fun u X hp hw hs => gc_y0 ?_
  have sb0 : ∀ i, gc_sb u i = false := fun i => by unfold gc_sb; rw [hs]; rfl
  have vl0 : ∀ f : Nat → Bool, ∀ n, (∀ j, f j = false) → gc_vl f n = 0 := fun f n h => gc_vl_0 fun j _ => h j
  refine ⟨X, ⟨0, by omega, hp⟩, fun j _ => ⟨0, by omega, by rw [hw]; rfl⟩, ⟨hw.symm, hp.symm, by rw [sb0]; rfl, by rw [sb0]; rfl, ?_, ?_, ?_, ?_, by rw [sb0]; rfl⟩, fun r _ => ?_, fun a _ => ?_⟩
  · unfold gc_at; rw [vl0 _ _ fun j => sb0 _]; rfl
  · unfold gc_bk; rw [vl0 _ _ fun j => sb0 _]; rfl
  · unfold gc_ou; rw [vl0 _ _ fun j => sb0 _]; rfl
  · unfold gc_tm; rw [vl0 _ _ fun j => sb0 _]; rfl
  · unfold gc_rg; rw [vl0 _ _ fun j => sb0 _]; rfl
  · unfold gc_ce; rw [vl0 _ _ fun j => sb0 _]; rfl
theorem gc_XI_cg {u v : SX} (X : gc_XI u) (c : gc_Co u v) (e1 : qg_live v = qg_live u) (e2 : qg_level v = qg_level u) (e3 : qg_fanHead v = qg_fanHead u) (e4 : qg_fanNext v = qg_fanNext u) (e5 : qg_fanGate v = qg_fanGate u) (e6 : qg_value v = qg_value u) (e7 : qg_fresh v = qg_fresh u) (e8 : qg_waits v = qg_waits u) (hs : ∀ i, i < 189 → qg_state v i = 0 ∨ qg_state v i = 1) : gc_XI v := by
  have cc : ∀ w F, gc_Ci w u F → gc_Ci w v F := fun w F h => by
    refine gc_Ci_ag ⟨by rw [c.1], fun g _ => ?_, fun f _ => by rw [e4, e5]; exact ⟨rfl, rfl⟩⟩ h
    rw [c.2.1, c.2.2.1, c.2.2.2.1, c.2.2.2.2, e1, e2, e3]
    exact ⟨⟨rfl, rfl, rfl, rfl⟩, rfl, rfl, rfl⟩
  have X' := X
  obtain ⟨⟨F0, C0⟩, ⟨F1, C1⟩, X3, X4, X5, X6, X7⟩ := X
  refine ⟨⟨F0, cc _ _ C0⟩, ⟨F1, cc _ _ C1⟩, fun w hw => by rw [e6]; exact X3 w hw, by unfold gc_VL; rw [e6]; exact X4, fun w hw hf g wk => ?_, fun g hg => by rw [e8]; exact X6 g hg, hs⟩
  obtain ⟨F, C⟩ := gc_XI_c X' hw
  have wku : gc_Wk w u g := by
    unfold gc_Wk at wk ⊢
    rw [(gc_Co_n c w).1, e1] at wk
    exact wk
  rw [e7] at hf
  exact gc_Cg_cg c C.1 wku.1 wku.2.1 (by rw [e6]) (fun i _ => by rw [e6]) (X5 w hw hf g wku)
theorem gc_XI_wd {u : SX} {a : Nat → Int32} (X : gc_XI u) : gc_XI (qs_words u a) := gc_XI_cg X ⟨rfl, rfl, rfl, rfl, rfl⟩ rfl rfl rfl rfl rfl rfl rfl rfl X.2.2.2.2.2.2
theorem gc_XI_po {u : SX} {a : Int32} (X : gc_XI u) : gc_XI (qs_port u a) := gc_XI_cg X ⟨rfl, rfl, rfl, rfl, rfl⟩ rfl rfl rfl rfl rfl rfl rfl rfl X.2.2.2.2.2.2
theorem gc_XI_st {u : SX} {a : Nat → Int32} (X : gc_XI u) (ha : ∀ i, i < 189 → a i = 0 ∨ a i = 1) : gc_XI (qs_state u a) := gc_XI_cg X ⟨rfl, rfl, rfl, rfl, rfl⟩ rfl rfl rfl rfl rfl rfl rfl rfl ha
theorem gc_toI : (255 : Int32).toInt = 255 ∧ (256 : Int32).toInt = 256 ∧ (3 : Int32).toInt = 3 ∧ (4 : Int32).toInt = 4 ∧ (15 : Int32).toInt = 15 ∧ (16 : Int32).toInt = 16 ∧ (31 : Int32).toInt = 31 ∧ (32 : Int32).toInt = 32 ∧ (0 : Int32).toInt = 0 := by decide
theorem gc_c4 (x : Int32) : (x < 0 ∨ (¬ x < 0 ∧ 4 ≤ x ∧ 3 < x)) ∨ ∃ j, j < 4 ∧ x = nI j := by
  rcases pk_ix x (n := 4) (by omega) with h | h | h
  · exact Or.inl (Or.inl h)
  · have h' : (4 : Int32) ≤ x := h
    refine Or.inl (Or.inr ⟨?_, h', ?_⟩)
    · rw [Int32.lt_iff_toInt_lt]; rw [Int32.le_iff_toInt_le] at h'; have := gc_toI; omega
    · rw [Int32.lt_iff_toInt_lt]; rw [Int32.le_iff_toInt_le] at h'; have := gc_toI; omega
  · exact Or.inr h
theorem gc_c16 (x : Int32) : (x < 0 ∨ (¬ x < 0 ∧ 16 ≤ x ∧ 15 < x)) ∨ ∃ j, j < 16 ∧ x = nI j := by
  rcases pk_ix x (n := 16) (by omega) with h | h | h
  · exact Or.inl (Or.inl h)
  · have h' : (16 : Int32) ≤ x := h
    refine Or.inl (Or.inr ⟨?_, h', ?_⟩)
    · rw [Int32.lt_iff_toInt_lt]; rw [Int32.le_iff_toInt_le] at h'; have := gc_toI; omega
    · rw [Int32.lt_iff_toInt_lt]; rw [Int32.le_iff_toInt_le] at h'; have := gc_toI; omega
  · exact Or.inr h
theorem gc_c32 (x : Int32) : (x < 0 ∨ (¬ x < 0 ∧ 32 ≤ x ∧ 31 < x)) ∨ ∃ j, j < 32 ∧ x = nI j := by
  rcases pk_ix x (n := 32) (by omega) with h | h | h
  · exact Or.inl (Or.inl h)
  · have h' : (32 : Int32) ≤ x := h
    refine Or.inl (Or.inr ⟨?_, h', ?_⟩)
    · rw [Int32.lt_iff_toInt_lt]; rw [Int32.le_iff_toInt_le] at h'; have := gc_toI; omega
    · rw [Int32.lt_iff_toInt_lt]; rw [Int32.le_iff_toInt_le] at h'; have := gc_toI; omega
  · exact Or.inr h
theorem gc_c256 (x : Int32) : (x < 0 ∨ (¬ x < 0 ∧ 255 < x)) ∨ ∃ j, j < 256 ∧ x = nI j := by
  rcases pk_ix x (n := 256) (by omega) with h | h | h
  · exact Or.inl (Or.inl h)
  · have h' : (256 : Int32) ≤ x := h
    refine Or.inl (Or.inr ⟨?_, ?_⟩)
    · rw [Int32.lt_iff_toInt_lt]; rw [Int32.le_iff_toInt_le] at h'; have := gc_toI; omega
    · rw [Int32.lt_iff_toInt_lt]; rw [Int32.le_iff_toInt_le] at h'; have := gc_toI; omega
  · exact Or.inr h
theorem gc_bX0 {post : Int32 → Prop} {x : Int32} (h : x < 0 ∨ (¬ x < 0 ∧ 255 < x)) (K : post 0) : wpX_isByte post x := by
  rcases h with h | ⟨h, h'⟩
  · exact uc_isByte (br_t h K)
  · exact uc_isByte (br_f h (br_t h' K))
theorem gc_bX1 {post : Int32 → Prop} {j : Nat} (h : j < 256) (K : post 1) : wpX_isByte post (nI j) := uc_isByte (br_f (nI_pos (by omega)) (br_f (nI_nlt (b := j) (a := 255) (by omega) (by omega)) K))
theorem gc_bY0 {post : Int32 → Prop} {v : SY} {x : Int32} (h : x < 0 ∨ (¬ x < 0 ∧ 255 < x)) (K : post 0) : wpY_isByte post v x := by
  rcases h with h | ⟨h, h'⟩
  · exact yc_isByte (br_t h K)
  · exact yc_isByte (br_f h (br_t h' K))
theorem gc_bY1 {post : Int32 → Prop} {v : SY} {j : Nat} (h : j < 256) (K : post 1) : wpY_isByte post v (nI j) := yc_isByte (br_f (nI_pos (by omega)) (br_f (nI_nlt (b := j) (a := 255) (by omega) (by omega)) K))
theorem gc_rX0 {post : Int32 → Prop} {x : Int32} (h : x < 0 ∨ (¬ x < 0 ∧ 4 ≤ x ∧ 3 < x)) (K : post 0) : wpX_isRegister post x := by
  rcases h with h | ⟨h, h', _⟩
  · exact uc_isRegister (br_t h K)
  · exact uc_isRegister (br_f h (br_t h' K))
theorem gc_rX1 {post : Int32 → Prop} {j : Nat} (h : j < 4) (K : post 1) : wpX_isRegister post (nI j) := uc_isRegister (br_f (nI_pos (by omega)) (br_f (nI_ge (a := j) (b := 4) (by omega) (by omega)) K))
theorem gc_rY0 {post : Int32 → Prop} {v : SY} {x : Int32} (h : x < 0 ∨ (¬ x < 0 ∧ 4 ≤ x ∧ 3 < x)) (K : post 0) : wpY_isRegister post v x := by
  rcases h with h | ⟨h, _, h'⟩
  · exact yc_isRegister (br_t h K)
  · exact yc_isRegister (br_f h (br_t h' K))
theorem gc_rY1 {post : Int32 → Prop} {v : SY} {j : Nat} (h : j < 4) (K : post 1) : wpY_isRegister post v (nI j) := yc_isRegister (br_f (nI_pos (by omega)) (br_f (nI_nlt (b := j) (a := 3) (by omega) (by omega)) K))
end
section
/-! the calls, but for cycle -/
theorem gc_YSo {u u' : SX} {v v' : SY} {wd : Nat → Int32} {inp : Int32} {hl : Bool} (Y : gc_YS v wd inp (gc_sb u 160) (gc_sb u 161) (gc_at u) (gc_bk u) (gc_ou u) (gc_tm u) hl (gc_rg u) (gc_ce u)) (h : ∀ i, gc_sb u' i = gc_sb u i) : gc_YS v wd inp (gc_sb u' 160) (gc_sb u' 161) (gc_at u') (gc_bk u') (gc_ou u') (gc_tm u') hl (gc_rg u') (gc_ce u') := by
  unfold gc_at gc_bk gc_ou gc_tm gc_rg gc_ce at *
  simp only [h]
  exact Y
theorem i_vc_program {k : Nat} {u : SX} {v : SY} (I : i_Rel k u v) (hk : k + 3 ≤ 1536) (v1 : Int32) (v2 : Int32) : wpX_program (fun r u' => wpY_program (fun r' v' => r' = r ∧ i_Rel (k + 3) u' v') v v1 v2) u v1 v2 := by
  obtain ⟨X, hP, hW, Y⟩ := id I
  rcases gc_c32 v1 with (h | ⟨h, h1, h2⟩) | ⟨j, hj, rfl⟩
  · exact uc_program (br_t h (yc_program (br_t h ⟨rfl, I⟩)))
  · exact uc_program (br_f h (br_t h1 (yc_program (br_f h (br_t h2 ⟨rfl, I⟩)))))
  · have p0 : ¬ nI j < 0 := nI_pos (by omega)
    have p1 : ¬ (32 : Int32) ≤ nI j := nI_ge (a := j) (b := 32) (by omega) (by omega)
    have p2 : ¬ (31 : Int32) < nI j := nI_nlt (a := 31) (b := j) (by omega) (by omega)
    by_cases q : v2 < 0
    · exact uc_program (br_f p0 (br_f p1 (br_t q (yc_program (br_f p0 (br_f p2 (br_t q ⟨rfl, I⟩)))))))
    · by_cases q2 : v2 ≤ 65535
      · obtain ⟨W, hW', rfl⟩ := nI_of2 (M := 65535) (n := 65535) (by decide) q q2
        refine uc_program (br_f p0 (br_f p1 (br_f q (br_t q2 ⟨vp_in_nI hj (by decide), nm_r (e' := upd (qg_words u) j (nI W)) (by rw [nI_clamp (by omega)]) ?_⟩))))
        refine yc_program (br_f p0 (br_f p2 (br_f q (br_t q2 ⟨vp_in_nI hj (by decide), nm_r (e' := upd (yg_words v) j (nI W)) (by rw [nI_clamp (by omega)]) ⟨rfl, ?_⟩⟩))))
        refine ⟨gc_XI_wd X, hP, fun j' hj' => ?_, ⟨congrArg (fun f => upd f j (nI W)) Y.1.1, Y.1.2⟩, Y.2⟩
        show ∃ W', W' < 65536 ∧ upd (qg_words u) j (nI W) j' = nI W'
        by_cases e : j' = j
        · exact ⟨W, by omega, by rw [e, pk_us]⟩
        · rw [pk_un e]; exact hW j' hj'
      · exact uc_program (br_f p0 (br_f p1 (br_f q (br_f q2 (yc_program (br_f p0 (br_f p2 (br_f q (br_f q2 ⟨rfl, I⟩)))))))))
theorem i_vc_word {k : Nat} {u : SX} {v : SY} (I : i_Rel k u v) (hk : k + 3 ≤ 1536) (v1 : Int32) : wpX_word (fun r => wpY_word (fun r' => r' = r ∧ i_Rel (k + 3) u v) v v1) u v1 := by
  rcases gc_c32 v1 with (h | ⟨h, h1, h2⟩) | ⟨j, hj, rfl⟩
  · exact uc_word (br_t h (yc_word (br_t h ⟨rfl, I⟩)))
  · exact uc_word (br_f h (br_t h1 (yc_word (br_f h (br_t h2 ⟨rfl, I⟩)))))
  · have p0 : ¬ nI j < 0 := nI_pos (by omega)
    have p1 : ¬ (32 : Int32) ≤ nI j := nI_ge (a := j) (b := 32) (by omega) (by omega)
    have p2 : ¬ (31 : Int32) < nI j := nI_nlt (a := 31) (b := j) (by omega) (by omega)
    have iv : vp_in (nI j) 32 := vp_in_nI hj (by decide)
    exact uc_word (br_f p0 (br_f p1 ⟨iv, yc_word (br_f p0 (br_f p2 ⟨iv, congrFun I.2.2.2.1.1 _, I⟩))⟩))
theorem gc_xReset {post : SX → Prop} {u : SX} (K : ∀ a, (∀ i, i < 189 → a i = 0) → post (qs_state u a)) : wpX_reset post u := by
  have loop : ∀ f i a, i ≤ 189 → 189 - i < f → (∀ i', i' < i → a i' = 0) → ux_reset_2 post f (nI i) (qs_state u a) := by
    intro f
    induction f with
    | zero => intro i a _ h2; omega
    | succ f ih =>
      intro i a i1 i2 ha
      refine uc_reset_2 (pk_le 189 i (fun q => ?_) fun q => ?_)
      · have e : i = 189 := by omega
        subst e
        exact K a ha
      · rw [(@gc_st_F u a).2, nI_clamp (by omega), gc_vby0]
        refine ⟨vp_in_nI q (by decide), nm_e (nm_r (nI_1 i) ?_)⟩
        rw [gc_st_s]
        refine ih (i + 1) _ (by omega) (by omega) fun i' hi' => ?_
        by_cases e : i' = i
        · rw [e, pk_us]
        · rw [pk_un e]; exact ha i' (by omega)
  refine uc_reset ⟨190, ?_⟩
  have := loop 190 0 (qg_state u) (by omega) (by omega) fun i' hi' => absurd hi' (by omega)
  rw [gc_st_e] at this
  exact this
theorem gc_yReset {post : SY → Prop} {v : SY} (K : ∀ rg ce : Nat → Int32, (∀ r, r < 4 → rg r = 0) → (∀ a, a < 16 → ce a = 0) → post (0, 0, 0, 0, yg_input v, 0, 0, 0, yg_words v, rg, ce)) : wpY_reset post v := by
  have loop : ∀ f i (rg ce : Nat → Int32), i ≤ 16 → 16 - i < f → (∀ r, r < 4 → r < i → rg r = 0) → (∀ a, a < i → ce a = 0) → uy_reset_2 post f (nI i) v (yg_words v) rg ce := by
    intro f
    induction f with
    | zero => intro i rg ce _ h2; omega
    | succ f ih =>
      intro i rg ce i1 i2 hr hc
      refine yc_reset_2 (pk_le 16 i (fun q => ?_) fun q => ?_)
      · exact K rg ce (fun r h => hr r h (by omega)) fun a h => hc a (by omega)
      · rw [gc_rm4 i (by omega), nI_clamp (n := i) (by omega), nI_clamp (n := i % 4) (by omega)]
        refine ⟨vp_in_nI q (by decide), nm_e ⟨by decide, vp_in_nI (by omega) (by decide), nm_e (nm_r (nI_1 i) (ih (i + 1) _ _ (by omega) (by omega) (fun r h4 hri => ?_) fun a ha => ?_))⟩⟩
        · by_cases e : r = i % 4
          · rw [e, pk_us]
          · rw [pk_un e]; exact hr r h4 (by omega)
        · by_cases e : a = i
          · rw [e, pk_us]
          · rw [pk_un e]; exact hc a (by omega)
  exact yc_reset ⟨17, loop 17 0 _ _ (by omega) (by omega) (fun r _ h => absurd h (by omega)) fun a h => absurd h (by omega)⟩
theorem gc_vlz {u : SX} {o n : Nat} (h : ∀ i, i < 189 → gc_sb u i = false) (ho : o + n ≤ 189) : gc_vl (fun i => gc_sb u (o + i)) n = 0 := gc_vl_0 fun j hj => h (o + j) (by omega)
theorem i_vc_reset {k : Nat} {u : SX} {v : SY} (I : i_Rel k u v) (hk : k + 3 ≤ 1536) : wpX_reset (fun u' => wpY_reset (fun v' => i_Rel (k + 3) u' v') v) u := by
  obtain ⟨X, hP, hW, Y⟩ := id I
  refine gc_xReset fun a ha => gc_yReset fun rg ce hrg hce => ?_
  have X' := gc_XI_st (a := a) X fun i hi => Or.inl (ha i hi)
  have sb0 : ∀ i, i < 189 → gc_sb (qs_state u a) i = false := fun i hi => by
    unfold gc_sb; rw [(@gc_st_F u a).2, ha i hi]; rfl
  refine ⟨X', hP, hW, ⟨Y.1.1, Y.1.2.1, by rw [sb0 160 (by omega)]; rfl, by rw [sb0 161 (by omega)]; rfl, ?_, ?_, ?_, ?_, by rw [sb0 188 (by omega)]; rfl⟩, fun r hr => ?_, fun c hc => ?_⟩
  · unfold gc_at; rw [gc_vlz sb0 (by omega)]; rfl
  · unfold gc_bk; rw [gc_vlz sb0 (by omega)]; rfl
  · unfold gc_ou; rw [gc_vlz sb0 (by omega)]; rfl
  · unfold gc_tm; rw [gc_vlz sb0 (by omega)]; rfl
  · unfold gc_rg; rw [gc_vlz sb0 (by omega)]; exact hrg r hr
  · unfold gc_ce; rw [gc_vlz sb0 (by omega)]; exact hce c hc
theorem gc_yin_e {v : SY} : ys_input v (yg_input v) = v := rfl
theorem i_vc_in {k : Nat} {u : SX} {v : SY} (I : i_Rel k u v) (hk : k + 3 ≤ 1536) (v1 : Int32) : wpX_in (fun r u' => wpY_in (fun r' v' => r' = r ∧ i_Rel (k + 3) u' v') v v1) u v1 := by
  obtain ⟨X, hP, hW, Y⟩ := id I
  rcases gc_c256 v1 with h | ⟨j, hj, rfl⟩
  · refine uc_in (gc_bX0 h (br_t rfl (yc_in (gc_bY0 h (br_t rfl (yc_in_17 ?_))))))
    rw [gc_yin_e]
    exact gc_bY0 h ⟨rfl, rfl, I⟩
  · refine uc_in (gc_bX1 hj (br_f (by decide) (yc_in (gc_bY1 hj (br_f (by decide) (yc_in_17 (gc_bY1 hj ⟨rfl, rfl, ?_⟩)))))))
    exact ⟨gc_XI_po X, ⟨j, hj, rfl⟩, hW, ⟨Y.1.1, rfl, Y.1.2.2⟩, Y.2⟩
theorem gc_put {post : SX → Prop} {u : SX} {off val : Nat} (ho : off + 8 ≤ 189) (hv : val < 256) (K : ∀ a, (∀ i, i < 8 → a (off + i) = gc_b2 (val.testBit i)) → (∀ j, (j < off ∨ off + 8 ≤ j) → a j = qg_state u j) → post (qs_state u a)) : wpX_put post u (nI off) (nI val) := by
  have loop : ∀ f i a, i ≤ 8 → 8 - i < f → (∀ i', i' < i → a (off + i') = gc_b2 (val.testBit i')) → (∀ j, (j < off ∨ off + 8 ≤ j) → a j = qg_state u j) → ux_put_2 post (nI off) (nI val) f (nI i) (qs_state u a) := by
    intro f
    induction f with
    | zero => intro i a _ h2; omega
    | succ f ih =>
      intro i a i1 i2 ha ho'
      refine uc_put_2 (pk_le 8 i (fun q => ?_) fun q => ?_)
      · have e : i = 8 := by omega
        subst e
        exact K a ha ho'
      · rw [(@gc_st_F u a).2, nI_add, nI_clamp (by omega), gc_tb1 (by omega) (by omega), gc_b2_by]
        refine ⟨vp_in_nI (by omega) (by decide), nm_e (nm_r (nI_1 i) ?_)⟩
        rw [gc_st_s]
        refine ih (i + 1) _ (by omega) (by omega) (fun i' hi' => ?_) fun j hj => ?_
        · by_cases e : i' = i
          · rw [e, pk_us]
          · rw [pk_un (by omega)]; exact ha i' (by omega)
        · rw [pk_un (by omega)]; exact ho' j hj
  refine uc_put ⟨9, ?_⟩
  have := loop 9 0 (qg_state u) (by omega) (by omega) (fun i' hi' => absurd hi' (by omega)) fun _ _ => rfl
  rw [gc_st_e] at this
  exact this
theorem gc_putS {u : SX} {a : Nat → Int32} {off val : Nat} (X : gc_XI u) (h1 : ∀ i, i < 8 → a (off + i) = gc_b2 (val.testBit i)) (h2 : ∀ j, (j < off ∨ off + 8 ≤ j) → a j = qg_state u j) : gc_XI (qs_state u a) ∧ (∀ i, i < 8 → gc_sb (qs_state u a) (off + i) = val.testBit i) ∧ ∀ j, (j < off ∨ off + 8 ≤ j) → gc_sb (qs_state u a) j = gc_sb u j := by
  refine ⟨gc_XI_st X fun i hi => ?_, fun i hi => ?_, fun j hj => ?_⟩
  · rcases Nat.lt_or_ge i off with q | q
    · rw [h2 i (Or.inl q)]; exact X.2.2.2.2.2.2 i hi
    · rcases Nat.lt_or_ge i (off + 8) with q2 | q2
      · have := h1 (i - off) (by omega)
        rw [show off + (i - off) = i by omega] at this
        rw [this]; exact gc_b2_01 _
      · rw [h2 i (Or.inr q2)]; exact X.2.2.2.2.2.2 i hi
  · unfold gc_sb; rw [(@gc_st_F u a).2, h1 i hi]; cases val.testBit i <;> rfl
  · unfold gc_sb; rw [(@gc_st_F u a).2, h2 j hj]
theorem gc_putN {u u' : SX} {off val : Nat} (h1 : ∀ i, i < 8 → gc_sb u' (off + i) = val.testBit i) (h2 : ∀ j, (j < off ∨ off + 8 ≤ j) → gc_sb u' j = gc_sb u j) (hv : val < 256) : gc_vl (fun i => gc_sb u' (off + i)) 8 = val ∧ ∀ o n, (o + n ≤ off ∨ off + 8 ≤ o) → gc_vl (fun i => gc_sb u' (o + i)) n = gc_vl (fun i => gc_sb u (o + i)) n := by
  refine ⟨?_, fun o n h => gc_vl_cg fun j hj => h2 _ (by omega)⟩
  rw [gc_vl_cg (g := fun j => val.testBit j) h1, gc_vl_tb]
  exact Nat.mod_eq_of_lt hv
theorem i_vc_setRegister {k : Nat} {u : SX} {v : SY} (I : i_Rel k u v) (hk : k + 3 ≤ 1536) (v1 : Int32) (v2 : Int32) : wpX_setRegister (fun r u' => wpY_setRegister (fun r' v' => r' = r ∧ i_Rel (k + 3) u' v') v v1 v2) u v1 v2 := by
  obtain ⟨X, hP, hW, Y⟩ := id I
  rcases gc_c4 v1 with h | ⟨j, hj, rfl⟩
  · exact uc_setRegister (gc_rX0 h (br_t rfl (yc_setRegister (gc_rY0 h (br_t rfl ⟨rfl, I⟩)))))
  · rcases gc_c256 v2 with h | ⟨x, hx, rfl⟩
    · exact uc_setRegister (gc_rX1 hj (br_f (by decide) (gc_bX0 h (br_t rfl (yc_setRegister (gc_rY1 hj (br_f (by decide) (gc_bY0 h (br_t rfl ⟨rfl, I⟩)))))))))
    · refine uc_setRegister (gc_rX1 hj (br_f (by decide) (gc_bX1 hx (br_f (by decide) ?_))))
      rw [show (0 : Int32) + 8 * nI j = nI (8 * j) by rw [show (8 : Int32) = nI 8 from rfl, pk_mul, Int32.zero_add]]
      refine gc_put (by omega) hx fun a ha1 ha2 => ?_
      refine yc_setRegister (gc_rY1 hj (br_f (by decide) (gc_bY1 hx (br_f (by decide) ⟨vp_in_nI hj (by decide), nm_r (e' := upd (yg_registers v) j (nI x)) (by rw [nI_clamp (by omega)]) ⟨rfl, ?_⟩⟩))))
      obtain ⟨X', s1, s2⟩ := gc_putS X ha1 ha2
      obtain ⟨n1, n2⟩ := gc_putN s1 s2 hx
      refine ⟨X', hP, hW, gc_YS_cg (gc_yReg (d := j) (R := x) Y) (s2 160 (by omega)).symm (s2 161 (by omega)).symm (n2 162 5 (by omega)).symm (n2 167 5 (by omega)).symm (n2 172 8 (by omega)).symm (n2 180 8 (by omega)).symm (s2 188 (by omega)).symm (fun r hr => ?_) fun c hc => (n2 (32 + 8 * c) 8 (by omega)).symm⟩
      by_cases e : r = j
      · rw [if_pos e, e]; exact n1.symm
      · rw [if_neg e]; exact (n2 (8 * r) 8 (by omega)).symm
theorem i_vc_setMemory {k : Nat} {u : SX} {v : SY} (I : i_Rel k u v) (hk : k + 3 ≤ 1536) (v1 : Int32) (v2 : Int32) : wpX_setMemory (fun r u' => wpY_setMemory (fun r' v' => r' = r ∧ i_Rel (k + 3) u' v') v v1 v2) u v1 v2 := by
  obtain ⟨X, hP, hW, Y⟩ := id I
  rcases gc_c16 v1 with (h | ⟨h, h1, h2⟩) | ⟨j, hj, rfl⟩
  · exact uc_setMemory (br_t h (yc_setMemory (br_t h ⟨rfl, I⟩)))
  · exact uc_setMemory (br_f h (br_t h1 (yc_setMemory (br_f h (br_t h2 ⟨rfl, I⟩)))))
  · have p0 : ¬ nI j < 0 := nI_pos (by omega)
    have p1 : ¬ (16 : Int32) ≤ nI j := nI_ge (a := j) (b := 16) (by omega) (by omega)
    have p2 : ¬ (15 : Int32) < nI j := nI_nlt (a := 15) (b := j) (by omega) (by omega)
    rcases gc_c256 v2 with h | ⟨x, hx, rfl⟩
    · exact uc_setMemory (br_f p0 (br_f p1 (gc_bX0 h (br_t rfl (yc_setMemory (br_f p0 (br_f p2 (gc_bY0 h (br_t rfl ⟨rfl, I⟩)))))))))
    · refine uc_setMemory (br_f p0 (br_f p1 (gc_bX1 hx (br_f (by decide) ?_))))
      rw [show (32 : Int32) + 8 * nI j = nI (32 + 8 * j) by rw [show (8 : Int32) = nI 8 from rfl, pk_mul, show (32 : Int32) = nI 32 from rfl, nI_add]]
      refine gc_put (by omega) hx fun a ha1 ha2 => ?_
      refine yc_setMemory (br_f p0 (br_f p2 (gc_bY1 hx (br_f (by decide) ⟨vp_in_nI hj (by decide), nm_r (e' := upd (yg_cells v) j (nI x)) (by rw [nI_clamp (by omega)]) ⟨rfl, ?_⟩⟩))))
      obtain ⟨X', s1, s2⟩ := gc_putS X ha1 ha2
      obtain ⟨n1, n2⟩ := gc_putN s1 s2 hx
      refine ⟨X', hP, hW, gc_YS_cg (gc_yCel (d := j) (R := x) Y) (s2 160 (by omega)).symm (s2 161 (by omega)).symm (n2 162 5 (by omega)).symm (n2 167 5 (by omega)).symm (n2 172 8 (by omega)).symm (n2 180 8 (by omega)).symm (s2 188 (by omega)).symm (fun r hr => (n2 (8 * r) 8 (by omega)).symm) fun c hc => ?_⟩
      by_cases e : c = j
      · rw [if_pos e, e]; exact n1.symm
      · rw [if_neg e]; exact (n2 (32 + 8 * c) 8 (by omega)).symm
theorem gc_xhalt {post : Int32 → Prop} {u : SX} (K : post (gc_b2 (gc_sb u 188))) : wpX_halted post u := by
  unfold gc_sb at K
  refine uc_halted (br_c (fun h => ?_) fun h => ?_)
  · rw [decide_eq_true h] at K; exact K
  · rw [decide_eq_false h] at K; exact K
theorem gc_narb (b : Bool) : narrow .boolean (.int (gc_b2 b)) = .int (gc_b2 b) := by cases b <;> rfl
theorem i_vc_halted {k : Nat} {u : SX} {v : SY} (I : i_Rel k u v) (hk : k + 3 ≤ 1536) : wpX_halted (fun r => wpY_halted (fun r' => r' = r ∧ i_Rel (k + 3) u v) v) u := by
  refine gc_xhalt (yc_halted ?_)
  rw [I.2.2.2.1.2.2.2.2.2.2.2.2]
  exact ⟨gc_narb _, rfl, I⟩
theorem i_vc_counter {k : Nat} {u : SX} {v : SY} (I : i_Rel k u v) (hk : k + 3 ≤ 1536) : wpX_counter (fun r => wpY_counter (fun r' => r' = r ∧ i_Rel (k + 3) u v) v) u :=
  uc_counter (gc_read (off := 162) (n := 5) I.1.2.2.2.2.2.2 (by omega) (by omega) (yc_counter ⟨I.2.2.2.1.2.2.2.2.1, I⟩))
theorem i_vc_register {k : Nat} {u : SX} {v : SY} (I : i_Rel k u v) (hk : k + 3 ≤ 1536) (v1 : Int32) : wpX_register (fun r => wpY_register (fun r' => r' = r ∧ i_Rel (k + 3) u v) v v1) u v1 := by
  rcases gc_c4 v1 with h | ⟨j, hj, rfl⟩
  · exact uc_register (gc_rX0 h (br_t rfl (yc_register (gc_rY0 h (br_t rfl ⟨rfl, I⟩)))))
  · refine uc_register (gc_rX1 hj (br_f (by decide) ?_))
    rw [show (0 : Int32) + 8 * nI j = nI (8 * j) by rw [show (8 : Int32) = nI 8 from rfl, pk_mul, Int32.zero_add]]
    refine gc_read (n := 8) I.1.2.2.2.2.2.2 (by omega) (by omega) (yc_register (gc_rY1 hj (br_f (by decide) ⟨vp_in_nI hj (by decide), ?_⟩)))
    rw [nI_clamp (by omega)]
    exact ⟨I.2.2.2.2.1 j hj, I⟩
theorem i_vc_memory {k : Nat} {u : SX} {v : SY} (I : i_Rel k u v) (hk : k + 3 ≤ 1536) (v1 : Int32) : wpX_memory (fun r => wpY_memory (fun r' => r' = r ∧ i_Rel (k + 3) u v) v v1) u v1 := by
  rcases gc_c16 v1 with (h | ⟨h, h1, h2⟩) | ⟨j, hj, rfl⟩
  · exact uc_memory (br_t h (yc_memory (br_t h ⟨rfl, I⟩)))
  · exact uc_memory (br_f h (br_t h1 (yc_memory (br_f h (br_t h2 ⟨rfl, I⟩)))))
  · have p0 : ¬ nI j < 0 := nI_pos (by omega)
    have p1 : ¬ (16 : Int32) ≤ nI j := nI_ge (a := j) (b := 16) (by omega) (by omega)
    have p2 : ¬ (15 : Int32) < nI j := nI_nlt (a := 15) (b := j) (by omega) (by omega)
    refine uc_memory (br_f p0 (br_f p1 ?_))
    rw [show (32 : Int32) + 8 * nI j = nI (32 + 8 * j) by rw [show (8 : Int32) = nI 8 from rfl, pk_mul, show (32 : Int32) = nI 32 from rfl, nI_add]]
    refine gc_read (n := 8) I.1.2.2.2.2.2.2 (by omega) (by omega) (yc_memory (br_f p0 (br_f p2 ⟨vp_in_nI hj (by decide), ?_⟩)))
    rw [nI_clamp (by omega)]
    exact ⟨I.2.2.2.2.2 j hj, I⟩
theorem i_vc_flags {k : Nat} {u : SX} {v : SY} (I : i_Rel k u v) (hk : k + 3 ≤ 1536) : wpX_flags (fun r => wpY_flags (fun r' => r' = r ∧ i_Rel (k + 3) u v) v) u := by
  refine uc_flags (yc_flags ⟨?_, I⟩)
  have e1 := gc_b2_v (I.1.2.2.2.2.2.2 160 (by omega))
  have e2 := gc_b2_v (I.1.2.2.2.2.2.2 161 (by omega))
  rw [I.2.2.2.1.2.2.1, I.2.2.2.1.2.2.2.1, e1, e2]
  rfl
theorem i_vc_link {k : Nat} {u : SX} {v : SY} (I : i_Rel k u v) (hk : k + 3 ≤ 1536) : wpX_link (fun r => wpY_link (fun r' => r' = r ∧ i_Rel (k + 3) u v) v) u :=
  uc_link (gc_read (off := 167) (n := 5) I.1.2.2.2.2.2.2 (by omega) (by omega) (yc_link ⟨I.2.2.2.1.2.2.2.2.2.1, I⟩))
theorem i_vc_out {k : Nat} {u : SX} {v : SY} (I : i_Rel k u v) (hk : k + 3 ≤ 1536) : wpX_out (fun r => wpY_out (fun r' => r' = r ∧ i_Rel (k + 3) u v) v) u :=
  uc_out (gc_read (off := 172) (n := 8) I.1.2.2.2.2.2.2 (by omega) (by omega) (yc_out ⟨I.2.2.2.1.2.2.2.2.2.2.1, I⟩))
theorem i_vc_outs {k : Nat} {u : SX} {v : SY} (I : i_Rel k u v) (hk : k + 3 ≤ 1536) : wpX_outs (fun r => wpY_outs (fun r' => r' = r ∧ i_Rel (k + 3) u v) v) u :=
  uc_outs (gc_read (off := 180) (n := 8) I.1.2.2.2.2.2.2 (by omega) (by omega) (yc_outs ⟨I.2.2.2.1.2.2.2.2.2.2.2.1, I⟩))
theorem i_vc_same {k : Nat} {u : SX} {v : SY} (I : i_Rel k u v) (hk : k + 3 ≤ 1536) (v1 : Int32) (v2 : Int32) : wpX_same (fun r => wpY_same (fun r' => r' = r ∧ i_Rel (k + 3) u v) v v1 v2) u v1 v2 := by
  have xr : ∀ (post : Int32 → Prop) (j : Nat), j < 4 → post (nI (gc_rg u j)) → wpX_register post u (nI j) := fun post j hj K => by
    refine uc_register (gc_rX1 hj (br_f (by decide) ?_))
    rw [show (0 : Int32) + 8 * nI j = nI (8 * j) by rw [show (8 : Int32) = nI 8 from rfl, pk_mul, Int32.zero_add]]
    exact gc_read (n := 8) I.1.2.2.2.2.2.2 (by omega) (by omega) K
  rcases gc_c4 v1 with h | ⟨i, hi, rfl⟩
  · exact uc_same (gc_rX0 h (br_t rfl (yc_same (gc_rY0 h (br_t rfl ⟨rfl, I⟩)))))
  · rcases gc_c4 v2 with h | ⟨j, hj, rfl⟩
    · exact uc_same (gc_rX1 hi (br_f (by decide) (gc_rX0 h (br_t rfl (yc_same (gc_rY1 hi (br_f (by decide) (gc_rY0 h (br_t rfl ⟨rfl, I⟩)))))))))
    · refine uc_same (gc_rX1 hi (br_f (by decide) (gc_rX1 hj (br_f (by decide) (xr _ i hi (xr _ j hj ?_))))))
      have fin : ∀ r : Int32, ((nI (gc_rg u i) = nI (gc_rg u j) → r = 1) ∧ (¬ nI (gc_rg u i) = nI (gc_rg u j) → r = 0)) → wpY_same (fun r' => r' = r ∧ i_Rel (k + 3) u v) v (nI i) (nI j) := fun r hr => by
        refine yc_same (gc_rY1 hi (br_f (by decide) (gc_rY1 hj (br_f (by decide) ⟨vp_in_nI hi (by decide), vp_in_nI hj (by decide), ?_⟩))))
        rw [nI_clamp (n := i) (by omega), nI_clamp (n := j) (by omega), I.2.2.2.2.1 i hi, I.2.2.2.2.1 j hj]
        exact br_c (fun e => ⟨(hr.1 e).symm, I⟩) fun e => ⟨(hr.2 e).symm, I⟩
      exact br_c (fun e => fin 1 ⟨fun _ => rfl, fun z => absurd e z⟩) fun e => fin 0 ⟨fun z => absurd z e, fun _ => rfl⟩
end
section
/-! the cycles, in lockstep -/
def gc_XR (u : SX) : Prop := gc_XI u ∧ (∃ P, P < 256 ∧ qg_port u = nI P) ∧ (∀ j, j < 32 → ∃ W, W < 65536 ∧ qg_words u j = nI W)
def gc_YC (v0 : SY) (G i : Nat) (u : SX) : Prop := ∀ postY : Int32 → SY → Prop, (∀ v', i_Rel 0 u v' → uy_cycle_27 postY (nI G) (G - i + 1) (nI i) v') → uy_cycle_27 postY (nI G) (G + 1) 0 v0
theorem gc_cyc {post : Int32 → SX → Prop} {v0 : SY} {G e : Nat} (he : e < 4) (hG : G ≤ 60)
    (fin : ∀ r u, (∀ postY : Int32 → SY → Prop, (∀ v', i_Rel 0 u v' → postY r v') → uy_cycle_27 postY (nI G) (G + 1) 0 v0) → post r u) :
    ∀ f i u, i ≤ G → G - i < f → gc_XR u → gc_YC v0 G i u → ux_cycle_35 post (nI e) (nI G) f (nI i) u := by
  intro f
  induction f with
  | zero => intro i u _ h2; omega
  | succ f ih =>
    intro i u i1 i2 XR YC
    obtain ⟨X, ⟨P, hP, hPe⟩, hWs⟩ := id XR
    refine uc_cycle_35 (pk_le G i (fun q => ?_) fun q => ?_)
    · refine fin _ _ fun postY H => YC postY fun v' hv => ?_
      exact yc_cycle_27 (br_t (nI_le q (by omega)) (H v' hv))
    · refine gc_xhalt ?_
      cases hh : gc_sb u 188
      · refine br_t rfl ?_
        have la := gc_vl_lt (fun i => gc_sb u (162 + i)) 5
        obtain ⟨W, hW, hWe⟩ := hWs (gc_at u) la
        refine gc_tick X he hWe hW hPe hP fun u' X' w' p' T => nm_r (nI_1 i) (ih (i + 1) u' (by omega) (by omega) ⟨X', ⟨P, hP, p'.trans hPe⟩, by rw [w']; exact hWs⟩ fun postY H => YC postY fun v hv => ?_)
        obtain ⟨F, C⟩ := gc_XI_c X (show e / 2 < 2 by omega)
        obtain ⟨s1, s2, s3, s4, s5, s6, s7, s8, s9⟩ := gc_stepX C T hh hW hP
        have Y := hv.2.2.2
        rw [hPe, hh] at Y
        have ef : G - i + 1 = (G - (i + 1) + 1) + 1 := by omega
        rw [ef]
        have st : yg_stopped v = 0 := Y.1.2.2.2.2.2.2.2.2
        refine yc_cycle_27 (br_f (nI_ge q (by omega)) (br_t st ?_))
        refine gc_yOnce Y la hWe hW (fun r _ => gc_vl_lt _ 8) (gc_vl_lt _ 8) fun v' Y' => nm_r (nI_1 i) (H v' ?_)
        refine ⟨X', ⟨P, hP, p'.trans hPe⟩, by rw [w']; exact hWs, ?_⟩
        rw [w', p', hPe]
        exact gc_YS_cg Y' s3.symm s4.symm s5.symm s6.symm s7.symm s8.symm s9.symm (fun r hr => (s1 r hr).symm) fun a ha => (s2 a ha).symm
      · refine br_f (by decide) (fin _ _ fun postY H => YC postY fun v' hv => ?_)
        have st : yg_stopped v' = 1 := by
          have := hv.2.2.2.1.2.2.2.2.2.2.2.2
          rw [hh] at this
          exact this
        exact yc_cycle_27 (br_f (nI_ge q (by omega)) (br_f (by rw [st]; decide) (H v' hv)))
theorem i_vc_cycle {k : Nat} {u : SX} {v : SY} (I : i_Rel k u v) (hk : k + 3 ≤ 1536) (v1 : Int32) (v2 : Int32) : wpX_cycle (fun r u' => wpY_cycle (fun r' v' => r' = r ∧ i_Rel (k + 3) u' v') v v1 v2) u v1 v2 := by
  obtain ⟨X, hP, hW, Y⟩ := id I
  by_cases n2 : v2 < 0
  · exact uc_cycle (br_t n2 (yc_cycle (br_t n2 ⟨rfl, I⟩)))
  · by_cases m2 : v2 ≤ 3
    · obtain ⟨e, he, rfl⟩ := nI_of2 (M := 3) (n := 3) (by decide) n2 m2
      have go : ∀ (G : Nat), G ≤ 60 → (∀ post : Int32 → SY → Prop, (∃ n, uy_cycle_27 post (nI G) n 0 v) → wpY_cycle post v v1 (nI e)) → ∃ n, ux_cycle_35 (fun r u' => wpY_cycle (fun r' v' => r' = r ∧ i_Rel (k + 3) u' v') v v1 (nI e)) (nI e) (nI G) n 0 u := by
        intro G hG hY
        refine ⟨G + 1, gc_cyc (v0 := v) (by omega) hG (fun r u' H => hY _ ⟨G + 1, H _ fun v' hv => ⟨rfl, hv⟩⟩) (G + 1) 0 u (by omega) (by omega) ⟨X, hP, hW⟩ fun postY H => ?_⟩
        exact H v I
      by_cases p1 : (0 : Int32) ≤ v1
      · by_cases q1 : v1 ≤ 60
        · obtain ⟨G, hG, rfl⟩ := nI_of2 (x := v1) (M := 60) (n := 60) (by decide) (Int32.not_lt.mpr p1) q1
          exact uc_cycle (br_f n2 (br_t m2 (br_t p1 (br_t q1 (go G hG fun post h => yc_cycle (br_f n2 (br_t m2 (br_t q1 h))))))))
        · exact uc_cycle (br_f n2 (br_t m2 (br_t p1 (br_f q1 (go 60 (by omega) fun post h => yc_cycle (br_f n2 (br_t m2 (br_f q1 h))))))))
      · have hneg : v1 ≤ 0 := Int32.le_of_lt (Int32.not_le.mp p1)
        have q1 : v1 ≤ 60 := Int32.le_trans hneg (by decide)
        exact uc_cycle (br_f n2 (br_t m2 (br_f p1 ⟨1, uc_cycle_35 (br_t (by decide) (yc_cycle (br_f n2 (br_t m2 (br_t q1 ⟨1, yc_cycle_27 (br_t hneg ⟨rfl, I⟩)⟩)))))⟩)))
    · exact uc_cycle (br_f n2 (br_f m2 (yc_cycle (br_f n2 (br_f m2 ⟨rfl, I⟩)))))
end
