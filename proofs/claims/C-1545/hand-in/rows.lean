section
/-! pure rows to paste: stores, nI and lN arithmetic, masks, shifts, narrowing, branches by naturals (pk_le, pk_lt, pk_eq), loops (lp1 .. lp16: the measure of the state; rp1 ..: recursion), negatives. Take what you need -/
theorem pk_us {f : Nat → Int32} {k : Nat} {x : Int32} : upd f k x k = x := if_pos rfl
theorem pk_un {f : Nat → Int32} {k j : Nat} {x : Int32} (h : j ≠ k) : upd f k x j = f j := if_neg h
theorem pk_uLs {f : Nat → Int64} {k : Nat} {x : Int64} : vp_updL f k x k = x := if_pos rfl
theorem pk_uLn {f : Nat → Int64} {k j : Nat} {x : Int64} (h : j ≠ k) : vp_updL f k x j = f j := if_neg h
theorem pk_sub {a b : Nat} (h : b ≤ a) : nI a - nI b = nI (a - b) := by
  obtain ⟨c, rfl⟩ : ∃ c, a = c + b := ⟨a - b, by omega⟩
  rw [← nI_add, Int32.add_sub_cancel, Nat.add_sub_cancel]
theorem pk_m1 (n : Nat) : nI (n + 1) + (-1) = nI n := by
  rw [← nI_1, Int32.add_assoc, show (1 : Int32) + (-1) = 0 from rfl, Int32.add_zero]
theorem pk_mul (a b : Nat) : nI a * nI b = nI (a * b) := (Int32.ofNat_mul a b).symm
theorem pk_div {a d : Nat} (ha : a < 2 ^ 31) (h0 : 0 < d) (hd : d < 2 ^ 31) : nI a / nI d = nI (a / d) := by
  apply Int32.toInt_inj.mp
  rw [lg_idiv_nonneg (by rw [nI_toInt ha]; omega) (by rw [nI_toInt hd]; omega), nI_toInt ha, nI_toInt hd, nI_toInt (Nat.lt_of_le_of_lt (Nat.div_le_self a d) ha)]
  first | rfl | exact (Int.natCast_ediv _ _).symm
theorem pk_rem {a d : Nat} (ha : a < 2 ^ 31) (h0 : 0 < d) (hd : d < 2 ^ 31) : nI a - nI a / nI d * nI d = nI (a % d) := by
  rw [pk_div ha h0 hd, pk_mul, pk_sub (Nat.div_mul_le_self a d)]
  exact congrArg nI (by have := Nat.div_add_mod' a d; omega)
theorem pk_sub_toInt {a b : Nat} (ha : a < 2 ^ 30) (hb : b < 2 ^ 30) : (nI a - nI b).toInt = (a : Int) - b := by
  rw [Int32.toInt_sub, nI_toInt (by omega), nI_toInt (by omega)]
  exact Int.bmod_eq_of_le (by omega) (by omega)
theorem pk_sneg {a b : Nat} (hb : b < 2 ^ 30) (h : a < b) : nI a - nI b < 0 := by
  rw [Int32.lt_iff_toInt_lt, pk_sub_toInt (by omega) hb, show (0 : Int32).toInt = 0 from by decide]
  omega
theorem pk_ix (x : Int32) {n : Nat} (hn : n < 2 ^ 31) : x < 0 ∨ nI n ≤ x ∨ ∃ j : Nat, j < n ∧ x = nI j := by
  by_cases h : x < 0
  · exact Or.inl h
  · obtain ⟨j, hj, rfl⟩ := nI_of h
    by_cases h2 : j < n
    · exact Or.inr (Or.inr ⟨j, h2, rfl⟩)
    · exact Or.inr (Or.inl (nI_le (by omega) hj))
theorem pk_le {x y : Int32} {A B : Prop} (a b : Nat) (f : a ≤ b → A) (g : b < a → B) (hx : x = nI a := by rfl) (hy : y = nI b := by rfl) (ha : a < 2 ^ 31 := by omega) (hb : b < 2 ^ 31 := by omega) : (x ≤ y → A) ∧ (¬ x ≤ y → B) := by
  subst hx hy
  rw [nI_leI ha hb]
  exact ⟨f, fun z => g (by omega)⟩
theorem pk_lt {x y : Int32} {A B : Prop} (a b : Nat) (f : a < b → A) (g : b ≤ a → B) (hx : x = nI a := by rfl) (hy : y = nI b := by rfl) (ha : a < 2 ^ 31 := by omega) (hb : b < 2 ^ 31 := by omega) : (x < y → A) ∧ (¬ x < y → B) := by
  subst hx hy
  rw [nI_ltI ha hb]
  exact ⟨f, fun z => g (by omega)⟩
theorem pk_eq {x y : Int32} {A B : Prop} (a b : Nat) (f : a = b → A) (g : a ≠ b → B) (hx : x = nI a := by rfl) (hy : y = nI b := by rfl) (ha : a < 2 ^ 31 := by omega) (hb : b < 2 ^ 31 := by omega) : (x = y → A) ∧ (¬ x = y → B) := by
  subst hx hy
  rw [nI_eq ha hb]
  exact ⟨f, g⟩
theorem pk_in {x : Int32} (n N : Nat) (h : n < N) (hx : x = nI n := by rfl) (hN : N < 2 ^ 31 := by omega) : vp_in x N := by
  subst hx
  exact vp_in_nI h hN
theorem pk_cl {x : Int32} (n : Nat) (hx : x = nI n := by rfl) (h : n < 2 ^ 31 := by omega) : x.toNatClampNeg = n := by
  subst hx
  exact nI_clamp h
theorem pk_tn {n : Nat} (h : n < 2 ^ 32) : (nI n).toBitVec.toNat = n := Nat.mod_eq_of_lt h
theorem pk_and (x : Int32) {m : Int32} (k : Nat) (hm : m.toBitVec.toNat = 2 ^ k - 1) : x &&& m = nI (x.toBitVec.toNat % 2 ^ k) := by
  apply Int32.toBitVec_inj.mp
  apply BitVec.eq_of_toNat_eq
  rw [Int32.toBitVec_and, BitVec.toNat_and, hm, Nat.and_two_pow_sub_one_eq_mod]
  show _ = (BitVec.ofNat 32 _).toNat
  rw [BitVec.toNat_ofNat]
  exact (Nat.mod_eq_of_lt (Nat.lt_of_le_of_lt (Nat.mod_le _ _) x.toBitVec.isLt)).symm
theorem pk_andN {n : Nat} (h : n < 2 ^ 32) {m : Int32} (k : Nat) (hm : m.toBitVec.toNat = 2 ^ k - 1) : nI n &&& m = nI (n % 2 ^ k) := by
  rw [pk_and _ k hm, pk_tn h]
theorem pk_andE (x : Int32) {m : Int32} (k : Nat) (hm : m.toBitVec.toNat = 2 ^ k - 1) : ∃ j : Nat, j < 2 ^ k ∧ x &&& m = nI j := ⟨_, Nat.mod_lt _ (Nat.two_pow_pos k), pk_and x k hm⟩
theorem pk_andIn (x : Int32) {m : Int32} (k : Nat) (hm : m.toBitVec.toNat = 2 ^ k - 1) (hk : k ≤ 30) : vp_in (x &&& m) (2 ^ k) := by
  obtain ⟨j, hj, e⟩ := pk_andE x k hm
  rw [e]
  exact vp_in_nI hj (Nat.lt_of_le_of_lt (Nat.pow_le_pow_right (by decide) hk) (by decide))
theorem pk_shl (a s : Int32) (k : Nat) (hs : (s.toBitVec.smod 32).toNat = k) : (a <<< s).toBitVec.toNat = a.toBitVec.toNat * 2 ^ k % 2 ^ 32 := by
  show (a.toBitVec <<< (s.toBitVec.smod 32).toNat).toNat = _
  rw [hs, BitVec.toNat_shiftLeft, Nat.shiftLeft_eq]
theorem pk_shlN {n : Nat} (s : Int32) (k : Nat) (hs : (s.toBitVec.smod 32).toNat = k) (h : n * 2 ^ k < 2 ^ 32) : nI n <<< s = nI (n * 2 ^ k) := by
  apply Int32.toBitVec_inj.mp
  apply BitVec.eq_of_toNat_eq
  have hn : n < 2 ^ 32 := Nat.lt_of_le_of_lt (Nat.le_mul_of_pos_right n (Nat.two_pow_pos k)) h
  rw [pk_shl _ _ k hs, pk_tn hn, pk_tn h, Nat.mod_eq_of_lt h]
theorem pk_shr (a s : Int32) (k : Nat) (hs : (s.toBitVec.smod 32).toNat = k) : (a >>> s).toInt = a.toInt >>> k := by
  show (a.toBitVec.sshiftRight (s.toBitVec.smod 32).toNat).toInt = _
  rw [hs, BitVec.toInt_sshiftRight]
  rfl
theorem pk_shrN {n : Nat} (h : n < 2 ^ 31) (s : Int32) (k : Nat) (hs : (s.toBitVec.smod 32).toNat = k) : nI n >>> s = nI (n / 2 ^ k) := by
  apply Int32.toInt_inj.mp
  have h2 : n / 2 ^ k ≤ n := Nat.div_le_self _ _
  rw [pk_shr _ _ k hs, nI_toInt h, nI_toInt (by omega), Int.shiftRight_eq_div_pow]
  rfl
theorem pk_ushr (x s : Int32) (k : Nat) (hs : ((s.toUInt32 &&& Int32.toUInt32 31).toBitVec % 32).toNat = k) : (x.toUInt32 >>> (s.toUInt32 &&& Int32.toUInt32 31)).toInt32.toBitVec.toNat = x.toBitVec.toNat / 2 ^ k := by
  have e : (x.toUInt32 >>> (s.toUInt32 &&& Int32.toUInt32 31)).toInt32.toBitVec = x.toBitVec >>> k := by
    rw [← hs]
    exact UInt32.toBitVec_shiftRight _ _
  rw [e, BitVec.toNat_ushiftRight, Nat.shiftRight_eq_div_pow]
theorem pk_ushrN {n : Nat} (hn : n < 2 ^ 32) (s : Int32) (k : Nat) (hs : ((s.toUInt32 &&& Int32.toUInt32 31).toBitVec % 32).toNat = k) : ((nI n).toUInt32 >>> (s.toUInt32 &&& Int32.toUInt32 31)).toInt32 = nI (n / 2 ^ k) := by
  apply Int32.toBitVec_inj.mp
  apply BitVec.eq_of_toNat_eq
  rw [pk_ushr _ s k hs, pk_tn hn, pk_tn (Nat.lt_of_le_of_lt (Nat.div_le_self _ _) hn)]
theorem pk_nb (z : Int32) : narrow .byte (.int z.toInt8.toInt32) = .int z.toInt8.toInt32 := congrArg Value.int (by simp)
theorem pk_ns (z : Int32) : narrow .short (.int z.toInt16.toInt32) = .int z.toInt16.toInt32 := congrArg Value.int (by simp)
theorem pk_fb (r : Int32) : fits .byte (.int r.toInt8.toInt32) = true := by
  have ⟨a, b⟩ := lg_i2b_range r
  have h1 : (-128 : Int32).toInt = -128 := by decide
  have h2 : (127 : Int32).toInt = 127 := by decide
  simp only [fits, Bool.and_eq_true, decide_eq_true_eq, Int32.le_iff_toInt_le, h1, h2]
  omega
theorem pk_fs (r : Int32) : fits .short (.int r.toInt16.toInt32) = true := by
  have ⟨a, b⟩ := lg_i2s_range r
  have h1 : (-32768 : Int32).toInt = -32768 := by decide
  have h2 : (32767 : Int32).toInt = 32767 := by decide
  simp only [fits, Bool.and_eq_true, decide_eq_true_eq, Int32.le_iff_toInt_le, h1, h2]
  omega
theorem pk_charN {q : Nat} (hq : q < 65536) : narrow .char (.int (nI q)) = .int (nI q) ∧ fits .char (.int (nI q)) = true := by
  constructor
  · have e : (nI q).toUInt32.toUInt16.toUInt32.toInt32 = nI q := by
      apply Int32.toBitVec_inj.mp
      apply BitVec.eq_of_toNat_eq
      show (nI q).toUInt32.toUInt16.toUInt32.toNat = q % 2 ^ 32
      rw [UInt16.toNat_toUInt32, UInt32.toNat_toUInt16, show (nI q).toUInt32.toNat = q % 2 ^ 32 from rfl]
      omega
    exact congrArg Value.int e
  · have a : (0 : Int32) ≤ nI q := nI_pos' (by omega)
    have b : nI q ≤ 65535 := nI_le (b := 65535) (by omega) (by decide)
    show (decide ((0 : Int32) ≤ nI q) && decide (nI q ≤ 65535)) = true
    rw [decide_eq_true a, decide_eq_true b]
    rfl
theorem pk_char (x : Int32) : (x.toUInt32 % 65536).toInt32 = nI (x.toBitVec.toNat % 65536) := by
  apply Int32.toBitVec_inj.mp
  apply BitVec.eq_of_toNat_eq
  rw [pk_tn (by omega)]
  show (x.toUInt32 % 65536).toNat = _
  rw [UInt32.toNat_mod]
  rfl
theorem pk_nc (x : Int32) : narrow .char (.int (x.toUInt32 % 65536).toInt32) = .int (x.toUInt32 % 65536).toInt32 := by
  rw [pk_char]
  exact (pk_charN (Nat.mod_lt _ (by decide))).1
theorem pk_fc (x : Int32) : fits .char (.int (x.toUInt32 % 65536).toInt32) = true := by
  rw [pk_char]
  exact (pk_charN (Nat.mod_lt _ (by decide))).2
theorem pk_vb (z : Int32) : vp_nar .byte z.toInt8.toInt32 = z.toInt8.toInt32 := by rw [vp_nar_byte]; simp
theorem pk_vs (z : Int32) : vp_nar .short z.toInt16.toInt32 = z.toInt16.toInt32 := by rw [vp_nar_short]; simp
theorem pk_vc (z : Int32) : vp_nar .char (z.toUInt32 % 65536).toInt32 = (z.toUInt32 % 65536).toInt32 := Value.int.inj (pk_nc z)
theorem pk_lT {n : Nat} (h : n < 2 ^ 63) : (lN n).toInt = (n : Int) := lg_ofNat_toInt h
theorem pk_lLT {a b : Nat} (ha : a < 2 ^ 63) (hb : b < 2 ^ 63) : lN a < lN b ↔ a < b := by
  rw [Int64.lt_iff_toInt_lt, pk_lT ha, pk_lT hb]; omega
theorem pk_lLE {a b : Nat} (ha : a < 2 ^ 63) (hb : b < 2 ^ 63) : lN a ≤ lN b ↔ a ≤ b := by
  rw [Int64.le_iff_toInt_le, pk_lT ha, pk_lT hb]; omega
theorem pk_lEQ {a b : Nat} (ha : a < 2 ^ 63) (hb : b < 2 ^ 63) : lN a = lN b ↔ a = b := by
  rw [← Int64.toInt_inj, pk_lT ha, pk_lT hb]; omega
theorem pk_lOf {x : Int64} (h : ¬ x < 0) : ∃ k : Nat, k < 2 ^ 63 ∧ x = lN k := by
  rw [Int64.lt_iff_toInt_lt] at h
  have h0 : (0 : Int64).toInt = 0 := by decide
  have hx := Int64.toInt_lt x
  refine ⟨x.toInt.toNat, by omega, Int64.toInt_inj.mp ?_⟩
  rw [pk_lT (by omega)]
  omega
theorem pk_lDiv {a b : Nat} (ha : a < 2 ^ 63) (h0 : 0 < b) (hb : b < 2 ^ 63) : lN a / lN b = lN (a / b) := by
  apply Int64.toInt_inj.mp
  rw [lg_ldiv_nonneg (by rw [pk_lT ha]; omega) (by rw [pk_lT hb]; omega), pk_lT ha, pk_lT hb, pk_lT (Nat.lt_of_le_of_lt (Nat.div_le_self a b) ha)]
  rfl
theorem pk_lRem {a b : Nat} (ha : a < 2 ^ 63) (h0 : 0 < b) (hb : b < 2 ^ 63) : lN a - lN a / lN b * lN b = lN (a % b) := by
  rw [pk_lDiv ha h0 hb, lN_mul, lN_sub (Nat.div_mul_le_self a b)]
  exact congrArg lN (by have := Nat.div_add_mod' a b; omega)
theorem pk_loop {σ : Type} (W : Nat → Nat → σ → Prop) (I : Nat → σ → Prop) (e i0 : Nat) (s : σ) (hi : i0 ≤ e) (h0 : I i0 s) (hx : ∀ n s, I e s → W (n + 1) e s)
    (hs : ∀ n i s, i < e → I i s → (∀ s', I (i + 1) s' → W n (i + 1) s') → W (n + 1) i s) : ∃ n, W n i0 s :=
  ⟨e + 1, loop_i W I e hx hs (e + 1) i0 s hi (by omega) h0⟩
theorem pk_loopD {σ : Type} (W : Nat → Nat → σ → Prop) (I : Nat → σ → Prop) (hx : ∀ n s, I 0 s → W (n + 1) 0 s)
    (hs : ∀ n i s, I (i + 1) s → (∀ s', I i s' → W n i s') → W (n + 1) (i + 1) s) : ∀ (e : Nat) (s : σ), I e s → W (e + 1) e s := by
  intro e
  induction e with
  | zero => exact fun s h => hx 0 s h
  | succ e ih => exact fun s h => hs (e + 1) e s h (fun s' h' => ih s' h')
theorem lp1 {A1 : Type} (W : Nat → A1 → Prop) (I : A1 → Prop) (μ : A1 → Nat) (hs : ∀ (n : Nat) (a1 : A1), I a1 → (∀ (b1 : A1), I b1 → μ b1 < μ a1 → W n b1) → W (n + 1) a1) (a1 : A1) (h : I a1) : ∃ n, W n a1 :=
  loop_m (σ := A1) (fun n s => W n s) (fun s => I s) (fun s => μ s) (fun n s hI hk => hs n s hI (fun b1 h9 hm => hk b1 h9 hm)) a1 h
theorem lp2 {A1 A2 : Type} (W : Nat → A1 → A2 → Prop) (I : A1 → A2 → Prop) (μ : A1 → A2 → Nat) (hs : ∀ (n : Nat) (a1 : A1) (a2 : A2), I a1 a2 → (∀ (b1 : A1) (b2 : A2), I b1 b2 → μ b1 b2 < μ a1 a2 → W n b1 b2) → W (n + 1) a1 a2) (a1 : A1) (a2 : A2) (h : I a1 a2) : ∃ n, W n a1 a2 :=
  loop_m (σ := A1 × A2) (fun n s => W n s.1 s.2) (fun s => I s.1 s.2) (fun s => μ s.1 s.2) (fun n s hI hk => hs n s.1 s.2 hI (fun b1 b2 h9 hm => hk (b1, b2) h9 hm)) (a1, a2) h
theorem lp3 {A1 A2 A3 : Type} (W : Nat → A1 → A2 → A3 → Prop) (I : A1 → A2 → A3 → Prop) (μ : A1 → A2 → A3 → Nat) (hs : ∀ (n : Nat) (a1 : A1) (a2 : A2) (a3 : A3), I a1 a2 a3 → (∀ (b1 : A1) (b2 : A2) (b3 : A3), I b1 b2 b3 → μ b1 b2 b3 < μ a1 a2 a3 → W n b1 b2 b3) → W (n + 1) a1 a2 a3) (a1 : A1) (a2 : A2) (a3 : A3) (h : I a1 a2 a3) : ∃ n, W n a1 a2 a3 :=
  loop_m (σ := A1 × A2 × A3) (fun n s => W n s.1 s.2.1 s.2.2) (fun s => I s.1 s.2.1 s.2.2) (fun s => μ s.1 s.2.1 s.2.2) (fun n s hI hk => hs n s.1 s.2.1 s.2.2 hI (fun b1 b2 b3 h9 hm => hk (b1, b2, b3) h9 hm)) (a1, a2, a3) h
theorem lp4 {A1 A2 A3 A4 : Type} (W : Nat → A1 → A2 → A3 → A4 → Prop) (I : A1 → A2 → A3 → A4 → Prop) (μ : A1 → A2 → A3 → A4 → Nat) (hs : ∀ (n : Nat) (a1 : A1) (a2 : A2) (a3 : A3) (a4 : A4), I a1 a2 a3 a4 → (∀ (b1 : A1) (b2 : A2) (b3 : A3) (b4 : A4), I b1 b2 b3 b4 → μ b1 b2 b3 b4 < μ a1 a2 a3 a4 → W n b1 b2 b3 b4) → W (n + 1) a1 a2 a3 a4) (a1 : A1) (a2 : A2) (a3 : A3) (a4 : A4) (h : I a1 a2 a3 a4) : ∃ n, W n a1 a2 a3 a4 :=
  loop_m (σ := A1 × A2 × A3 × A4) (fun n s => W n s.1 s.2.1 s.2.2.1 s.2.2.2) (fun s => I s.1 s.2.1 s.2.2.1 s.2.2.2) (fun s => μ s.1 s.2.1 s.2.2.1 s.2.2.2) (fun n s hI hk => hs n s.1 s.2.1 s.2.2.1 s.2.2.2 hI (fun b1 b2 b3 b4 h9 hm => hk (b1, b2, b3, b4) h9 hm)) (a1, a2, a3, a4) h
theorem lp5 {A1 A2 A3 A4 A5 : Type} (W : Nat → A1 → A2 → A3 → A4 → A5 → Prop) (I : A1 → A2 → A3 → A4 → A5 → Prop) (μ : A1 → A2 → A3 → A4 → A5 → Nat) (hs : ∀ (n : Nat) (a1 : A1) (a2 : A2) (a3 : A3) (a4 : A4) (a5 : A5), I a1 a2 a3 a4 a5 → (∀ (b1 : A1) (b2 : A2) (b3 : A3) (b4 : A4) (b5 : A5), I b1 b2 b3 b4 b5 → μ b1 b2 b3 b4 b5 < μ a1 a2 a3 a4 a5 → W n b1 b2 b3 b4 b5) → W (n + 1) a1 a2 a3 a4 a5) (a1 : A1) (a2 : A2) (a3 : A3) (a4 : A4) (a5 : A5) (h : I a1 a2 a3 a4 a5) : ∃ n, W n a1 a2 a3 a4 a5 :=
  loop_m (σ := A1 × A2 × A3 × A4 × A5) (fun n s => W n s.1 s.2.1 s.2.2.1 s.2.2.2.1 s.2.2.2.2) (fun s => I s.1 s.2.1 s.2.2.1 s.2.2.2.1 s.2.2.2.2) (fun s => μ s.1 s.2.1 s.2.2.1 s.2.2.2.1 s.2.2.2.2) (fun n s hI hk => hs n s.1 s.2.1 s.2.2.1 s.2.2.2.1 s.2.2.2.2 hI (fun b1 b2 b3 b4 b5 h9 hm => hk (b1, b2, b3, b4, b5) h9 hm)) (a1, a2, a3, a4, a5) h
theorem lp6 {A1 A2 A3 A4 A5 A6 : Type} (W : Nat → A1 → A2 → A3 → A4 → A5 → A6 → Prop) (I : A1 → A2 → A3 → A4 → A5 → A6 → Prop) (μ : A1 → A2 → A3 → A4 → A5 → A6 → Nat) (hs : ∀ (n : Nat) (a1 : A1) (a2 : A2) (a3 : A3) (a4 : A4) (a5 : A5) (a6 : A6), I a1 a2 a3 a4 a5 a6 → (∀ (b1 : A1) (b2 : A2) (b3 : A3) (b4 : A4) (b5 : A5) (b6 : A6), I b1 b2 b3 b4 b5 b6 → μ b1 b2 b3 b4 b5 b6 < μ a1 a2 a3 a4 a5 a6 → W n b1 b2 b3 b4 b5 b6) → W (n + 1) a1 a2 a3 a4 a5 a6) (a1 : A1) (a2 : A2) (a3 : A3) (a4 : A4) (a5 : A5) (a6 : A6) (h : I a1 a2 a3 a4 a5 a6) : ∃ n, W n a1 a2 a3 a4 a5 a6 :=
  loop_m (σ := A1 × A2 × A3 × A4 × A5 × A6) (fun n s => W n s.1 s.2.1 s.2.2.1 s.2.2.2.1 s.2.2.2.2.1 s.2.2.2.2.2) (fun s => I s.1 s.2.1 s.2.2.1 s.2.2.2.1 s.2.2.2.2.1 s.2.2.2.2.2) (fun s => μ s.1 s.2.1 s.2.2.1 s.2.2.2.1 s.2.2.2.2.1 s.2.2.2.2.2) (fun n s hI hk => hs n s.1 s.2.1 s.2.2.1 s.2.2.2.1 s.2.2.2.2.1 s.2.2.2.2.2 hI (fun b1 b2 b3 b4 b5 b6 h9 hm => hk (b1, b2, b3, b4, b5, b6) h9 hm)) (a1, a2, a3, a4, a5, a6) h
theorem lp7 {A1 A2 A3 A4 A5 A6 A7 : Type} (W : Nat → A1 → A2 → A3 → A4 → A5 → A6 → A7 → Prop) (I : A1 → A2 → A3 → A4 → A5 → A6 → A7 → Prop) (μ : A1 → A2 → A3 → A4 → A5 → A6 → A7 → Nat) (hs : ∀ (n : Nat) (a1 : A1) (a2 : A2) (a3 : A3) (a4 : A4) (a5 : A5) (a6 : A6) (a7 : A7), I a1 a2 a3 a4 a5 a6 a7 → (∀ (b1 : A1) (b2 : A2) (b3 : A3) (b4 : A4) (b5 : A5) (b6 : A6) (b7 : A7), I b1 b2 b3 b4 b5 b6 b7 → μ b1 b2 b3 b4 b5 b6 b7 < μ a1 a2 a3 a4 a5 a6 a7 → W n b1 b2 b3 b4 b5 b6 b7) → W (n + 1) a1 a2 a3 a4 a5 a6 a7) (a1 : A1) (a2 : A2) (a3 : A3) (a4 : A4) (a5 : A5) (a6 : A6) (a7 : A7) (h : I a1 a2 a3 a4 a5 a6 a7) : ∃ n, W n a1 a2 a3 a4 a5 a6 a7 :=
  loop_m (σ := A1 × A2 × A3 × A4 × A5 × A6 × A7) (fun n s => W n s.1 s.2.1 s.2.2.1 s.2.2.2.1 s.2.2.2.2.1 s.2.2.2.2.2.1 s.2.2.2.2.2.2) (fun s => I s.1 s.2.1 s.2.2.1 s.2.2.2.1 s.2.2.2.2.1 s.2.2.2.2.2.1 s.2.2.2.2.2.2) (fun s => μ s.1 s.2.1 s.2.2.1 s.2.2.2.1 s.2.2.2.2.1 s.2.2.2.2.2.1 s.2.2.2.2.2.2) (fun n s hI hk => hs n s.1 s.2.1 s.2.2.1 s.2.2.2.1 s.2.2.2.2.1 s.2.2.2.2.2.1 s.2.2.2.2.2.2 hI (fun b1 b2 b3 b4 b5 b6 b7 h9 hm => hk (b1, b2, b3, b4, b5, b6, b7) h9 hm)) (a1, a2, a3, a4, a5, a6, a7) h
theorem lp8 {A1 A2 A3 A4 A5 A6 A7 A8 : Type} (W : Nat → A1 → A2 → A3 → A4 → A5 → A6 → A7 → A8 → Prop) (I : A1 → A2 → A3 → A4 → A5 → A6 → A7 → A8 → Prop) (μ : A1 → A2 → A3 → A4 → A5 → A6 → A7 → A8 → Nat) (hs : ∀ (n : Nat) (a1 : A1) (a2 : A2) (a3 : A3) (a4 : A4) (a5 : A5) (a6 : A6) (a7 : A7) (a8 : A8), I a1 a2 a3 a4 a5 a6 a7 a8 → (∀ (b1 : A1) (b2 : A2) (b3 : A3) (b4 : A4) (b5 : A5) (b6 : A6) (b7 : A7) (b8 : A8), I b1 b2 b3 b4 b5 b6 b7 b8 → μ b1 b2 b3 b4 b5 b6 b7 b8 < μ a1 a2 a3 a4 a5 a6 a7 a8 → W n b1 b2 b3 b4 b5 b6 b7 b8) → W (n + 1) a1 a2 a3 a4 a5 a6 a7 a8) (a1 : A1) (a2 : A2) (a3 : A3) (a4 : A4) (a5 : A5) (a6 : A6) (a7 : A7) (a8 : A8) (h : I a1 a2 a3 a4 a5 a6 a7 a8) : ∃ n, W n a1 a2 a3 a4 a5 a6 a7 a8 :=
  loop_m (σ := A1 × A2 × A3 × A4 × A5 × A6 × A7 × A8) (fun n s => W n s.1 s.2.1 s.2.2.1 s.2.2.2.1 s.2.2.2.2.1 s.2.2.2.2.2.1 s.2.2.2.2.2.2.1 s.2.2.2.2.2.2.2) (fun s => I s.1 s.2.1 s.2.2.1 s.2.2.2.1 s.2.2.2.2.1 s.2.2.2.2.2.1 s.2.2.2.2.2.2.1 s.2.2.2.2.2.2.2) (fun s => μ s.1 s.2.1 s.2.2.1 s.2.2.2.1 s.2.2.2.2.1 s.2.2.2.2.2.1 s.2.2.2.2.2.2.1 s.2.2.2.2.2.2.2) (fun n s hI hk => hs n s.1 s.2.1 s.2.2.1 s.2.2.2.1 s.2.2.2.2.1 s.2.2.2.2.2.1 s.2.2.2.2.2.2.1 s.2.2.2.2.2.2.2 hI (fun b1 b2 b3 b4 b5 b6 b7 b8 h9 hm => hk (b1, b2, b3, b4, b5, b6, b7, b8) h9 hm)) (a1, a2, a3, a4, a5, a6, a7, a8) h
theorem lp9 {A1 A2 A3 A4 A5 A6 A7 A8 A9 : Type} (W : Nat → A1 → A2 → A3 → A4 → A5 → A6 → A7 → A8 → A9 → Prop) (I : A1 → A2 → A3 → A4 → A5 → A6 → A7 → A8 → A9 → Prop) (μ : A1 → A2 → A3 → A4 → A5 → A6 → A7 → A8 → A9 → Nat) (hs : ∀ (n : Nat) (a1 : A1) (a2 : A2) (a3 : A3) (a4 : A4) (a5 : A5) (a6 : A6) (a7 : A7) (a8 : A8) (a9 : A9), I a1 a2 a3 a4 a5 a6 a7 a8 a9 → (∀ (b1 : A1) (b2 : A2) (b3 : A3) (b4 : A4) (b5 : A5) (b6 : A6) (b7 : A7) (b8 : A8) (b9 : A9), I b1 b2 b3 b4 b5 b6 b7 b8 b9 → μ b1 b2 b3 b4 b5 b6 b7 b8 b9 < μ a1 a2 a3 a4 a5 a6 a7 a8 a9 → W n b1 b2 b3 b4 b5 b6 b7 b8 b9) → W (n + 1) a1 a2 a3 a4 a5 a6 a7 a8 a9) (a1 : A1) (a2 : A2) (a3 : A3) (a4 : A4) (a5 : A5) (a6 : A6) (a7 : A7) (a8 : A8) (a9 : A9) (h : I a1 a2 a3 a4 a5 a6 a7 a8 a9) : ∃ n, W n a1 a2 a3 a4 a5 a6 a7 a8 a9 :=
  loop_m (σ := A1 × A2 × A3 × A4 × A5 × A6 × A7 × A8 × A9) (fun n s => W n s.1 s.2.1 s.2.2.1 s.2.2.2.1 s.2.2.2.2.1 s.2.2.2.2.2.1 s.2.2.2.2.2.2.1 s.2.2.2.2.2.2.2.1 s.2.2.2.2.2.2.2.2) (fun s => I s.1 s.2.1 s.2.2.1 s.2.2.2.1 s.2.2.2.2.1 s.2.2.2.2.2.1 s.2.2.2.2.2.2.1 s.2.2.2.2.2.2.2.1 s.2.2.2.2.2.2.2.2) (fun s => μ s.1 s.2.1 s.2.2.1 s.2.2.2.1 s.2.2.2.2.1 s.2.2.2.2.2.1 s.2.2.2.2.2.2.1 s.2.2.2.2.2.2.2.1 s.2.2.2.2.2.2.2.2) (fun n s hI hk => hs n s.1 s.2.1 s.2.2.1 s.2.2.2.1 s.2.2.2.2.1 s.2.2.2.2.2.1 s.2.2.2.2.2.2.1 s.2.2.2.2.2.2.2.1 s.2.2.2.2.2.2.2.2 hI (fun b1 b2 b3 b4 b5 b6 b7 b8 b9 h9 hm => hk (b1, b2, b3, b4, b5, b6, b7, b8, b9) h9 hm)) (a1, a2, a3, a4, a5, a6, a7, a8, a9) h
theorem lp10 {A1 A2 A3 A4 A5 A6 A7 A8 A9 A10 : Type} (W : Nat → A1 → A2 → A3 → A4 → A5 → A6 → A7 → A8 → A9 → A10 → Prop) (I : A1 → A2 → A3 → A4 → A5 → A6 → A7 → A8 → A9 → A10 → Prop) (μ : A1 → A2 → A3 → A4 → A5 → A6 → A7 → A8 → A9 → A10 → Nat) (hs : ∀ (n : Nat) (a1 : A1) (a2 : A2) (a3 : A3) (a4 : A4) (a5 : A5) (a6 : A6) (a7 : A7) (a8 : A8) (a9 : A9) (a10 : A10), I a1 a2 a3 a4 a5 a6 a7 a8 a9 a10 → (∀ (b1 : A1) (b2 : A2) (b3 : A3) (b4 : A4) (b5 : A5) (b6 : A6) (b7 : A7) (b8 : A8) (b9 : A9) (b10 : A10), I b1 b2 b3 b4 b5 b6 b7 b8 b9 b10 → μ b1 b2 b3 b4 b5 b6 b7 b8 b9 b10 < μ a1 a2 a3 a4 a5 a6 a7 a8 a9 a10 → W n b1 b2 b3 b4 b5 b6 b7 b8 b9 b10) → W (n + 1) a1 a2 a3 a4 a5 a6 a7 a8 a9 a10) (a1 : A1) (a2 : A2) (a3 : A3) (a4 : A4) (a5 : A5) (a6 : A6) (a7 : A7) (a8 : A8) (a9 : A9) (a10 : A10) (h : I a1 a2 a3 a4 a5 a6 a7 a8 a9 a10) : ∃ n, W n a1 a2 a3 a4 a5 a6 a7 a8 a9 a10 :=
  loop_m (σ := A1 × A2 × A3 × A4 × A5 × A6 × A7 × A8 × A9 × A10) (fun n s => W n s.1 s.2.1 s.2.2.1 s.2.2.2.1 s.2.2.2.2.1 s.2.2.2.2.2.1 s.2.2.2.2.2.2.1 s.2.2.2.2.2.2.2.1 s.2.2.2.2.2.2.2.2.1 s.2.2.2.2.2.2.2.2.2) (fun s => I s.1 s.2.1 s.2.2.1 s.2.2.2.1 s.2.2.2.2.1 s.2.2.2.2.2.1 s.2.2.2.2.2.2.1 s.2.2.2.2.2.2.2.1 s.2.2.2.2.2.2.2.2.1 s.2.2.2.2.2.2.2.2.2) (fun s => μ s.1 s.2.1 s.2.2.1 s.2.2.2.1 s.2.2.2.2.1 s.2.2.2.2.2.1 s.2.2.2.2.2.2.1 s.2.2.2.2.2.2.2.1 s.2.2.2.2.2.2.2.2.1 s.2.2.2.2.2.2.2.2.2) (fun n s hI hk => hs n s.1 s.2.1 s.2.2.1 s.2.2.2.1 s.2.2.2.2.1 s.2.2.2.2.2.1 s.2.2.2.2.2.2.1 s.2.2.2.2.2.2.2.1 s.2.2.2.2.2.2.2.2.1 s.2.2.2.2.2.2.2.2.2 hI (fun b1 b2 b3 b4 b5 b6 b7 b8 b9 b10 h9 hm => hk (b1, b2, b3, b4, b5, b6, b7, b8, b9, b10) h9 hm)) (a1, a2, a3, a4, a5, a6, a7, a8, a9, a10) h
theorem lp11 {A1 A2 A3 A4 A5 A6 A7 A8 A9 A10 A11 : Type} (W : Nat → A1 → A2 → A3 → A4 → A5 → A6 → A7 → A8 → A9 → A10 → A11 → Prop) (I : A1 → A2 → A3 → A4 → A5 → A6 → A7 → A8 → A9 → A10 → A11 → Prop) (μ : A1 → A2 → A3 → A4 → A5 → A6 → A7 → A8 → A9 → A10 → A11 → Nat) (hs : ∀ (n : Nat) (a1 : A1) (a2 : A2) (a3 : A3) (a4 : A4) (a5 : A5) (a6 : A6) (a7 : A7) (a8 : A8) (a9 : A9) (a10 : A10) (a11 : A11), I a1 a2 a3 a4 a5 a6 a7 a8 a9 a10 a11 → (∀ (b1 : A1) (b2 : A2) (b3 : A3) (b4 : A4) (b5 : A5) (b6 : A6) (b7 : A7) (b8 : A8) (b9 : A9) (b10 : A10) (b11 : A11), I b1 b2 b3 b4 b5 b6 b7 b8 b9 b10 b11 → μ b1 b2 b3 b4 b5 b6 b7 b8 b9 b10 b11 < μ a1 a2 a3 a4 a5 a6 a7 a8 a9 a10 a11 → W n b1 b2 b3 b4 b5 b6 b7 b8 b9 b10 b11) → W (n + 1) a1 a2 a3 a4 a5 a6 a7 a8 a9 a10 a11) (a1 : A1) (a2 : A2) (a3 : A3) (a4 : A4) (a5 : A5) (a6 : A6) (a7 : A7) (a8 : A8) (a9 : A9) (a10 : A10) (a11 : A11) (h : I a1 a2 a3 a4 a5 a6 a7 a8 a9 a10 a11) : ∃ n, W n a1 a2 a3 a4 a5 a6 a7 a8 a9 a10 a11 :=
  loop_m (σ := A1 × A2 × A3 × A4 × A5 × A6 × A7 × A8 × A9 × A10 × A11) (fun n s => W n s.1 s.2.1 s.2.2.1 s.2.2.2.1 s.2.2.2.2.1 s.2.2.2.2.2.1 s.2.2.2.2.2.2.1 s.2.2.2.2.2.2.2.1 s.2.2.2.2.2.2.2.2.1 s.2.2.2.2.2.2.2.2.2.1 s.2.2.2.2.2.2.2.2.2.2) (fun s => I s.1 s.2.1 s.2.2.1 s.2.2.2.1 s.2.2.2.2.1 s.2.2.2.2.2.1 s.2.2.2.2.2.2.1 s.2.2.2.2.2.2.2.1 s.2.2.2.2.2.2.2.2.1 s.2.2.2.2.2.2.2.2.2.1 s.2.2.2.2.2.2.2.2.2.2) (fun s => μ s.1 s.2.1 s.2.2.1 s.2.2.2.1 s.2.2.2.2.1 s.2.2.2.2.2.1 s.2.2.2.2.2.2.1 s.2.2.2.2.2.2.2.1 s.2.2.2.2.2.2.2.2.1 s.2.2.2.2.2.2.2.2.2.1 s.2.2.2.2.2.2.2.2.2.2) (fun n s hI hk => hs n s.1 s.2.1 s.2.2.1 s.2.2.2.1 s.2.2.2.2.1 s.2.2.2.2.2.1 s.2.2.2.2.2.2.1 s.2.2.2.2.2.2.2.1 s.2.2.2.2.2.2.2.2.1 s.2.2.2.2.2.2.2.2.2.1 s.2.2.2.2.2.2.2.2.2.2 hI (fun b1 b2 b3 b4 b5 b6 b7 b8 b9 b10 b11 h9 hm => hk (b1, b2, b3, b4, b5, b6, b7, b8, b9, b10, b11) h9 hm)) (a1, a2, a3, a4, a5, a6, a7, a8, a9, a10, a11) h
theorem lp12 {A1 A2 A3 A4 A5 A6 A7 A8 A9 A10 A11 A12 : Type} (W : Nat → A1 → A2 → A3 → A4 → A5 → A6 → A7 → A8 → A9 → A10 → A11 → A12 → Prop) (I : A1 → A2 → A3 → A4 → A5 → A6 → A7 → A8 → A9 → A10 → A11 → A12 → Prop) (μ : A1 → A2 → A3 → A4 → A5 → A6 → A7 → A8 → A9 → A10 → A11 → A12 → Nat) (hs : ∀ (n : Nat) (a1 : A1) (a2 : A2) (a3 : A3) (a4 : A4) (a5 : A5) (a6 : A6) (a7 : A7) (a8 : A8) (a9 : A9) (a10 : A10) (a11 : A11) (a12 : A12), I a1 a2 a3 a4 a5 a6 a7 a8 a9 a10 a11 a12 → (∀ (b1 : A1) (b2 : A2) (b3 : A3) (b4 : A4) (b5 : A5) (b6 : A6) (b7 : A7) (b8 : A8) (b9 : A9) (b10 : A10) (b11 : A11) (b12 : A12), I b1 b2 b3 b4 b5 b6 b7 b8 b9 b10 b11 b12 → μ b1 b2 b3 b4 b5 b6 b7 b8 b9 b10 b11 b12 < μ a1 a2 a3 a4 a5 a6 a7 a8 a9 a10 a11 a12 → W n b1 b2 b3 b4 b5 b6 b7 b8 b9 b10 b11 b12) → W (n + 1) a1 a2 a3 a4 a5 a6 a7 a8 a9 a10 a11 a12) (a1 : A1) (a2 : A2) (a3 : A3) (a4 : A4) (a5 : A5) (a6 : A6) (a7 : A7) (a8 : A8) (a9 : A9) (a10 : A10) (a11 : A11) (a12 : A12) (h : I a1 a2 a3 a4 a5 a6 a7 a8 a9 a10 a11 a12) : ∃ n, W n a1 a2 a3 a4 a5 a6 a7 a8 a9 a10 a11 a12 :=
  loop_m (σ := A1 × A2 × A3 × A4 × A5 × A6 × A7 × A8 × A9 × A10 × A11 × A12) (fun n s => W n s.1 s.2.1 s.2.2.1 s.2.2.2.1 s.2.2.2.2.1 s.2.2.2.2.2.1 s.2.2.2.2.2.2.1 s.2.2.2.2.2.2.2.1 s.2.2.2.2.2.2.2.2.1 s.2.2.2.2.2.2.2.2.2.1 s.2.2.2.2.2.2.2.2.2.2.1 s.2.2.2.2.2.2.2.2.2.2.2) (fun s => I s.1 s.2.1 s.2.2.1 s.2.2.2.1 s.2.2.2.2.1 s.2.2.2.2.2.1 s.2.2.2.2.2.2.1 s.2.2.2.2.2.2.2.1 s.2.2.2.2.2.2.2.2.1 s.2.2.2.2.2.2.2.2.2.1 s.2.2.2.2.2.2.2.2.2.2.1 s.2.2.2.2.2.2.2.2.2.2.2) (fun s => μ s.1 s.2.1 s.2.2.1 s.2.2.2.1 s.2.2.2.2.1 s.2.2.2.2.2.1 s.2.2.2.2.2.2.1 s.2.2.2.2.2.2.2.1 s.2.2.2.2.2.2.2.2.1 s.2.2.2.2.2.2.2.2.2.1 s.2.2.2.2.2.2.2.2.2.2.1 s.2.2.2.2.2.2.2.2.2.2.2) (fun n s hI hk => hs n s.1 s.2.1 s.2.2.1 s.2.2.2.1 s.2.2.2.2.1 s.2.2.2.2.2.1 s.2.2.2.2.2.2.1 s.2.2.2.2.2.2.2.1 s.2.2.2.2.2.2.2.2.1 s.2.2.2.2.2.2.2.2.2.1 s.2.2.2.2.2.2.2.2.2.2.1 s.2.2.2.2.2.2.2.2.2.2.2 hI (fun b1 b2 b3 b4 b5 b6 b7 b8 b9 b10 b11 b12 h9 hm => hk (b1, b2, b3, b4, b5, b6, b7, b8, b9, b10, b11, b12) h9 hm)) (a1, a2, a3, a4, a5, a6, a7, a8, a9, a10, a11, a12) h
theorem lp13 {A1 A2 A3 A4 A5 A6 A7 A8 A9 A10 A11 A12 A13 : Type} (W : Nat → A1 → A2 → A3 → A4 → A5 → A6 → A7 → A8 → A9 → A10 → A11 → A12 → A13 → Prop) (I : A1 → A2 → A3 → A4 → A5 → A6 → A7 → A8 → A9 → A10 → A11 → A12 → A13 → Prop) (μ : A1 → A2 → A3 → A4 → A5 → A6 → A7 → A8 → A9 → A10 → A11 → A12 → A13 → Nat) (hs : ∀ (n : Nat) (a1 : A1) (a2 : A2) (a3 : A3) (a4 : A4) (a5 : A5) (a6 : A6) (a7 : A7) (a8 : A8) (a9 : A9) (a10 : A10) (a11 : A11) (a12 : A12) (a13 : A13), I a1 a2 a3 a4 a5 a6 a7 a8 a9 a10 a11 a12 a13 → (∀ (b1 : A1) (b2 : A2) (b3 : A3) (b4 : A4) (b5 : A5) (b6 : A6) (b7 : A7) (b8 : A8) (b9 : A9) (b10 : A10) (b11 : A11) (b12 : A12) (b13 : A13), I b1 b2 b3 b4 b5 b6 b7 b8 b9 b10 b11 b12 b13 → μ b1 b2 b3 b4 b5 b6 b7 b8 b9 b10 b11 b12 b13 < μ a1 a2 a3 a4 a5 a6 a7 a8 a9 a10 a11 a12 a13 → W n b1 b2 b3 b4 b5 b6 b7 b8 b9 b10 b11 b12 b13) → W (n + 1) a1 a2 a3 a4 a5 a6 a7 a8 a9 a10 a11 a12 a13) (a1 : A1) (a2 : A2) (a3 : A3) (a4 : A4) (a5 : A5) (a6 : A6) (a7 : A7) (a8 : A8) (a9 : A9) (a10 : A10) (a11 : A11) (a12 : A12) (a13 : A13) (h : I a1 a2 a3 a4 a5 a6 a7 a8 a9 a10 a11 a12 a13) : ∃ n, W n a1 a2 a3 a4 a5 a6 a7 a8 a9 a10 a11 a12 a13 :=
  loop_m (σ := A1 × A2 × A3 × A4 × A5 × A6 × A7 × A8 × A9 × A10 × A11 × A12 × A13) (fun n s => W n s.1 s.2.1 s.2.2.1 s.2.2.2.1 s.2.2.2.2.1 s.2.2.2.2.2.1 s.2.2.2.2.2.2.1 s.2.2.2.2.2.2.2.1 s.2.2.2.2.2.2.2.2.1 s.2.2.2.2.2.2.2.2.2.1 s.2.2.2.2.2.2.2.2.2.2.1 s.2.2.2.2.2.2.2.2.2.2.2.1 s.2.2.2.2.2.2.2.2.2.2.2.2) (fun s => I s.1 s.2.1 s.2.2.1 s.2.2.2.1 s.2.2.2.2.1 s.2.2.2.2.2.1 s.2.2.2.2.2.2.1 s.2.2.2.2.2.2.2.1 s.2.2.2.2.2.2.2.2.1 s.2.2.2.2.2.2.2.2.2.1 s.2.2.2.2.2.2.2.2.2.2.1 s.2.2.2.2.2.2.2.2.2.2.2.1 s.2.2.2.2.2.2.2.2.2.2.2.2) (fun s => μ s.1 s.2.1 s.2.2.1 s.2.2.2.1 s.2.2.2.2.1 s.2.2.2.2.2.1 s.2.2.2.2.2.2.1 s.2.2.2.2.2.2.2.1 s.2.2.2.2.2.2.2.2.1 s.2.2.2.2.2.2.2.2.2.1 s.2.2.2.2.2.2.2.2.2.2.1 s.2.2.2.2.2.2.2.2.2.2.2.1 s.2.2.2.2.2.2.2.2.2.2.2.2) (fun n s hI hk => hs n s.1 s.2.1 s.2.2.1 s.2.2.2.1 s.2.2.2.2.1 s.2.2.2.2.2.1 s.2.2.2.2.2.2.1 s.2.2.2.2.2.2.2.1 s.2.2.2.2.2.2.2.2.1 s.2.2.2.2.2.2.2.2.2.1 s.2.2.2.2.2.2.2.2.2.2.1 s.2.2.2.2.2.2.2.2.2.2.2.1 s.2.2.2.2.2.2.2.2.2.2.2.2 hI (fun b1 b2 b3 b4 b5 b6 b7 b8 b9 b10 b11 b12 b13 h9 hm => hk (b1, b2, b3, b4, b5, b6, b7, b8, b9, b10, b11, b12, b13) h9 hm)) (a1, a2, a3, a4, a5, a6, a7, a8, a9, a10, a11, a12, a13) h
theorem lp14 {A1 A2 A3 A4 A5 A6 A7 A8 A9 A10 A11 A12 A13 A14 : Type} (W : Nat → A1 → A2 → A3 → A4 → A5 → A6 → A7 → A8 → A9 → A10 → A11 → A12 → A13 → A14 → Prop) (I : A1 → A2 → A3 → A4 → A5 → A6 → A7 → A8 → A9 → A10 → A11 → A12 → A13 → A14 → Prop) (μ : A1 → A2 → A3 → A4 → A5 → A6 → A7 → A8 → A9 → A10 → A11 → A12 → A13 → A14 → Nat) (hs : ∀ (n : Nat) (a1 : A1) (a2 : A2) (a3 : A3) (a4 : A4) (a5 : A5) (a6 : A6) (a7 : A7) (a8 : A8) (a9 : A9) (a10 : A10) (a11 : A11) (a12 : A12) (a13 : A13) (a14 : A14), I a1 a2 a3 a4 a5 a6 a7 a8 a9 a10 a11 a12 a13 a14 → (∀ (b1 : A1) (b2 : A2) (b3 : A3) (b4 : A4) (b5 : A5) (b6 : A6) (b7 : A7) (b8 : A8) (b9 : A9) (b10 : A10) (b11 : A11) (b12 : A12) (b13 : A13) (b14 : A14), I b1 b2 b3 b4 b5 b6 b7 b8 b9 b10 b11 b12 b13 b14 → μ b1 b2 b3 b4 b5 b6 b7 b8 b9 b10 b11 b12 b13 b14 < μ a1 a2 a3 a4 a5 a6 a7 a8 a9 a10 a11 a12 a13 a14 → W n b1 b2 b3 b4 b5 b6 b7 b8 b9 b10 b11 b12 b13 b14) → W (n + 1) a1 a2 a3 a4 a5 a6 a7 a8 a9 a10 a11 a12 a13 a14) (a1 : A1) (a2 : A2) (a3 : A3) (a4 : A4) (a5 : A5) (a6 : A6) (a7 : A7) (a8 : A8) (a9 : A9) (a10 : A10) (a11 : A11) (a12 : A12) (a13 : A13) (a14 : A14) (h : I a1 a2 a3 a4 a5 a6 a7 a8 a9 a10 a11 a12 a13 a14) : ∃ n, W n a1 a2 a3 a4 a5 a6 a7 a8 a9 a10 a11 a12 a13 a14 :=
  loop_m (σ := A1 × A2 × A3 × A4 × A5 × A6 × A7 × A8 × A9 × A10 × A11 × A12 × A13 × A14) (fun n s => W n s.1 s.2.1 s.2.2.1 s.2.2.2.1 s.2.2.2.2.1 s.2.2.2.2.2.1 s.2.2.2.2.2.2.1 s.2.2.2.2.2.2.2.1 s.2.2.2.2.2.2.2.2.1 s.2.2.2.2.2.2.2.2.2.1 s.2.2.2.2.2.2.2.2.2.2.1 s.2.2.2.2.2.2.2.2.2.2.2.1 s.2.2.2.2.2.2.2.2.2.2.2.2.1 s.2.2.2.2.2.2.2.2.2.2.2.2.2) (fun s => I s.1 s.2.1 s.2.2.1 s.2.2.2.1 s.2.2.2.2.1 s.2.2.2.2.2.1 s.2.2.2.2.2.2.1 s.2.2.2.2.2.2.2.1 s.2.2.2.2.2.2.2.2.1 s.2.2.2.2.2.2.2.2.2.1 s.2.2.2.2.2.2.2.2.2.2.1 s.2.2.2.2.2.2.2.2.2.2.2.1 s.2.2.2.2.2.2.2.2.2.2.2.2.1 s.2.2.2.2.2.2.2.2.2.2.2.2.2) (fun s => μ s.1 s.2.1 s.2.2.1 s.2.2.2.1 s.2.2.2.2.1 s.2.2.2.2.2.1 s.2.2.2.2.2.2.1 s.2.2.2.2.2.2.2.1 s.2.2.2.2.2.2.2.2.1 s.2.2.2.2.2.2.2.2.2.1 s.2.2.2.2.2.2.2.2.2.2.1 s.2.2.2.2.2.2.2.2.2.2.2.1 s.2.2.2.2.2.2.2.2.2.2.2.2.1 s.2.2.2.2.2.2.2.2.2.2.2.2.2) (fun n s hI hk => hs n s.1 s.2.1 s.2.2.1 s.2.2.2.1 s.2.2.2.2.1 s.2.2.2.2.2.1 s.2.2.2.2.2.2.1 s.2.2.2.2.2.2.2.1 s.2.2.2.2.2.2.2.2.1 s.2.2.2.2.2.2.2.2.2.1 s.2.2.2.2.2.2.2.2.2.2.1 s.2.2.2.2.2.2.2.2.2.2.2.1 s.2.2.2.2.2.2.2.2.2.2.2.2.1 s.2.2.2.2.2.2.2.2.2.2.2.2.2 hI (fun b1 b2 b3 b4 b5 b6 b7 b8 b9 b10 b11 b12 b13 b14 h9 hm => hk (b1, b2, b3, b4, b5, b6, b7, b8, b9, b10, b11, b12, b13, b14) h9 hm)) (a1, a2, a3, a4, a5, a6, a7, a8, a9, a10, a11, a12, a13, a14) h
theorem lp15 {A1 A2 A3 A4 A5 A6 A7 A8 A9 A10 A11 A12 A13 A14 A15 : Type} (W : Nat → A1 → A2 → A3 → A4 → A5 → A6 → A7 → A8 → A9 → A10 → A11 → A12 → A13 → A14 → A15 → Prop) (I : A1 → A2 → A3 → A4 → A5 → A6 → A7 → A8 → A9 → A10 → A11 → A12 → A13 → A14 → A15 → Prop) (μ : A1 → A2 → A3 → A4 → A5 → A6 → A7 → A8 → A9 → A10 → A11 → A12 → A13 → A14 → A15 → Nat) (hs : ∀ (n : Nat) (a1 : A1) (a2 : A2) (a3 : A3) (a4 : A4) (a5 : A5) (a6 : A6) (a7 : A7) (a8 : A8) (a9 : A9) (a10 : A10) (a11 : A11) (a12 : A12) (a13 : A13) (a14 : A14) (a15 : A15), I a1 a2 a3 a4 a5 a6 a7 a8 a9 a10 a11 a12 a13 a14 a15 → (∀ (b1 : A1) (b2 : A2) (b3 : A3) (b4 : A4) (b5 : A5) (b6 : A6) (b7 : A7) (b8 : A8) (b9 : A9) (b10 : A10) (b11 : A11) (b12 : A12) (b13 : A13) (b14 : A14) (b15 : A15), I b1 b2 b3 b4 b5 b6 b7 b8 b9 b10 b11 b12 b13 b14 b15 → μ b1 b2 b3 b4 b5 b6 b7 b8 b9 b10 b11 b12 b13 b14 b15 < μ a1 a2 a3 a4 a5 a6 a7 a8 a9 a10 a11 a12 a13 a14 a15 → W n b1 b2 b3 b4 b5 b6 b7 b8 b9 b10 b11 b12 b13 b14 b15) → W (n + 1) a1 a2 a3 a4 a5 a6 a7 a8 a9 a10 a11 a12 a13 a14 a15) (a1 : A1) (a2 : A2) (a3 : A3) (a4 : A4) (a5 : A5) (a6 : A6) (a7 : A7) (a8 : A8) (a9 : A9) (a10 : A10) (a11 : A11) (a12 : A12) (a13 : A13) (a14 : A14) (a15 : A15) (h : I a1 a2 a3 a4 a5 a6 a7 a8 a9 a10 a11 a12 a13 a14 a15) : ∃ n, W n a1 a2 a3 a4 a5 a6 a7 a8 a9 a10 a11 a12 a13 a14 a15 :=
  loop_m (σ := A1 × A2 × A3 × A4 × A5 × A6 × A7 × A8 × A9 × A10 × A11 × A12 × A13 × A14 × A15) (fun n s => W n s.1 s.2.1 s.2.2.1 s.2.2.2.1 s.2.2.2.2.1 s.2.2.2.2.2.1 s.2.2.2.2.2.2.1 s.2.2.2.2.2.2.2.1 s.2.2.2.2.2.2.2.2.1 s.2.2.2.2.2.2.2.2.2.1 s.2.2.2.2.2.2.2.2.2.2.1 s.2.2.2.2.2.2.2.2.2.2.2.1 s.2.2.2.2.2.2.2.2.2.2.2.2.1 s.2.2.2.2.2.2.2.2.2.2.2.2.2.1 s.2.2.2.2.2.2.2.2.2.2.2.2.2.2) (fun s => I s.1 s.2.1 s.2.2.1 s.2.2.2.1 s.2.2.2.2.1 s.2.2.2.2.2.1 s.2.2.2.2.2.2.1 s.2.2.2.2.2.2.2.1 s.2.2.2.2.2.2.2.2.1 s.2.2.2.2.2.2.2.2.2.1 s.2.2.2.2.2.2.2.2.2.2.1 s.2.2.2.2.2.2.2.2.2.2.2.1 s.2.2.2.2.2.2.2.2.2.2.2.2.1 s.2.2.2.2.2.2.2.2.2.2.2.2.2.1 s.2.2.2.2.2.2.2.2.2.2.2.2.2.2) (fun s => μ s.1 s.2.1 s.2.2.1 s.2.2.2.1 s.2.2.2.2.1 s.2.2.2.2.2.1 s.2.2.2.2.2.2.1 s.2.2.2.2.2.2.2.1 s.2.2.2.2.2.2.2.2.1 s.2.2.2.2.2.2.2.2.2.1 s.2.2.2.2.2.2.2.2.2.2.1 s.2.2.2.2.2.2.2.2.2.2.2.1 s.2.2.2.2.2.2.2.2.2.2.2.2.1 s.2.2.2.2.2.2.2.2.2.2.2.2.2.1 s.2.2.2.2.2.2.2.2.2.2.2.2.2.2) (fun n s hI hk => hs n s.1 s.2.1 s.2.2.1 s.2.2.2.1 s.2.2.2.2.1 s.2.2.2.2.2.1 s.2.2.2.2.2.2.1 s.2.2.2.2.2.2.2.1 s.2.2.2.2.2.2.2.2.1 s.2.2.2.2.2.2.2.2.2.1 s.2.2.2.2.2.2.2.2.2.2.1 s.2.2.2.2.2.2.2.2.2.2.2.1 s.2.2.2.2.2.2.2.2.2.2.2.2.1 s.2.2.2.2.2.2.2.2.2.2.2.2.2.1 s.2.2.2.2.2.2.2.2.2.2.2.2.2.2 hI (fun b1 b2 b3 b4 b5 b6 b7 b8 b9 b10 b11 b12 b13 b14 b15 h9 hm => hk (b1, b2, b3, b4, b5, b6, b7, b8, b9, b10, b11, b12, b13, b14, b15) h9 hm)) (a1, a2, a3, a4, a5, a6, a7, a8, a9, a10, a11, a12, a13, a14, a15) h
theorem lp16 {A1 A2 A3 A4 A5 A6 A7 A8 A9 A10 A11 A12 A13 A14 A15 A16 : Type} (W : Nat → A1 → A2 → A3 → A4 → A5 → A6 → A7 → A8 → A9 → A10 → A11 → A12 → A13 → A14 → A15 → A16 → Prop) (I : A1 → A2 → A3 → A4 → A5 → A6 → A7 → A8 → A9 → A10 → A11 → A12 → A13 → A14 → A15 → A16 → Prop) (μ : A1 → A2 → A3 → A4 → A5 → A6 → A7 → A8 → A9 → A10 → A11 → A12 → A13 → A14 → A15 → A16 → Nat) (hs : ∀ (n : Nat) (a1 : A1) (a2 : A2) (a3 : A3) (a4 : A4) (a5 : A5) (a6 : A6) (a7 : A7) (a8 : A8) (a9 : A9) (a10 : A10) (a11 : A11) (a12 : A12) (a13 : A13) (a14 : A14) (a15 : A15) (a16 : A16), I a1 a2 a3 a4 a5 a6 a7 a8 a9 a10 a11 a12 a13 a14 a15 a16 → (∀ (b1 : A1) (b2 : A2) (b3 : A3) (b4 : A4) (b5 : A5) (b6 : A6) (b7 : A7) (b8 : A8) (b9 : A9) (b10 : A10) (b11 : A11) (b12 : A12) (b13 : A13) (b14 : A14) (b15 : A15) (b16 : A16), I b1 b2 b3 b4 b5 b6 b7 b8 b9 b10 b11 b12 b13 b14 b15 b16 → μ b1 b2 b3 b4 b5 b6 b7 b8 b9 b10 b11 b12 b13 b14 b15 b16 < μ a1 a2 a3 a4 a5 a6 a7 a8 a9 a10 a11 a12 a13 a14 a15 a16 → W n b1 b2 b3 b4 b5 b6 b7 b8 b9 b10 b11 b12 b13 b14 b15 b16) → W (n + 1) a1 a2 a3 a4 a5 a6 a7 a8 a9 a10 a11 a12 a13 a14 a15 a16) (a1 : A1) (a2 : A2) (a3 : A3) (a4 : A4) (a5 : A5) (a6 : A6) (a7 : A7) (a8 : A8) (a9 : A9) (a10 : A10) (a11 : A11) (a12 : A12) (a13 : A13) (a14 : A14) (a15 : A15) (a16 : A16) (h : I a1 a2 a3 a4 a5 a6 a7 a8 a9 a10 a11 a12 a13 a14 a15 a16) : ∃ n, W n a1 a2 a3 a4 a5 a6 a7 a8 a9 a10 a11 a12 a13 a14 a15 a16 :=
  loop_m (σ := A1 × A2 × A3 × A4 × A5 × A6 × A7 × A8 × A9 × A10 × A11 × A12 × A13 × A14 × A15 × A16) (fun n s => W n s.1 s.2.1 s.2.2.1 s.2.2.2.1 s.2.2.2.2.1 s.2.2.2.2.2.1 s.2.2.2.2.2.2.1 s.2.2.2.2.2.2.2.1 s.2.2.2.2.2.2.2.2.1 s.2.2.2.2.2.2.2.2.2.1 s.2.2.2.2.2.2.2.2.2.2.1 s.2.2.2.2.2.2.2.2.2.2.2.1 s.2.2.2.2.2.2.2.2.2.2.2.2.1 s.2.2.2.2.2.2.2.2.2.2.2.2.2.1 s.2.2.2.2.2.2.2.2.2.2.2.2.2.2.1 s.2.2.2.2.2.2.2.2.2.2.2.2.2.2.2) (fun s => I s.1 s.2.1 s.2.2.1 s.2.2.2.1 s.2.2.2.2.1 s.2.2.2.2.2.1 s.2.2.2.2.2.2.1 s.2.2.2.2.2.2.2.1 s.2.2.2.2.2.2.2.2.1 s.2.2.2.2.2.2.2.2.2.1 s.2.2.2.2.2.2.2.2.2.2.1 s.2.2.2.2.2.2.2.2.2.2.2.1 s.2.2.2.2.2.2.2.2.2.2.2.2.1 s.2.2.2.2.2.2.2.2.2.2.2.2.2.1 s.2.2.2.2.2.2.2.2.2.2.2.2.2.2.1 s.2.2.2.2.2.2.2.2.2.2.2.2.2.2.2) (fun s => μ s.1 s.2.1 s.2.2.1 s.2.2.2.1 s.2.2.2.2.1 s.2.2.2.2.2.1 s.2.2.2.2.2.2.1 s.2.2.2.2.2.2.2.1 s.2.2.2.2.2.2.2.2.1 s.2.2.2.2.2.2.2.2.2.1 s.2.2.2.2.2.2.2.2.2.2.1 s.2.2.2.2.2.2.2.2.2.2.2.1 s.2.2.2.2.2.2.2.2.2.2.2.2.1 s.2.2.2.2.2.2.2.2.2.2.2.2.2.1 s.2.2.2.2.2.2.2.2.2.2.2.2.2.2.1 s.2.2.2.2.2.2.2.2.2.2.2.2.2.2.2) (fun n s hI hk => hs n s.1 s.2.1 s.2.2.1 s.2.2.2.1 s.2.2.2.2.1 s.2.2.2.2.2.1 s.2.2.2.2.2.2.1 s.2.2.2.2.2.2.2.1 s.2.2.2.2.2.2.2.2.1 s.2.2.2.2.2.2.2.2.2.1 s.2.2.2.2.2.2.2.2.2.2.1 s.2.2.2.2.2.2.2.2.2.2.2.1 s.2.2.2.2.2.2.2.2.2.2.2.2.1 s.2.2.2.2.2.2.2.2.2.2.2.2.2.1 s.2.2.2.2.2.2.2.2.2.2.2.2.2.2.1 s.2.2.2.2.2.2.2.2.2.2.2.2.2.2.2 hI (fun b1 b2 b3 b4 b5 b6 b7 b8 b9 b10 b11 b12 b13 b14 b15 b16 h9 hm => hk (b1, b2, b3, b4, b5, b6, b7, b8, b9, b10, b11, b12, b13, b14, b15, b16) h9 hm)) (a1, a2, a3, a4, a5, a6, a7, a8, a9, a10, a11, a12, a13, a14, a15, a16) h
theorem pk_least (P : Nat → Prop) (h : ∃ k, P k) : ∃ k, P k ∧ ∀ j, j < k → ¬ P j := by
  obtain ⟨k, hk⟩ := h
  induction k using Nat.strongRecOn with
  | ind k ih =>
    by_cases e : ∃ j, j < k ∧ P j
    · obtain ⟨j, hj, pj⟩ := e
      exact ih j hj pj
    · exact ⟨k, hk, fun j hj pj => e ⟨j, hj, pj⟩⟩
theorem rp1 {ρ A1 : Type} (W : Nat → (ρ → Prop) → A1 → Prop) (ok : A1 → Prop) (μ : A1 → Nat) (val : A1 → ρ)
    (hs : ∀ (d : Nat) (post : ρ → Prop) (a1 : A1), ok a1 → post (val a1) → (∀ (post' : ρ → Prop) (b1 : A1), ok b1 → μ b1 < μ a1 → post' (val b1) → W d post' b1) → W (d + 1) post a1) :
    ∀ (d : Nat) (post : ρ → Prop) (a1 : A1), ok a1 → μ a1 < d → post (val a1) → W d post a1 := by
  intro d
  induction d with
  | zero => intro post a1 _ h; omega
  | succ d ih =>
    intro post a1 ho hm hp
    exact hs d post a1 ho hp (fun post' b1 ho' hm' hp' => ih post' b1 ho' (by omega) hp')
theorem rp2 {ρ A1 A2 : Type} (W : Nat → (ρ → Prop) → A1 → A2 → Prop) (ok : A1 → A2 → Prop) (μ : A1 → A2 → Nat) (val : A1 → A2 → ρ)
    (hs : ∀ (d : Nat) (post : ρ → Prop) (a1 : A1) (a2 : A2), ok a1 a2 → post (val a1 a2) → (∀ (post' : ρ → Prop) (b1 : A1) (b2 : A2), ok b1 b2 → μ b1 b2 < μ a1 a2 → post' (val b1 b2) → W d post' b1 b2) → W (d + 1) post a1 a2) :
    ∀ (d : Nat) (post : ρ → Prop) (a1 : A1) (a2 : A2), ok a1 a2 → μ a1 a2 < d → post (val a1 a2) → W d post a1 a2 := by
  intro d
  induction d with
  | zero => intro post a1 a2 _ h; omega
  | succ d ih =>
    intro post a1 a2 ho hm hp
    exact hs d post a1 a2 ho hp (fun post' b1 b2 ho' hm' hp' => ih post' b1 b2 ho' (by omega) hp')
theorem rp3 {ρ A1 A2 A3 : Type} (W : Nat → (ρ → Prop) → A1 → A2 → A3 → Prop) (ok : A1 → A2 → A3 → Prop) (μ : A1 → A2 → A3 → Nat) (val : A1 → A2 → A3 → ρ)
    (hs : ∀ (d : Nat) (post : ρ → Prop) (a1 : A1) (a2 : A2) (a3 : A3), ok a1 a2 a3 → post (val a1 a2 a3) → (∀ (post' : ρ → Prop) (b1 : A1) (b2 : A2) (b3 : A3), ok b1 b2 b3 → μ b1 b2 b3 < μ a1 a2 a3 → post' (val b1 b2 b3) → W d post' b1 b2 b3) → W (d + 1) post a1 a2 a3) :
    ∀ (d : Nat) (post : ρ → Prop) (a1 : A1) (a2 : A2) (a3 : A3), ok a1 a2 a3 → μ a1 a2 a3 < d → post (val a1 a2 a3) → W d post a1 a2 a3 := by
  intro d
  induction d with
  | zero => intro post a1 a2 a3 _ h; omega
  | succ d ih =>
    intro post a1 a2 a3 ho hm hp
    exact hs d post a1 a2 a3 ho hp (fun post' b1 b2 b3 ho' hm' hp' => ih post' b1 b2 b3 ho' (by omega) hp')
theorem rp4 {ρ A1 A2 A3 A4 : Type} (W : Nat → (ρ → Prop) → A1 → A2 → A3 → A4 → Prop) (ok : A1 → A2 → A3 → A4 → Prop) (μ : A1 → A2 → A3 → A4 → Nat) (val : A1 → A2 → A3 → A4 → ρ)
    (hs : ∀ (d : Nat) (post : ρ → Prop) (a1 : A1) (a2 : A2) (a3 : A3) (a4 : A4), ok a1 a2 a3 a4 → post (val a1 a2 a3 a4) → (∀ (post' : ρ → Prop) (b1 : A1) (b2 : A2) (b3 : A3) (b4 : A4), ok b1 b2 b3 b4 → μ b1 b2 b3 b4 < μ a1 a2 a3 a4 → post' (val b1 b2 b3 b4) → W d post' b1 b2 b3 b4) → W (d + 1) post a1 a2 a3 a4) :
    ∀ (d : Nat) (post : ρ → Prop) (a1 : A1) (a2 : A2) (a3 : A3) (a4 : A4), ok a1 a2 a3 a4 → μ a1 a2 a3 a4 < d → post (val a1 a2 a3 a4) → W d post a1 a2 a3 a4 := by
  intro d
  induction d with
  | zero => intro post a1 a2 a3 a4 _ h; omega
  | succ d ih =>
    intro post a1 a2 a3 a4 ho hm hp
    exact hs d post a1 a2 a3 a4 ho hp (fun post' b1 b2 b3 b4 ho' hm' hp' => ih post' b1 b2 b3 b4 ho' (by omega) hp')
theorem rp5 {ρ A1 A2 A3 A4 A5 : Type} (W : Nat → (ρ → Prop) → A1 → A2 → A3 → A4 → A5 → Prop) (ok : A1 → A2 → A3 → A4 → A5 → Prop) (μ : A1 → A2 → A3 → A4 → A5 → Nat) (val : A1 → A2 → A3 → A4 → A5 → ρ)
    (hs : ∀ (d : Nat) (post : ρ → Prop) (a1 : A1) (a2 : A2) (a3 : A3) (a4 : A4) (a5 : A5), ok a1 a2 a3 a4 a5 → post (val a1 a2 a3 a4 a5) → (∀ (post' : ρ → Prop) (b1 : A1) (b2 : A2) (b3 : A3) (b4 : A4) (b5 : A5), ok b1 b2 b3 b4 b5 → μ b1 b2 b3 b4 b5 < μ a1 a2 a3 a4 a5 → post' (val b1 b2 b3 b4 b5) → W d post' b1 b2 b3 b4 b5) → W (d + 1) post a1 a2 a3 a4 a5) :
    ∀ (d : Nat) (post : ρ → Prop) (a1 : A1) (a2 : A2) (a3 : A3) (a4 : A4) (a5 : A5), ok a1 a2 a3 a4 a5 → μ a1 a2 a3 a4 a5 < d → post (val a1 a2 a3 a4 a5) → W d post a1 a2 a3 a4 a5 := by
  intro d
  induction d with
  | zero => intro post a1 a2 a3 a4 a5 _ h; omega
  | succ d ih =>
    intro post a1 a2 a3 a4 a5 ho hm hp
    exact hs d post a1 a2 a3 a4 a5 ho hp (fun post' b1 b2 b3 b4 b5 ho' hm' hp' => ih post' b1 b2 b3 b4 b5 ho' (by omega) hp')
theorem rp6 {ρ A1 A2 A3 A4 A5 A6 : Type} (W : Nat → (ρ → Prop) → A1 → A2 → A3 → A4 → A5 → A6 → Prop) (ok : A1 → A2 → A3 → A4 → A5 → A6 → Prop) (μ : A1 → A2 → A3 → A4 → A5 → A6 → Nat) (val : A1 → A2 → A3 → A4 → A5 → A6 → ρ)
    (hs : ∀ (d : Nat) (post : ρ → Prop) (a1 : A1) (a2 : A2) (a3 : A3) (a4 : A4) (a5 : A5) (a6 : A6), ok a1 a2 a3 a4 a5 a6 → post (val a1 a2 a3 a4 a5 a6) → (∀ (post' : ρ → Prop) (b1 : A1) (b2 : A2) (b3 : A3) (b4 : A4) (b5 : A5) (b6 : A6), ok b1 b2 b3 b4 b5 b6 → μ b1 b2 b3 b4 b5 b6 < μ a1 a2 a3 a4 a5 a6 → post' (val b1 b2 b3 b4 b5 b6) → W d post' b1 b2 b3 b4 b5 b6) → W (d + 1) post a1 a2 a3 a4 a5 a6) :
    ∀ (d : Nat) (post : ρ → Prop) (a1 : A1) (a2 : A2) (a3 : A3) (a4 : A4) (a5 : A5) (a6 : A6), ok a1 a2 a3 a4 a5 a6 → μ a1 a2 a3 a4 a5 a6 < d → post (val a1 a2 a3 a4 a5 a6) → W d post a1 a2 a3 a4 a5 a6 := by
  intro d
  induction d with
  | zero => intro post a1 a2 a3 a4 a5 a6 _ h; omega
  | succ d ih =>
    intro post a1 a2 a3 a4 a5 a6 ho hm hp
    exact hs d post a1 a2 a3 a4 a5 a6 ho hp (fun post' b1 b2 b3 b4 b5 b6 ho' hm' hp' => ih post' b1 b2 b3 b4 b5 b6 ho' (by omega) hp')
theorem rec_p {σ ρ : Type} (W : Nat → (ρ → Prop) → σ → Prop) (ok : σ → Prop) (μ : σ → Nat) (val : σ → ρ)
    (hs : ∀ d s post, ok s → post (val s) → (∀ s' post', ok s' → μ s' < μ s → post' (val s') → W d post' s') → W (d + 1) post s) :
    ∀ d s post, ok s → μ s < d → post (val s) → W d post s := by
  intro d
  induction d with
  | zero => intro s post _ h; omega
  | succ d ih =>
    intro s post ho hm hp
    exact hs d s post ho hp (fun s' post' ho' hm' hp' => ih s' post' ho' (by omega) hp')
theorem rec_q {σ ρ : Type} (W : Nat → (ρ → Prop) → σ → Prop) (ok : σ → Prop) (μ : σ → Nat) (Q : σ → ρ → Prop)
    (hs : ∀ d s post, ok s → (∀ r, Q s r → post r) → (∀ s' post', ok s' → μ s' < μ s → (∀ r, Q s' r → post' r) → W d post' s') → W (d + 1) post s) :
    ∀ d s post, ok s → μ s < d → (∀ r, Q s r → post r) → W d post s := by
  intro d
  induction d with
  | zero => intro s post _ h; omega
  | succ d ih =>
    intro s post ho hm hp
    exact hs d s post ho hp (fun s' post' ho' hm' hp' => ih s' post' ho' (by omega) hp')
def bx_sum (f : Nat → Int32) : Nat → Int32
  | 0 => 0
  | n + 1 => bx_sum f n + f n
theorem ek_u {A : Prop} {B : Nat → Prop} {k N : Nat} (hk : k < N) (h : B k) : (some k = none → A) ∧ (∀ y : Nat, some k = some y → (y < N ∧ B y)) :=
  ⟨fun z => absurd z (Option.some_ne_none k), fun _ e => (by cases e; exact ⟨hk, h⟩)⟩
theorem ek_nu {A : Prop} {B : Nat → Prop} (h : A) : ((none : Option Nat) = none → A) ∧ (∀ y : Nat, (none : Option Nat) = some y → B y) :=
  ⟨fun _ => h, fun _ e => (by cases e)⟩
theorem ek_if {c d A B : Prop} (e : c ↔ d) (f : d → A) (g : ¬ d → B) : (c → A) ∧ (¬ c → B) :=
  ⟨fun z => f (e.mp z), fun z => g (fun y => z (e.mpr y))⟩
theorem ek_v {α : Sort _} {P : α → Prop} {a b : α} (e : a = b) (h : P b) : P a := e ▸ h
theorem co_some {x : Option Nat} {A : Prop} {B : Nat → Prop} (i : Nat) (h : B i) (hx : x = some i := by rfl) : (x = none → A) ∧ (∀ y : Nat, x = some y → B y) := by
  subst hx
  exact ⟨fun e => (nomatch e), fun y e => Option.some.inj e ▸ h⟩
theorem co_none {x : Option Nat} {A : Prop} {B : Nat → Prop} (h : A) (hx : x = none := by rfl) : (x = none → A) ∧ (∀ y : Nat, x = some y → B y) := by
  subst hx
  exact ⟨fun _ => h, fun y e => (nomatch e)⟩
theorem co_any {x : Option Nat} {A : Prop} {B : Nat → Prop} (hn : x = none → A) (hs : ∀ i : Nat, x = some i → B i) : (x = none → A) ∧ (∀ y : Nat, x = some y → B y) := ⟨hn, hs⟩
theorem co_2 {P : Nat → Prop} (h0 : P 0) (h1 : P 1) {i : Nat} (hi : i < 2) : P i :=
  match i, hi with
  | 0, _ => h0
  | 1, _ => h1
theorem co_3 {P : Nat → Prop} (h0 : P 0) (h1 : P 1) (h2 : P 2) {i : Nat} (hi : i < 3) : P i :=
  match i, hi with
  | 0, _ => h0
  | 1, _ => h1
  | 2, _ => h2
theorem co_4 {P : Nat → Prop} (h0 : P 0) (h1 : P 1) (h2 : P 2) (h3 : P 3) {i : Nat} (hi : i < 4) : P i :=
  match i, hi with
  | 0, _ => h0
  | 1, _ => h1
  | 2, _ => h2
  | 3, _ => h3
theorem co_dec {N : Nat} {P : Nat → Prop} [DecidablePred P] (h : (List.range N).all (fun i => decide (P i)) = true) {i : Nat} (hi : i < N) : P i := by
  have := List.all_eq_true.mp h i (List.mem_range.mpr hi)
  exact of_decide_eq_true this
theorem co_tab {α : Type} {l : List α} {d : α} {P : α → Prop} (h : ∀ a, a ∈ l → P a) {i : Nat} (hi : i < l.length) : P (l.getD i d) := by
  rw [List.getD_eq_getElem?_getD, List.getElem?_eq_getElem hi]
  exact h _ (List.getElem_mem hi)
theorem pk_mu {x : Int32} {L : Nat} (h0 : ¬ x < 0) (h : ¬ nI L ≤ x) (hL : L < 2 ^ 31) : ∃ j : Nat, j < L ∧ x = nI j ∧ x + 1 = nI (j + 1) ∧ x.toNatClampNeg = j ∧ L - (x + 1).toNatClampNeg < L - x.toNatClampNeg := by
  obtain ⟨j, hj, rfl⟩ := nI_of h0
  have hl : j < L := Nat.not_le.mp fun q => h (nI_le q hj)
  refine ⟨j, hl, rfl, nI_1 j, nI_clamp hj, ?_⟩
  rw [nI_1, nI_clamp (by omega), nI_clamp hj]
  omega
theorem op_s {α : Type} {r : Option α} {A : Prop} {B : α → Prop} {y : α} (h : r = some y) (b : B y) : (r = none → A) ∧ ∀ z, r = some z → B z :=
  ⟨fun e => (by rw [h] at e; cases e), fun z e => (by rw [h] at e; cases e; exact b)⟩
def l_holds {α : Type} (a : Nat → Option Nat) (LP : List Nat) (p : Nat → α) (c : Nat) (b : Nat → α) : Prop :=
  ∀ j, j < c → ∃ y, a j = some y ∧ y ∈ LP ∧ p y = b j
theorem l_holds_0 {α : Type} {a : Nat → Option Nat} {LP : List Nat} {p b : Nat → α} : l_holds a LP p 0 b := fun j h => absurd h (Nat.not_lt_zero j)
theorem l_in_new (LP : List Nat) (q : Nat) : q ∈ LP ++ [q] := List.mem_append.mpr (Or.inr (List.mem_singleton.mpr rfl))
def l_sum (b : Nat → Int32) : Nat → Int32
  | 0 => 0
  | k + 1 => l_sum b k + b k
theorem sb_shr0 (x : Int32) : x >>> ((0 : Int32) &&& 31) = x := by
  rw [show ((0 : Int32) &&& 31) = 0 by decide]
  simp
theorem sb_shl0 (x : Int32) : x <<< ((0 : Int32) &&& 31) = x := by
  rw [show ((0 : Int32) &&& 31) = 0 by decide]
  simp
theorem sb_cl0 : (0 : Int32).toNatClampNeg = 0 := by decide
theorem sb_m1 {p : Nat} (h : 0 < p) : nI p + (-1) = nI (p - 1) := by
  obtain ⟨q, rfl⟩ : ∃ q, p = q + 1 := ⟨p - 1, by omega⟩
  exact pk_m1 q
def sb_b (c : Nat) : Int32 := (nI c).toInt8.toInt32
theorem sb_byte : ∀ c, c < 256 → sb_b c &&& 255 = nI c ∧ ((nI c).toUInt32 % 65536).toInt32 = nI c ∧ nI c ≤ 255 := by decide +kernel
def sb_Fit (a : Nat → Int32) : Prop := ∀ j, fits .byte (.int (a j)) = true
def sb_Lat (t : Nat → Nat) (n : Nat) (a : Nat → Int32) : Prop := ∀ j, j < n → t j < 256 ∧ a j = sb_b (t j)
theorem sb_fitB (c : Nat) : fits .byte (.int (sb_b c)) = true := pk_fb _
theorem sb_fit0 : sb_Fit (fun _ => 0) := fun _ => by
  show fits .byte (.int 0) = true
  decide
theorem sb_fitU {a : Nat → Int32} {k : Nat} {x : Int32} (h : sb_Fit a) (hx : fits .byte (.int x) = true) : sb_Fit (upd a k x) := by
  intro j
  by_cases e : j = k
  · subst e
    rw [pk_us]
    exact hx
  · rw [pk_un e]
    exact h j
def sb_cat (t : Nat → Nat) (n : Nat) (s : Nat → Nat) : Nat → Nat := fun j => if j < n then t j else s (j - n)
theorem sb_cat_lo {t s : Nat → Nat} {n j : Nat} (h : j < n) : sb_cat t n s j = t j := if_pos h
theorem sb_cat_hi {t s : Nat → Nat} {n j : Nat} : sb_cat t n s (n + j) = s j := by
  show (if n + j < n then t (n + j) else s (n + j - n)) = s j
  rw [if_neg (by omega), Nat.add_sub_cancel_left]
theorem sb_latPut {t s : Nat → Nat} {n w : Nat} {a a' : Nat → Int32} (h : sb_Lat t n a) (hk : ∀ j, j < n → a' j = a j) (hs : ∀ i, i < w → s i < 256 ∧ a' (n + i) = sb_b (s i)) : sb_Lat (sb_cat t n s) (n + w) a' := by
  intro j hj
  by_cases e : j < n
  · rw [sb_cat_lo e, hk j e]
    exact h j e
  · obtain ⟨i, rfl⟩ : ∃ i, j = n + i := ⟨j - n, by omega⟩
    rw [sb_cat_hi]
    exact hs i (by omega)
theorem sb_latKeep {t : Nat → Nat} {n : Nat} {a a' : Nat → Int32} (h : sb_Lat t n a) (hk : ∀ j, j < n → a' j = a j) : sb_Lat t n a' := fun j hj => by
  rw [hk j hj]
  exact h j hj
def sb_cap (q m : Nat) : Nat := if q ≤ m then m else if 2 * m + 2 < q then q else 2 * m + 2
def sb_Room (q m mc ms : Nat) : Prop := q ≤ m ∨ (1 ≤ mc ∧ sb_cap q m ≤ ms ∧ sb_cap q m ≤ 65536)
theorem sb_cap_ge (q m : Nat) : q ≤ sb_cap q m := by
  unfold sb_cap
  split
  · omega
  · split <;> omega
theorem sb_cap_gem (q m : Nat) : m ≤ sb_cap q m := by
  unfold sb_cap
  split
  · omega
  · split <;> omega
theorem sb_cap_le {q m mc ms : Nat} (hm : m ≤ 65536) (hr : sb_Room q m mc ms) : sb_cap q m ≤ 65536 := by
  rcases hr with h | h
  · rw [sb_cap, if_pos h]
    exact hm
  · exact h.2.2
theorem sb_at {P : Int32 → Prop} {x y : Int32} (e : x = y) (h : P y) : P x := e ▸ h
def sb_dg (w : Nat) : Nat := if w < 10 then 1 else if w < 100 then 2 else if w < 1000 then 3 else if w < 10000 then 4 else if w < 100000 then 5 else if w < 1000000 then 6 else if w < 10000000 then 7 else if w < 100000000 then 8 else if w < 1000000000 then 9 else 10
def sb_dec (v : Nat) : Nat → Nat := fun i => 48 + v / 10 ^ (sb_dg v - 1 - i) % 10
theorem sb_dg_in (w : Nat) : 1 ≤ sb_dg w ∧ sb_dg w ≤ 10 := by
  unfold sb_dg
  constructor <;> (repeat' split) <;> omega
theorem sb_dg100 {w : Nat} (h : 100 ≤ w) (hw : w < 2 ^ 31) : sb_dg w = sb_dg (w / 100) + 2 := by
  rw [sb_dg, sb_dg, if_neg (show ¬ w < 10 by omega), if_neg (show ¬ w < 100 by omega)]
  by_cases h3 : w < 1000
  · rw [if_pos h3, if_pos (show w / 100 < 10 by omega)]
  rw [if_neg h3, if_neg (show ¬ w / 100 < 10 by omega)]
  by_cases h4 : w < 10000
  · rw [if_pos h4, if_pos (show w / 100 < 100 by omega)]
  rw [if_neg h4, if_neg (show ¬ w / 100 < 100 by omega)]
  by_cases h5 : w < 100000
  · rw [if_pos h5, if_pos (show w / 100 < 1000 by omega)]
  rw [if_neg h5, if_neg (show ¬ w / 100 < 1000 by omega)]
  by_cases h6 : w < 1000000
  · rw [if_pos h6, if_pos (show w / 100 < 10000 by omega)]
  rw [if_neg h6, if_neg (show ¬ w / 100 < 10000 by omega)]
  by_cases h7 : w < 10000000
  · rw [if_pos h7, if_pos (show w / 100 < 100000 by omega)]
  rw [if_neg h7, if_neg (show ¬ w / 100 < 100000 by omega)]
  by_cases h8 : w < 100000000
  · rw [if_pos h8, if_pos (show w / 100 < 1000000 by omega)]
  rw [if_neg h8, if_neg (show ¬ w / 100 < 1000000 by omega)]
  by_cases h9 : w < 1000000000
  · rw [if_pos h9, if_pos (show w / 100 < 10000000 by omega)]
  rw [if_neg h9, if_neg (show ¬ w / 100 < 10000000 by omega)]
  rw [if_pos (show w / 100 < 100000000 by omega)]
theorem sb_negT {w : Nat} (h : w < 2 ^ 31) : (-nI w).toInt = -(w : Int) := by
  rw [Int32.toInt_neg, nI_toInt h]
  exact Int.bmod_eq_of_le (by omega) (by omega)
theorem sb_nle {a b : Nat} (ha : a < 2 ^ 31) (hb : b < 2 ^ 31) : -nI a ≤ -nI b ↔ b ≤ a := by
  rw [Int32.le_iff_toInt_le, sb_negT ha, sb_negT hb]
  omega
theorem sb_nlt {a b : Nat} (ha : a < 2 ^ 31) (hb : b < 2 ^ 31) : -nI a < -nI b ↔ b < a := by
  rw [Int32.lt_iff_toInt_lt, sb_negT ha, sb_negT hb]
  omega
theorem sb_cmp {A B : Prop} {x : Int32} (v c : Nat) (f : c ≤ v → A) (g : v < c → B) (hv : v < 2 ^ 31) (hx : x = -nI c := by rfl) (hc : c < 2 ^ 31 := by omega) : (-nI v ≤ x → A) ∧ (¬ -nI v ≤ x → B) := by
  subst hx
  rw [sb_nle hv hc]
  exact ⟨f, fun z => g (by omega)⟩
theorem sb_ndiv {w : Nat} (hw : w < 2 ^ 31) : (-nI w) / 100 = -nI (w / 100) := by
  apply Int32.toInt_inj.mp
  have h100 : (100 : Int32).toInt = 100 := by decide
  rw [Int32.toInt_div, sb_negT hw, h100, sb_negT (by omega), Int.neg_tdiv, Int.tdiv_eq_ediv_of_nonneg (by omega), Int.bmod_eq_of_le (by omega) (by omega)]
  omega
theorem sb_nrem {w : Nat} (hw : w < 2 ^ 31) : (-nI (w / 100)) * 100 - (-nI w) = nI (w % 100) := by
  have h := pk_rem (a := w) (d := 100) hw (by decide) (by decide)
  rw [pk_div hw (by decide) (by decide)] at h
  rw [← h]
  show (-nI (w / 100)) * nI 100 - (-nI w) = nI w - nI (w / 100) * nI 100
  rw [Int32.neg_mul, Int32.sub_neg, Int32.add_comm, ← Int32.sub_eq_add_neg]
end
section
abbrev fr_FN : Type := Nat → Int32
abbrev fr_SR : Type := Nat × Bool × fr_FN × fr_FN × fr_FN × fr_FN × fr_FN × fr_FN × fr_FN × fr_FN × fr_FN × fr_FN × fr_FN × fr_FN × fr_FN × fr_FN × fr_FN × fr_FN × fr_FN × fr_FN × fr_FN
def fr_ru (S : fr_SR) : Nat := S.1
def fr_bd (S : fr_SR) : Bool := S.2.1
def fr_sa (S : fr_SR) : fr_FN := S.2.2.1
def fr_co (S : fr_SR) : fr_FN := S.2.2.2.1
def fr_po (S : fr_SR) : fr_FN := S.2.2.2.2.1
def fr_te (S : fr_SR) : fr_FN := S.2.2.2.2.2.1
def fr_ac (S : fr_SR) : fr_FN := S.2.2.2.2.2.2.1
def fr_cK (S : fr_SR) : fr_FN := S.2.2.2.2.2.2.2.1
def fr_cT (S : fr_SR) : fr_FN := S.2.2.2.2.2.2.2.2.1
def fr_cL (S : fr_SR) : fr_FN := S.2.2.2.2.2.2.2.2.2.1
def fr_cN (S : fr_SR) : fr_FN := S.2.2.2.2.2.2.2.2.2.2.1
def fr_tF (S : fr_SR) : fr_FN := S.2.2.2.2.2.2.2.2.2.2.2.1
def fr_tH (S : fr_SR) : fr_FN := S.2.2.2.2.2.2.2.2.2.2.2.2.1
def fr_tO (S : fr_SR) : fr_FN := S.2.2.2.2.2.2.2.2.2.2.2.2.2.1
def fr_vL (S : fr_SR) : fr_FN := S.2.2.2.2.2.2.2.2.2.2.2.2.2.2.1
def fr_vF (S : fr_SR) : fr_FN := S.2.2.2.2.2.2.2.2.2.2.2.2.2.2.2.1
def fr_aW (S : fr_SR) : fr_FN := S.2.2.2.2.2.2.2.2.2.2.2.2.2.2.2.2.1
def fr_aK (S : fr_SR) : fr_FN := S.2.2.2.2.2.2.2.2.2.2.2.2.2.2.2.2.2.1
def fr_aX (S : fr_SR) : fr_FN := S.2.2.2.2.2.2.2.2.2.2.2.2.2.2.2.2.2.2.1
def fr_aY (S : fr_SR) : fr_FN := S.2.2.2.2.2.2.2.2.2.2.2.2.2.2.2.2.2.2.2.1
def fr_aZ (S : fr_SR) : fr_FN := S.2.2.2.2.2.2.2.2.2.2.2.2.2.2.2.2.2.2.2.2
abbrev fr_DR : Type := fr_FN × fr_FN × fr_FN × List Nat × Nat × fr_FN × Int32 × fr_FN
def fr_nu (D : fr_DR) : fr_FN := D.1
def fr_fd (D : fr_DR) : fr_FN := D.2.1
def fr_kd (D : fr_DR) : fr_FN := D.2.2.1
def fr_lv (D : fr_DR) : List Nat := D.2.2.2.1
def fr_md (D : fr_DR) : Nat := D.2.2.2.2.1
def fr_mk (D : fr_DR) : fr_FN := D.2.2.2.2.2.1
def fr_pr (D : fr_DR) : Int32 := D.2.2.2.2.2.2.1
def fr_ou (D : fr_DR) : fr_FN := D.2.2.2.2.2.2.2
abbrev fr_QR : Type := Int32 × Int32 × fr_FN × fr_FN × fr_FN × fr_FN × fr_FN × fr_FN
def fr_fr (q : fr_QR) : Int32 := q.1
def fr_pk (q : fr_QR) : Int32 := q.2.1
def fr_pa (q : fr_QR) : fr_FN := q.2.2.1
def fr_ch (q : fr_QR) : fr_FN := q.2.2.2.1
def fr_nx (q : fr_QR) : fr_FN := q.2.2.2.2.1
def fr_fa (q : fr_QR) : fr_FN := q.2.2.2.2.2.1
def fr_st (q : fr_QR) : fr_FN := q.2.2.2.2.2.2.1
def fr_rt (q : fr_QR) : fr_FN := q.2.2.2.2.2.2.2
abbrev fr_ZR : Type := fr_FN × fr_FN × fr_FN × fr_FN × fr_FN × fr_FN × fr_FN
def fr_zs (z : fr_ZR) : fr_FN := z.1
def fr_zg (z : fr_ZR) : fr_FN := z.2.1
def fr_zb (z : fr_ZR) : fr_FN := z.2.2.1
def fr_zm (z : fr_ZR) : fr_FN := z.2.2.2.1
def fr_zo (z : fr_ZR) : fr_FN := z.2.2.2.2.1
def fr_zn (z : fr_ZR) : fr_FN := z.2.2.2.2.2.1
def fr_zf (z : fr_ZR) : fr_FN := z.2.2.2.2.2.2
def fr_bX (S : fr_SR) : Int32 := if fr_bd S = true then nI (fr_ru S - 1) else -1
def fr_bY (S : fr_SR) : Int32 := if fr_bd S = true then 1 else 0
def fr_mX (S : fr_SR) (D : fr_DR) (hx : Int32) (o : fr_FN) (q : fr_QR) (z : fr_ZR) : SX := ((nI (fr_ru S)), (fr_bX S), (nI (fr_lv D).length), (nI (fr_md D)), (fr_fr q), (fr_pk q), (fr_pr D), hx, (fr_sa S), (fr_co S), (fr_po S), (fr_te S), (fr_ac S), (fr_cK S), (fr_cT S), (fr_cL S), (fr_cN S), (fr_tF S), (fr_tH S), (fr_tO S), (fr_vL S), (fr_vF S), (fr_aW S), (fr_aK S), (fr_aX S), (fr_aY S), (fr_aZ S), (fr_nu D), (fr_fd D), (fr_kd D), o, (fr_pa q), (fr_ch q), (fr_nx q), (fr_fa q), (fr_st q), (fr_rt q), (fr_zs z), (fr_zg z), (fr_zb z), (fr_zm z), (fr_zo z), (fr_zn z), (fr_zf z), (fr_ou D))
def fr_mY (S : fr_SR) (D : fr_DR) (hy : Int32) (bd ds hl vr : fr_FN) : SY := ((nI (fr_ru S)), (fr_bY S), (nI (fr_md D)), (fr_pr D), hy, (fr_sa S), (fr_co S), (fr_po S), (fr_ac S), bd, (fr_cK S), (fr_cN S), (fr_cT S), (fr_tF S), (fr_tH S), (fr_tO S), ds, (fr_aX S), (fr_aY S), (fr_aZ S), (fr_nu D), (fr_kd D), (fr_fd D), hl, (fr_mk D), vr, (fr_ou D))
def fr_al (P : Nat → Bool) (i : Nat) : Nat → Bool
  | 0 => true
  | k + 1 => P i && fr_al P (i + 1) k
def fr_cc (P : Nat → Bool) (i : Nat) : Nat → Nat
  | 0 => 0
  | k + 1 => (if P i = true then 1 else 0) + fr_cc P (i + 1) k
def fr_fs (P : Nat → Bool) (i : Nat) : Nat → Option Nat
  | 0 => none
  | k + 1 => if P i = true then some i else fr_fs P (i + 1) k
def fr_cn (S : fr_SR) (r : Nat) : Nat := (fr_co S r).toNatClampNeg
def fr_pn (S : fr_SR) (r : Nat) : Nat := (fr_po S r).toNatClampNeg
def fr_an (S : fr_SR) (r : Nat) : Nat := (fr_ac S r).toNatClampNeg
def fr_tn (S : fr_SR) (c : Nat) : Nat := (fr_cT S c).toNatClampNeg
def fr_ng (S : fr_SR) (c : Nat) : Bool := !decide (fr_cN S c = 0)
def fr_pc (S : fr_SR) (r c : Nat) : Nat := fr_cc (fun j => !fr_ng S j) (5 * r) c
def fr_gv : List Nat → Nat → Nat
  | [], _ => 0
  | f :: p, j => if j = p.length then f else fr_gv p j
def fr_vx (x : Int32) : Nat := (x >>> ((1 : Int32) &&& 31)).toNatClampNeg
def fr_vl (S : fr_SR) (i : Nat) : Nat := (fr_vL S i).toNatClampNeg
def fr_vf (S : fr_SR) (i : Nat) : Nat := (fr_vF S i).toNatClampNeg
def fr_ov (S : fr_SR) (fd : fr_FN) (r : Nat) (g : Nat → Nat) (x : Int32) : Int32 :=
  if x &&& 1 = 0 then x >>> ((1 : Int32) &&& 31) else fd (3 * g (fr_vl S (4 * r + fr_vx x)) + fr_vf S (4 * r + fr_vx x))
def fr_t3 (h v w : Int32) : Bool := if h = 0 then decide (v = w) else if h = 1 then !decide (v = w) else decide (v < w)
def fr_ts (S : fr_SR) (fd : fr_FN) (r : Nat) (g : Nat → Nat) (f i : Nat) : Bool :=
  if fr_tH S i = 3 then true else fr_t3 (fr_tH S i) (fd (3 * f + (fr_tF S i).toNatClampNeg)) (fr_ov S fd r g (fr_tO S i))
def fr_ps (S : fr_SR) (kd fd : fr_FN) (r c f : Nat) (g : Nat → Nat) : Bool :=
  decide (kd f = fr_cK S c) && fr_al (fr_ts S fd r g f) (4 * c) (fr_tn S c)
def fr_bq (S : fr_SR) (kd fd : fr_FN) (r f : Nat) (p : List Nat) (c : Nat) : Bool :=
  fr_ng S c && (decide (fr_cL S c = nI p.length) && fr_ps S kd fd r c f (fr_gv p))
def fr_bl (S : fr_SR) (kd fd : fr_FN) (r f : Nat) (p : List Nat) : Nat := fr_cc (fr_bq S kd fd r f p) (5 * r) (fr_cn S r)
def fr_ct (S : fr_SR) (kd fd : fr_FN) (lv : List Nat) (r : Nat) (p : List Nat) : Nat := (lv.map (fun f => fr_bl S kd fd r f p)).sum
def fr_pA (S : fr_SR) (r d : Nat) : Option Nat := fr_fs (fun c => !fr_ng S c && decide (fr_cL S c = nI d)) (5 * r) (fr_cn S r)
def fr_ex (S : fr_SR) (kd fd : fr_FN) (r : Nat) (p : List Nat) (f : Nat) : Bool :=
  match fr_pA S r p.length with
  | none => false
  | some c => fr_ps S kd fd r c f (fr_gv (f :: p))
def fr_sm (S : fr_SR) (kd fd : fr_FN) (lv : List Nat) (r : Nat) : List Nat → Bool
  | [] => true
  | f :: p => fr_sm S kd fd lv r p && (decide (fr_ct S kd fd lv r p = 0) && (decide (f ∈ lv) && fr_ex S kd fd r p f))
abbrev fr_AT : Type := Nat → List Nat → Option Nat
def fr_RT (S : fr_SR) (kd fd : fr_FN) (lv : List Nat) (M : Nat → List Nat → Bool) (A : fr_AT) (st : fr_FN) (r : Nat) (p : List Nat) (t : Nat) : Prop :=
  st t = (if M r p = true ∧ fr_ct S kd fd lv r p = 0 then 16 else nI (fr_ct S kd fd lv r p)) ∧
  ∀ x, (∃ s, A r (x :: p) = some s) ↔ (fr_ct S kd fd lv r p = 0 ∧ x ∈ lv ∧ fr_ex S kd fd r p x = true)
def fr_Ch (nx : fr_FN) (A : fr_AT) (r : Nat) (p : List Nat) : Int32 → List Nat → Prop
  | x, [] => x = -1
  | x, f :: l => ∃ s, A r (f :: p) = some s ∧ x = nI s ∧ fr_Ch nx A r p (nx s) l
def fr_Fl (nx : fr_FN) : Int32 → List Nat → Prop
  | x, [] => x = nI 1036
  | x, a :: l => x = nI a ∧ fr_Fl nx (nx a) l
def fr_PA (A : fr_AT) : Prop :=
  (∀ r p t, A r p = some t → r < 4 ∧ p.length ≤ 3 ∧ (∀ x, x ∈ p → x < 6) ∧ t < 1036) ∧
  (∀ r p r' p' t, A r p = some t → A r' p' = some t → r = r' ∧ p = p')
def fr_PF (fa pa : fr_FN) (A : fr_AT) : Prop :=
  (∀ r t, A r [] = some t → fa t = -1) ∧
  (∀ r f p t, A r (f :: p) = some t → fa t = nI f ∧ ∃ s, A r p = some s ∧ pa t = nI s)
def fr_PR (rt : fr_FN) (A : fr_AT) : Prop := ∀ r t, A r [] = some t → rt r = nI t
def fr_PC (ch nx : fr_FN) (A : fr_AT) : Prop :=
  ∀ r p t, A r p = some t → ∃ l : List Nat, l.Nodup ∧ fr_Ch nx A r p (ch t) l ∧ ∀ f s, A r (f :: p) = some s → f ∈ l
def fr_PL (fr : Int32) (nx fa : fr_FN) (A : fr_AT) : Prop :=
  ∃ L : List Nat, L.Nodup ∧ fr_Fl nx fr L ∧ (∀ t, t ∈ L → t < 1036 ∧ fa t = -2 ∧ ∀ r p, A r p ≠ some t) ∧
    (∀ t, t < 1036 → t ∉ L → ∃ r p, A r p = some t)
def fr_PK (pk : Int32) (A : fr_AT) : Prop := ∃ n, pk = nI n ∧ n < 1036 ∧ ∀ r p t, A r p = some t → t ≤ n
def fr_PI (fr pk : Int32) (pa ch nx fa rt : fr_FN) (A : fr_AT) : Prop :=
  fr_PA A ∧ fr_PF fa pa A ∧ fr_PR rt A ∧ fr_PC ch nx A ∧ fr_PL fr nx fa A ∧ fr_PK pk A
def fr_PQ (q : fr_QR) (A : fr_AT) : Prop := fr_PI (fr_fr q) (fr_pk q) (fr_pa q) (fr_ch q) (fr_nx q) (fr_fa q) (fr_rt q) A
def fr_ins (A : fr_AT) (r : Nat) (p : List Nat) (s : Nat) : fr_AT := fun r' p' => if r' = r ∧ p' = p then some s else A r' p'
def fr_Sk (a : fr_FN) (A : fr_AT) (r : Nat) : List (List Nat) → Prop
  | [] => True
  | g :: G => (∃ x, A r g = some x ∧ a G.length = nI x) ∧ fr_Sk a A r G
def fr_w (d : Nat) : Nat := if d = 0 then 259 else if d = 1 then 43 else if d = 2 then 7 else if d = 3 then 1 else 0
def fr_wt : List (List Nat) → Nat
  | [] => 0
  | g :: G => fr_w g.length + fr_wt G
end
section
theorem fr_al_iff {P : Nat → Bool} : ∀ (k i : Nat), fr_al P i k = true ↔ ∀ j, i ≤ j → j < i + k → P j = true := by
  intro k
  induction k with
  | zero => intro i; exact ⟨fun _ j h1 h2 => absurd h2 (by omega), fun _ => rfl⟩
  | succ k ih =>
    intro i
    rw [fr_al, Bool.and_eq_true, ih]
    constructor
    · rintro ⟨h1, h2⟩ j hj hk
      by_cases e : j = i
      · rw [e]; exact h1
      · exact h2 j (by omega) (by omega)
    · intro h
      exact ⟨h i (by omega) (by omega), fun j h1 h2 => h j (by omega) (by omega)⟩
theorem fr_al_congr {P Q : Nat → Bool} : ∀ (k i : Nat), (∀ j, i ≤ j → j < i + k → P j = Q j) → fr_al P i k = fr_al Q i k := by
  intro k
  induction k with
  | zero => intro i _; rfl
  | succ k ih =>
    intro i h
    rw [fr_al, fr_al, h i (by omega) (by omega), ih (i + 1) (fun j h1 h2 => h j (by omega) (by omega))]
theorem fr_cc_congr {P Q : Nat → Bool} : ∀ (k i : Nat), (∀ j, i ≤ j → j < i + k → P j = Q j) → fr_cc P i k = fr_cc Q i k := by
  intro k
  induction k with
  | zero => intro i _; rfl
  | succ k ih =>
    intro i h
    rw [fr_cc, fr_cc, h i (by omega) (by omega), ih (i + 1) (fun j h1 h2 => h j (by omega) (by omega))]
theorem fr_cc_0 {P : Nat → Bool} : ∀ (k i : Nat), fr_cc P i k = 0 ↔ ∀ j, i ≤ j → j < i + k → P j = false := by
  intro k
  induction k with
  | zero => intro i; exact ⟨fun _ j h1 h2 => absurd h2 (by omega), fun _ => rfl⟩
  | succ k ih =>
    intro i
    rw [fr_cc]
    constructor
    · intro h j hj hk
      have h2 : fr_cc P (i + 1) k = 0 := by omega
      by_cases e : j = i
      · subst e
        by_cases hp : P j = true
        · rw [if_pos hp] at h; omega
        · exact Bool.eq_false_iff.mpr hp
      · exact (ih (i + 1)).mp h2 j (by omega) (by omega)
    · intro h
      rw [h i (by omega) (by omega), (ih (i + 1)).mpr (fun j h1 h2 => h j (by omega) (by omega))]
      rfl
theorem fr_cc_le {P : Nat → Bool} : ∀ (k i : Nat), fr_cc P i k ≤ k := by
  intro k
  induction k with
  | zero => intro i; exact Nat.le_refl _
  | succ k ih =>
    intro i
    have := ih (i + 1)
    rw [fr_cc]
    split <;> omega
theorem fr_cc_add {P : Nat → Bool} : ∀ (k i m : Nat), fr_cc P i (k + m) = fr_cc P i k + fr_cc P (i + k) m := by
  intro k
  induction k with
  | zero => intro i m; rw [Nat.zero_add, Nat.add_zero]; exact (Nat.zero_add _).symm
  | succ k ih =>
    intro i m
    rw [show k + 1 + m = (k + m) + 1 by omega, fr_cc, fr_cc, ih (i + 1) m, show i + (k + 1) = i + 1 + k by omega]
    omega
theorem fr_fs_some {P : Nat → Bool} : ∀ (k i c : Nat), fr_fs P i k = some c → i ≤ c ∧ c < i + k ∧ P c = true ∧ ∀ j, i ≤ j → j < c → P j = false := by
  intro k
  induction k with
  | zero => intro i c h; exact absurd h (by simp [fr_fs])
  | succ k ih =>
    intro i c h
    rw [fr_fs] at h
    by_cases hp : P i = true
    · rw [if_pos hp] at h
      cases h
      exact ⟨Nat.le_refl _, by omega, hp, fun j h1 h2 => absurd h2 (by omega)⟩
    · rw [if_neg hp] at h
      obtain ⟨h1, h2, h3, h4⟩ := ih (i + 1) c h
      refine ⟨by omega, by omega, h3, fun j h5 h6 => ?_⟩
      by_cases e : j = i
      · rw [e]; exact Bool.eq_false_iff.mpr hp
      · exact h4 j (by omega) h6
theorem fr_fs_none {P : Nat → Bool} : ∀ (k i : Nat), fr_fs P i k = none → ∀ j, i ≤ j → j < i + k → P j = false := by
  intro k
  induction k with
  | zero => intro i _ j h1 h2; omega
  | succ k ih =>
    intro i h j h1 h2
    rw [fr_fs] at h
    by_cases hp : P i = true
    · rw [if_pos hp] at h; cases h
    · rw [if_neg hp] at h
      by_cases e : j = i
      · rw [e]; exact Bool.eq_false_iff.mpr hp
      · exact ih (i + 1) h j (by omega) (by omega)
theorem fr_nar8 : ∀ n, n < 128 → (nI n).toInt8.toInt32 = nI n := by decide +kernel
theorem fr_b8 {n : Nat} (h : n < 128) : vp_nar .byte (nI n) = nI n := by rw [vp_nar_byte]; exact fr_nar8 n h
theorem fr_b88 {n : Nat} (h : n < 128) : vp_nar .byte (nI n).toInt8.toInt32 = nI n := by rw [fr_nar8 n h]; exact fr_b8 h
theorem fr_nar16 {n : Nat} (h : n < 32768) : (nI n).toInt16.toInt32 = nI n := lg_i2s_small (by rw [nI_toInt (by omega)]; omega) (by rw [nI_toInt (by omega)]; omega)
theorem fr_s16 {n : Nat} (h : n < 32768) : vp_nar .short (nI n) = nI n := by rw [vp_nar_short]; exact fr_nar16 h
theorem fr_s1616 {n : Nat} (h : n < 32768) : vp_nar .short (nI n).toInt16.toInt32 = nI n := by rw [fr_nar16 h]; exact fr_s16 h
theorem fr_sm1 : vp_nar .short (-1) = -1 := by rw [vp_nar_short]; decide
theorem fr_sm11 : vp_nar .short (-1 : Int32).toInt16.toInt32 = -1 := by rw [vp_nar_short]; decide
theorem fr_bm1 : vp_nar .byte (-1 : Int32).toInt8.toInt32 = -1 := by rw [vp_nar_byte]; decide
theorem fr_bm2 : vp_nar .byte (-2) = -2 := by rw [vp_nar_byte]; decide
theorem fr_b16 : vp_nar .byte 16 = 16 := by rw [vp_nar_byte]; decide
theorem fr_b0 : vp_nar .byte 0 = 0 := by rw [vp_nar_byte]; decide
theorem fr_m1lt : (-1 : Int32) < 0 := by decide
theorem fr_m1ne {n : Nat} (h : n < 2 ^ 31) : (-1 : Int32) ≠ nI n := by
  intro e
  have := congrArg Int32.toInt e
  rw [nI_toInt h, show (-1 : Int32).toInt = -1 by decide] at this
  omega
theorem fr_m2ne {n : Nat} (h : n < 2 ^ 31) : (-2 : Int32) ≠ nI n := by
  intro e
  have := congrArg Int32.toInt e
  rw [nI_toInt h, show (-2 : Int32).toInt = -2 by decide] at this
  omega
theorem fr_ndmap {α β : Type} {f : α → β} : ∀ {L : List α}, L.Nodup → (∀ a, a ∈ L → ∀ b, b ∈ L → f a = f b → a = b) → (L.map f).Nodup := by
  intro L
  induction L with
  | nil => intro _ _; exact List.nodup_nil
  | cons a l ih =>
    intro h hi
    rw [List.map_cons, List.nodup_cons]
    rw [List.nodup_cons] at h
    refine ⟨?_, ih h.2 (fun x hx y hy => hi x (List.mem_cons_of_mem _ hx) y (List.mem_cons_of_mem _ hy))⟩
    intro hm
    obtain ⟨b, hb, e⟩ := List.mem_map.mp hm
    have := hi b (List.mem_cons_of_mem _ hb) a List.mem_cons_self e
    rw [this] at hb
    exact h.1 hb
def fr_enc : List Nat → Nat
  | [] => 0
  | f :: p => 6 * fr_enc p + 1 + f
theorem fr_enc_lt : ∀ p : List Nat, p.length ≤ 3 → (∀ x, x ∈ p → x < 6) → fr_enc p < 259 := by
  intro p h he
  match p, h, he with
  | [], _, _ => decide
  | [a], _, he =>
    have := he a (by simp)
    simp only [fr_enc]; omega
  | [a, b], _, he =>
    have := he a (by simp)
    have := he b (by simp)
    simp only [fr_enc]; omega
  | [a, b, c], _, he =>
    have := he a (by simp)
    have := he b (by simp)
    have := he c (by simp)
    simp only [fr_enc]; omega
  | a :: b :: c :: d :: l, h, _ => simp at h
theorem fr_enc_inj : ∀ p p' : List Nat, (∀ x, x ∈ p → x < 6) → (∀ x, x ∈ p' → x < 6) → fr_enc p = fr_enc p' → p = p' := by
  intro p
  induction p with
  | nil =>
    intro p' _ _ h
    match p' with
    | [] => rfl
    | a :: l => simp only [fr_enc] at h; omega
  | cons f p ih =>
    intro p' h1 h2 h
    match p', h2, h with
    | [], _, h => simp only [fr_enc] at h; omega
    | f' :: l, h2, h =>
      have a1 := h1 f List.mem_cons_self
      have a2 := h2 f' List.mem_cons_self
      simp only [fr_enc] at h
      have e1 : fr_enc p = fr_enc l := by omega
      have e2 : f = f' := by omega
      rw [e2, ih l (fun x hx => h1 x (List.mem_cons_of_mem _ hx)) (fun x hx => h2 x (List.mem_cons_of_mem _ hx)) e1]
theorem fr_full {A : fr_AT} (hA : fr_PA A) (hL : ∀ t, t < 1036 → ∃ r p, A r p = some t) (r : Nat) (p : List Nat) (hr : r < 4) (hp : p.length ≤ 3) (he : ∀ x, x ∈ p → x < 6) : A r p ≠ none := by
  have hK : ∀ t : Nat, ∃ k : Nat × List Nat, t < 1036 → A k.1 k.2 = some t := by
    intro t
    by_cases h : t < 1036
    · obtain ⟨r, p, h1⟩ := hL t h
      exact ⟨(r, p), fun _ => h1⟩
    · exact ⟨(0, []), fun h2 => absurd h2 h⟩
  obtain ⟨K, hK⟩ := Classical.axiomOfChoice hK
  let code : Nat → Nat := fun t => 259 * (K t).1 + fr_enc (K t).2
  have hcode : ∀ t, t < 1036 → code t < 1036 := by
    intro t ht
    obtain ⟨h1, h2, h3, _⟩ := hA.1 _ _ _ (hK t ht)
    have := fr_enc_lt _ h2 h3
    show 259 * (K t).1 + fr_enc (K t).2 < 1036
    omega
  have hinj : ∀ (r' : Nat) (p' : List Nat) (t : Nat), r' < 4 → p'.length ≤ 3 → (∀ x, x ∈ p' → x < 6) → t < 1036 → 259 * r' + fr_enc p' = code t → A r' p' = some t := by
    intro r' p' t h1 h2 h3 ht e
    obtain ⟨k1, k2, k3, _⟩ := hA.1 _ _ _ (hK t ht)
    have b1 := fr_enc_lt _ h2 h3
    have b2 := fr_enc_lt _ k2 k3
    have e' : 259 * r' + fr_enc p' = 259 * (K t).1 + fr_enc (K t).2 := e
    have er : r' = (K t).1 := by omega
    have ee : fr_enc p' = fr_enc (K t).2 := by omega
    have ep := fr_enc_inj _ _ h3 k3 ee
    rw [er, ep]
    exact hK t ht
  have hnd : ((List.range 1036).map code).Nodup := by
    refine fr_ndmap List.nodup_range ?_
    intro a ha b hb e
    have ha := List.mem_range.mp ha
    have hb := List.mem_range.mp hb
    obtain ⟨k1, k2, k3, _⟩ := hA.1 _ _ _ (hK a ha)
    have := hinj _ _ b k1 k2 k3 hb e
    rw [hK a ha] at this
    exact Option.some.inj this
  have hsub : (List.range 1036).map code ⊆ List.range 1036 := by
    intro x hx
    obtain ⟨t, ht, e⟩ := List.mem_map.mp hx
    rw [← e]
    exact List.mem_range.mpr (hcode t (List.mem_range.mp ht))
  have hm : 259 * r + fr_enc p ∈ (List.range 1036).map code := by
    apply Classical.byContradiction
    intro hno
    have h1 : ((259 * r + fr_enc p) :: (List.range 1036).map code).Nodup := List.nodup_cons.mpr ⟨hno, hnd⟩
    have h2 : ((259 * r + fr_enc p) :: (List.range 1036).map code) ⊆ List.range 1036 := by
      intro x hx
      rcases List.mem_cons.mp hx with e | hx
      · rw [e]
        have := fr_enc_lt p hp he
        exact List.mem_range.mpr (by omega)
      · exact hsub hx
    have h3 := List.Nodup.length_le_of_subset h1 h2
    rw [List.length_cons, List.length_map, List.length_range] at h3
    omega
  obtain ⟨t, ht, e⟩ := List.mem_map.mp hm
  rw [hinj r p t hr hp he (List.mem_range.mp ht) e.symm]
  exact Option.some_ne_none t
end
section
theorem fr_up {fa pa : fr_FN} {A : fr_AT} (h : fr_PF fa pa A) {r : Nat} {p : List Nat} : ∀ {p' : List Nat}, p <:+ p' → (∃ t, A r p' = some t) → ∃ t, A r p = some t := by
  intro p'
  induction p' with
  | nil => intro hs ht; rw [List.suffix_nil.mp hs]; exact ht
  | cons f l ih =>
    intro hs ht
    rcases List.suffix_cons_iff.mp hs with e | hs
    · rw [e]; exact ht
    · obtain ⟨t, ht⟩ := ht
      obtain ⟨_, s, hs2, _⟩ := h.2 r f l t ht
      exact ih hs ⟨s, hs2⟩
theorem fr_Ch_congr {nx nx' : fr_FN} {A A' : fr_AT} {r : Nat} {p : List Nat} : ∀ {l : List Nat} {x : Int32}, (∀ f, f ∈ l → A' r (f :: p) = A r (f :: p)) → (∀ f s, f ∈ l → A r (f :: p) = some s → nx' s = nx s) → fr_Ch nx A r p x l → fr_Ch nx' A' r p x l := by
  intro l
  induction l with
  | nil => intro x _ _ h; exact h
  | cons f l ih =>
    intro x hA hn h
    obtain ⟨s, h1, h2, h3⟩ := h
    refine ⟨s, by rw [hA f List.mem_cons_self]; exact h1, h2, ?_⟩
    rw [hn f s List.mem_cons_self h1]
    exact ih (fun g hg => hA g (List.mem_cons_of_mem _ hg)) (fun g s hg => hn g s (List.mem_cons_of_mem _ hg)) h3
theorem fr_Ch_mem {nx : fr_FN} {A : fr_AT} {r : Nat} {p : List Nat} : ∀ {l : List Nat} {x : Int32}, fr_Ch nx A r p x l → ∀ f, f ∈ l → ∃ s, A r (f :: p) = some s := by
  intro l
  induction l with
  | nil => intro x _ f hf; cases hf
  | cons g l ih =>
    intro x h f hf
    obtain ⟨s, h1, h2, h3⟩ := h
    rcases List.mem_cons.mp hf with e | hf
    · rw [e]; exact ⟨s, h1⟩
    · exact ih h3 f hf
theorem fr_Fl_congr {nx nx' : fr_FN} : ∀ {L : List Nat} {x : Int32}, (∀ t, t ∈ L → nx' t = nx t) → fr_Fl nx x L → fr_Fl nx' x L := by
  intro L
  induction L with
  | nil => intro x _ h; exact h
  | cons a l ih =>
    intro x hn h
    refine ⟨h.1, ?_⟩
    rw [hn a List.mem_cons_self]
    exact ih (fun t ht => hn t (List.mem_cons_of_mem _ ht)) h.2
theorem fr_ins_s {A : fr_AT} {r : Nat} {p : List Nat} {s : Nat} : fr_ins A r p s r p = some s := if_pos ⟨rfl, rfl⟩
theorem fr_ins_n {A : fr_AT} {r : Nat} {p : List Nat} {s : Nat} {r' : Nat} {p' : List Nat} (h : ¬ (r' = r ∧ p' = p)) : fr_ins A r p s r' p' = A r' p' := if_neg h
theorem fr_ins_c {A : fr_AT} {r : Nat} {p : List Nat} {s : Nat} {r' : Nat} {p' : List Nat} {t : Nat} (h : fr_ins A r p s r' p' = some t) : (r' = r ∧ p' = p ∧ t = s) ∨ (¬ (r' = r ∧ p' = p) ∧ A r' p' = some t) := by
  by_cases e : r' = r ∧ p' = p
  · obtain ⟨rfl, rfl⟩ := e
    rw [fr_ins_s] at h
    exact Or.inl ⟨rfl, rfl, (Option.some.inj h).symm⟩
  · rw [fr_ins_n e] at h
    exact Or.inr ⟨e, h⟩
/-- a free place is there while some key is wanting -/
theorem fr_free {fr pk : Int32} {pa ch nx fa rt : fr_FN} {A : fr_AT} (h : fr_PI fr pk pa ch nx fa rt A) {r : Nat} {p : List Nat} (hr : r < 4) (hp : p.length ≤ 3) (he : ∀ x, x ∈ p → x < 6) (hn : A r p = none) : ∃ s, fr = nI s ∧ s < 1036 ∧ ∀ r p, A r p ≠ some s := by
  obtain ⟨hA, _, _, _, ⟨L, hL1, hL2, hL3, hL4⟩, _⟩ := h
  match L, hL2, hL3, hL4 with
  | [], _, _, hL4 => exact absurd hn (fr_full hA (fun t ht => hL4 t ht (by simp)) r p hr hp he)
  | a :: l, hL2, hL3, _ =>
    obtain ⟨h1, _, h3⟩ := hL3 a List.mem_cons_self
    exact ⟨a, hL2.1, h1, h3⟩
theorem fr_ins_L {fr : Int32} {nx fa nx' fa' : fr_FN} {A : fr_AT} {s r : Nat} {p : List Nat} (h : fr_PL fr nx fa A) (hs : fr = nI s) (hs2 : s < 1036) (hfree : ∀ r p, A r p ≠ some s) (hn : A r p = none)
    (e3 : ∀ j, j ≠ s → nx' j = nx j) (e4 : ∀ j, j ≠ s → fa' j = fa j) : fr_PL (nx s) nx' fa' (fr_ins A r p s) := by
  obtain ⟨L, hL1, hL2, hL3, hL4⟩ := h
  have hin : s ∈ L := Classical.byContradiction fun hno => by
    obtain ⟨r, p, e⟩ := hL4 s hs2 hno
    exact hfree r p e
  match L, hL1, hL2, hL3, hL4, hin with
  | a :: l, hL1, hL2, hL3, hL4, _ =>
    have ea : a = s := by
      have h1 := (hL3 a List.mem_cons_self).1
      have := hL2.1
      rw [hs] at this
      exact ((nI_eq (by omega) (by omega)).mp this).symm
    subst ea
    rw [List.nodup_cons] at hL1
    have hne : ∀ t, t ∈ l → t ≠ a := fun t ht e => hL1.1 (e ▸ ht)
    refine ⟨l, hL1.2, fr_Fl_congr (fun t ht => e3 t (hne t ht)) hL2.2, ?_, ?_⟩
    · intro t ht
      obtain ⟨h1, h2, h3⟩ := hL3 t (List.mem_cons_of_mem _ ht)
      refine ⟨h1, by rw [e4 t (hne t ht)]; exact h2, ?_⟩
      intro r' p' e
      rcases fr_ins_c e with ⟨_, _, e⟩ | ⟨_, e⟩
      · exact hne t ht e
      · exact h3 r' p' e
    · intro t ht hno
      by_cases e : t = a
      · rw [e]; exact ⟨r, p, fr_ins_s⟩
      · obtain ⟨r', p', h1⟩ := hL4 t ht (by rw [List.mem_cons]; rintro (h | h); exact e h; exact hno h)
        refine ⟨r', p', ?_⟩
        rw [fr_ins_n]
        · exact h1
        · rintro ⟨rfl, rfl⟩
          rw [hn] at h1
          cases h1
theorem fr_ins_child {fr pk pk' : Int32} {pa ch nx fa rt pa' ch' nx' fa' : fr_FN} {A : fr_AT} (h : fr_PI fr pk pa ch nx fa rt A) {r f t s : Nat} {p : List Nat} (hp : A r p = some t) (hn : A r (f :: p) = none) (hf : f < 6) (hl : p.length < 3) (hs : fr = nI s) (hs2 : s < 1036) (hfree : ∀ r p, A r p ≠ some s)
    (a1 : ∀ j, j ≠ s → pa' j = pa j) (a2 : pa' s = nI t)
    (b1 : ∀ j, j ≠ s → j ≠ t → ch' j = ch j) (b2 : ch' s = -1) (b3 : ch' t = nI s)
    (c1 : ∀ j, j ≠ s → nx' j = nx j) (c2 : nx' s = ch t)
    (d1 : ∀ j, j ≠ s → fa' j = fa j) (d2 : fa' s = nI f)
    (k1 : pk' = if fr ≤ pk then pk else fr) : fr_PI (nx s) pk' pa' ch' nx' fa' rt (fr_ins A r (f :: p) s) := by
  obtain ⟨hA, hF, hR, hC, hL, hK⟩ := h
  have hv := hA.1 r p t hp
  have hts : t ≠ s := fun e => hfree r p (e ▸ hp)
  have hold : ∀ r' p' t', A r' p' = some t' → t' ≠ s := fun r' p' t' h e => hfree r' p' (e ▸ h)
  refine ⟨⟨?_, ?_⟩, ⟨?_, ?_⟩, ?_, ?_, fr_ins_L hL hs hs2 hfree hn c1 d1, ?_⟩
  · intro r' p' t' e
    rcases fr_ins_c e with ⟨rfl, rfl, rfl⟩ | ⟨_, e⟩
    · refine ⟨hv.1, by rw [List.length_cons]; omega, ?_, hs2⟩
      intro x hx
      rcases List.mem_cons.mp hx with e | hx
      · rw [e]; exact hf
      · exact hv.2.2.1 x hx
    · exact hA.1 _ _ _ e
  · intro r1 p1 r2 p2 t' e1 e2
    rcases fr_ins_c e1 with ⟨w1, w2, w3⟩ | ⟨_, f1⟩
    · rcases fr_ins_c e2 with ⟨v1, v2, _⟩ | ⟨_, f2⟩
      · exact ⟨w1.trans v1.symm, w2.trans v2.symm⟩
      · exact absurd (w3 ▸ f2) (hfree _ _)
    · rcases fr_ins_c e2 with ⟨_, _, v3⟩ | ⟨_, f2⟩
      · exact absurd (v3 ▸ f1) (hfree _ _)
      · exact hA.2 _ _ _ _ _ f1 f2
  · intro r' t' e
    rcases fr_ins_c e with ⟨_, e, _⟩ | ⟨_, e⟩
    · cases e
    · rw [d1 _ (hold _ _ _ e)]; exact hF.1 _ _ e
  · intro r' f' p' t' e
    rcases fr_ins_c e with ⟨rfl, e2, rfl⟩ | ⟨_, e⟩
    · cases e2
      refine ⟨d2, t, ?_, a2⟩
      rw [fr_ins_n (by rintro ⟨_, e⟩; exact absurd (congrArg List.length e) (by simp))]
      exact hp
    · obtain ⟨h1, s', h2, h3⟩ := hF.2 _ _ _ _ e
      have hne := hold _ _ _ e
      refine ⟨by rw [d1 _ hne]; exact h1, s', ?_, by rw [a1 _ hne]; exact h3⟩
      rw [fr_ins_n]
      · exact h2
      · rintro ⟨rfl, rfl⟩
        rw [hn] at h2
        cases h2
  · intro r' t' e
    rcases fr_ins_c e with ⟨_, e, _⟩ | ⟨_, e⟩
    · cases e
    · exact hR _ _ e
  · intro r' p' t' e
    rcases fr_ins_c e with ⟨rfl, rfl, rfl⟩ | ⟨hne, e'⟩
    · refine ⟨[], List.nodup_nil, b2, ?_⟩
      intro x s' e
      rcases fr_ins_c e with ⟨_, e, _⟩ | ⟨_, e⟩
      · exact absurd (congrArg List.length e) (by simp)
      · obtain ⟨_, s2, h2, _⟩ := hF.2 _ _ _ _ e
        rw [hn] at h2
        cases h2
    · clear e
      have e := e'
      clear e'
      obtain ⟨l, hl1, hl2, hl3⟩ := hC r' p' t' e
      by_cases hk : r' = r ∧ p' = p
      · obtain ⟨rfl, rfl⟩ := hk
        have et : t' = t := by rw [hp] at e; exact (Option.some.inj e).symm
        subst et
        have hfl : f ∉ l := fun hm => by
          obtain ⟨s', h1⟩ := fr_Ch_mem hl2 f hm
          rw [hn] at h1
          cases h1
        refine ⟨f :: l, List.nodup_cons.mpr ⟨hfl, hl1⟩, ⟨s, fr_ins_s, b3, ?_⟩, ?_⟩
        · rw [c2]
          refine fr_Ch_congr (fun x hx => ?_) (fun x s' hx e2 => c1 _ (hold _ _ _ e2)) hl2
          rw [fr_ins_n]
          rintro ⟨_, e2⟩
          cases e2
          exact hfl hx
        · intro x s' e2
          rcases fr_ins_c e2 with ⟨_, e2, _⟩ | ⟨_, e2⟩
          · cases e2; exact List.mem_cons_self
          · exact List.mem_cons_of_mem _ (hl3 x s' e2)
      · have ht : t' ≠ t := by
          rintro rfl
          exact hk (hA.2 _ _ _ _ _ e hp)
        have hne2 : ∀ x, ¬ (r' = r ∧ x :: p' = f :: p) := by
          rintro x ⟨h1, h2⟩
          cases h2
          exact hk ⟨h1, rfl⟩
        refine ⟨l, hl1, ?_, ?_⟩
        · rw [b1 _ (hold _ _ _ e) ht]
          exact fr_Ch_congr (fun x hx => fr_ins_n (hne2 x)) (fun x s' hx e2 => c1 _ (hold _ _ _ e2)) hl2
        · intro x s' e2
          rw [fr_ins_n (hne2 x)] at e2
          exact hl3 x s' e2
  · obtain ⟨n, h1, h2, h3⟩ := hK
    by_cases hle : s ≤ n
    · refine ⟨n, ?_, h2, ?_⟩
      · rw [k1, hs, h1, if_pos (nI_le hle (by omega))]
      · intro r' p' t' e
        rcases fr_ins_c e with ⟨_, _, rfl⟩ | ⟨_, e⟩
        · exact hle
        · exact h3 _ _ _ e
    · refine ⟨s, ?_, hs2, ?_⟩
      · rw [k1, hs, h1, if_neg (nI_ge (by omega) (by omega))]
      · intro r' p' t' e
        rcases fr_ins_c e with ⟨_, _, rfl⟩ | ⟨_, e⟩
        · exact Nat.le_refl _
        · have := h3 _ _ _ e; omega
theorem fr_ins_root {fr pk pk' : Int32} {pa ch nx fa rt pa' ch' nx' fa' rt' : fr_FN} {A : fr_AT} (h : fr_PI fr pk pa ch nx fa rt A) {r s : Nat} (hr : r < 4) (hn : A r [] = none) (hs : fr = nI s) (hs2 : s < 1036) (hfree : ∀ r p, A r p ≠ some s)
    (a1 : ∀ j, j ≠ s → pa' j = pa j)
    (b1 : ∀ j, j ≠ s → ch' j = ch j) (b2 : ch' s = -1)
    (c1 : ∀ j, j ≠ s → nx' j = nx j)
    (d1 : ∀ j, j ≠ s → fa' j = fa j) (d2 : fa' s = -1)
    (r1 : ∀ j, j ≠ r → rt' j = rt j) (r2 : rt' r = nI s)
    (k1 : pk' = if fr ≤ pk then pk else fr) : fr_PI (nx s) pk' pa' ch' nx' fa' rt' (fr_ins A r [] s) := by
  obtain ⟨hA, hF, hR, hC, hL, hK⟩ := h
  have hold : ∀ r' p' t', A r' p' = some t' → t' ≠ s := fun r' p' t' h e => hfree r' p' (e ▸ h)
  have hno : ∀ p t, A r p ≠ some t := by
    intro p t e
    obtain ⟨t', e'⟩ := fr_up hF (List.nil_suffix) ⟨t, e⟩
    rw [hn] at e'
    cases e'
  refine ⟨⟨?_, ?_⟩, ⟨?_, ?_⟩, ?_, ?_, fr_ins_L hL hs hs2 hfree hn c1 d1, ?_⟩
  · intro r' p' t' e
    rcases fr_ins_c e with ⟨rfl, rfl, rfl⟩ | ⟨_, e⟩
    · exact ⟨hr, by simp, (fun x hx => by cases hx), hs2⟩
    · exact hA.1 _ _ _ e
  · intro r1 p1 r2 p2 t' e1 e2
    rcases fr_ins_c e1 with ⟨w1, w2, w3⟩ | ⟨_, f1⟩
    · rcases fr_ins_c e2 with ⟨v1, v2, _⟩ | ⟨_, f2⟩
      · exact ⟨w1.trans v1.symm, w2.trans v2.symm⟩
      · exact absurd (w3 ▸ f2) (hfree _ _)
    · rcases fr_ins_c e2 with ⟨_, _, v3⟩ | ⟨_, f2⟩
      · exact absurd (v3 ▸ f1) (hfree _ _)
      · exact hA.2 _ _ _ _ _ f1 f2
  · intro r' t' e
    rcases fr_ins_c e with ⟨_, _, e⟩ | ⟨_, e⟩
    · rw [e]; exact d2
    · rw [d1 _ (hold _ _ _ e)]; exact hF.1 _ _ e
  · intro r' f' p' t' e
    rcases fr_ins_c e with ⟨_, e, _⟩ | ⟨_, e⟩
    · cases e
    · obtain ⟨h1, s', h2, h3⟩ := hF.2 _ _ _ _ e
      have hne := hold _ _ _ e
      refine ⟨by rw [d1 _ hne]; exact h1, s', ?_, by rw [a1 _ hne]; exact h3⟩
      rw [fr_ins_n]
      · exact h2
      · rintro ⟨rfl, rfl⟩
        rw [hn] at h2
        cases h2
  · intro r' t' e
    rcases fr_ins_c e with ⟨rfl, _, rfl⟩ | ⟨hne, e⟩
    · exact r2
    · rw [r1 _ (fun e => hne ⟨e, rfl⟩)]; exact hR _ _ e
  · intro r' p' t' e
    rcases fr_ins_c e with ⟨rfl, rfl, rfl⟩ | ⟨hne, e⟩
    · refine ⟨[], List.nodup_nil, b2, ?_⟩
      intro x s' e
      rcases fr_ins_c e with ⟨_, e, _⟩ | ⟨_, e⟩
      · cases e
      · exact absurd e (hno _ _)
    · obtain ⟨l, hl1, hl2, hl3⟩ := hC r' p' t' e
      have hne2 : ∀ x, ¬ (r' = r ∧ x :: p' = []) := fun x h => by cases h.2
      refine ⟨l, hl1, ?_, ?_⟩
      · rw [b1 _ (hold _ _ _ e)]
        exact fr_Ch_congr (fun x hx => fr_ins_n (hne2 x)) (fun x s' hx e2 => c1 _ (hold _ _ _ e2)) hl2
      · intro x s' e2
        rw [fr_ins_n (hne2 x)] at e2
        exact hl3 x s' e2
  · obtain ⟨n, h1, h2, h3⟩ := hK
    by_cases hle : s ≤ n
    · refine ⟨n, ?_, h2, ?_⟩
      · rw [k1, hs, h1, if_pos (nI_le hle (by omega))]
      · intro r' p' t' e
        rcases fr_ins_c e with ⟨_, _, rfl⟩ | ⟨_, e⟩
        · exact hle
        · exact h3 _ _ _ e
    · refine ⟨s, ?_, hs2, ?_⟩
      · rw [k1, hs, h1, if_neg (nI_ge (by omega) (by omega))]
      · intro r' p' t' e
        rcases fr_ins_c e with ⟨_, _, rfl⟩ | ⟨_, e⟩
        · exact Nat.le_refl _
        · have := h3 _ _ _ e; omega
def fr_del (A : fr_AT) (r : Nat) (p : List Nat) : fr_AT := fun r' p' => if r' = r ∧ p' = p then none else A r' p'
theorem fr_del_s {A : fr_AT} {r : Nat} {p : List Nat} : fr_del A r p r p = none := if_pos ⟨rfl, rfl⟩
theorem fr_del_n {A : fr_AT} {r : Nat} {p : List Nat} {r' : Nat} {p' : List Nat} (h : ¬ (r' = r ∧ p' = p)) : fr_del A r p r' p' = A r' p' := if_neg h
theorem fr_del_c {A : fr_AT} {r : Nat} {p : List Nat} {r' : Nat} {p' : List Nat} {t : Nat} (h : fr_del A r p r' p' = some t) : ¬ (r' = r ∧ p' = p) ∧ A r' p' = some t := by
  by_cases e : r' = r ∧ p' = p
  · obtain ⟨rfl, rfl⟩ := e
    rw [fr_del_s] at h
    cases h
  · rw [fr_del_n e] at h
    exact ⟨e, h⟩
theorem fr_del_L {fr : Int32} {nx fa nx' fa' : fr_FN} {A : fr_AT} {k r : Nat} {p : List Nat} (h : fr_PL fr nx fa A) (hk : k < 1036) (hA : ∀ r' p', A r' p' = some k → r' = r ∧ p' = p) (hk2 : A r p = some k)
    (e3 : ∀ t, (∀ r p, A r p ≠ some t) → nx' t = nx t) (e3k : nx' k = fr) (e4 : ∀ j, j ≠ k → fa' j = fa j) (e5 : fa' k = -2) : fr_PL (nI k) nx' fa' (fr_del A r p) := by
  obtain ⟨L, hL1, hL2, hL3, hL4⟩ := h
  have hno : k ∉ L := fun hm => (hL3 k hm).2.2 r p hk2
  have hne : ∀ t, t ∈ L → t ≠ k := fun t ht e => hno (e ▸ ht)
  refine ⟨k :: L, List.nodup_cons.mpr ⟨hno, hL1⟩, ⟨rfl, ?_⟩, ?_, ?_⟩
  · rw [e3k]
    exact fr_Fl_congr (fun t ht => e3 t (hL3 t ht).2.2) hL2
  · intro t ht
    rcases List.mem_cons.mp ht with e | ht
    · rw [e]
      refine ⟨hk, e5, ?_⟩
      intro r' p' e
      obtain ⟨h1, h2⟩ := fr_del_c e
      exact h1 (hA _ _ h2)
    · obtain ⟨h1, h2, h3⟩ := hL3 t ht
      refine ⟨h1, by rw [e4 t (hne t ht)]; exact h2, ?_⟩
      intro r' p' e
      exact h3 _ _ (fr_del_c e).2
  · intro t ht hno2
    rw [List.mem_cons] at hno2
    obtain ⟨r', p', h1⟩ := hL4 t ht (fun h => hno2 (Or.inr h))
    refine ⟨r', p', ?_⟩
    rw [fr_del_n]
    · exact h1
    · rintro ⟨rfl, rfl⟩
      rw [hk2] at h1
      exact hno2 (Or.inl (Option.some.inj h1).symm)
theorem fr_sfx {g p : List Nat} (h : g <:+ p) (hn : p ≠ g) : ∃ f, f :: g <:+ p := by
  obtain ⟨u, hu⟩ := h
  rcases List.eq_nil_or_concat u with e | ⟨u', f, e⟩
  · rw [e] at hu
    exact absurd hu.symm hn
  · refine ⟨f, u', ?_⟩
    rw [← hu, e]
    simp
theorem fr_sfx_ne {f : Nat} {g p : List Nat} (h : f :: g <:+ p) : g <:+ p ∧ p ≠ g := by
  refine ⟨List.IsSuffix.trans (List.suffix_cons f g) h, ?_⟩
  intro e
  have := h.length_le
  rw [e, List.length_cons] at this
  omega
theorem fr_sfx_t {f : Nat} {g p : List Nat} (h : p <:+ f :: g) (hn : f :: g ≠ p) : p <:+ g := by
  rcases List.suffix_cons_iff.mp h with e | h
  · exact absurd e.symm hn
  · exact h
def fr_Ai (G : List (List Nat)) : Prop := G.Pairwise (fun a b => ¬ a <:+ b ∧ ¬ b <:+ a)
theorem fr_Ai_step {g : List Nat} {G : List (List Nat)} (h : fr_Ai (g :: G)) : ∀ {l : List Nat}, l.Nodup → fr_Ai (l.map (fun f => f :: g) ++ G) := by
  have h' := List.pairwise_cons.mp h
  intro l
  induction l with
  | nil => intro _; exact h'.2
  | cons f l ih =>
    intro hl
    rw [List.nodup_cons] at hl
    show fr_Ai ((f :: g) :: (l.map (fun f => f :: g) ++ G))
    refine List.pairwise_cons.mpr ⟨?_, ih hl.2⟩
    intro x hx
    rcases List.mem_append.mp hx with hx | hx
    · obtain ⟨f', hf', e⟩ := List.mem_map.mp hx
      subst e
      have hne : f ≠ f' := fun e => hl.1 (e ▸ hf')
      constructor
      · intro hs
        have := hs.eq_of_length (by simp)
        cases this
        exact hne rfl
      · intro hs
        have := hs.eq_of_length (by simp)
        cases this
        exact hne rfl
    · obtain ⟨h1, h2⟩ := h'.1 x hx
      constructor
      · intro hs
        exact h1 (fr_sfx_ne hs).1
      · intro hs
        rcases List.suffix_cons_iff.mp hs with e | hs
        · subst e
          exact h1 (List.suffix_cons f g)
        · exact h2 hs
theorem fr_wt_step (g : List Nat) (G : List (List Nat)) : ∀ l : List Nat, fr_wt (l.map (fun f => f :: g) ++ G) = l.length * fr_w (g.length + 1) + fr_wt G := by
  intro l
  induction l with
  | nil => simp
  | cons f l ih =>
    show fr_w (f :: g).length + fr_wt (l.map (fun f => f :: g) ++ G) = _
    rw [ih, List.length_cons, List.length_cons, Nat.add_mul]
    omega
theorem fr_w_step {d : Nat} (h : d ≤ 3) : 6 * fr_w (d + 1) + 1 = fr_w d := by
  match d, h with
  | 0, _ => decide
  | 1, _ => decide
  | 2, _ => decide
  | 3, _ => decide
theorem fr_w_pos {d : Nat} (h : d ≤ 3) : 1 ≤ fr_w d := by
  have := fr_w_step h
  omega
theorem fr_w_le (d : Nat) : fr_w d ≤ 259 := by
  unfold fr_w
  split
  · omega
  · split
    · omega
    · split
      · omega
      · split <;> omega
theorem fr_wt_len : ∀ G : List (List Nat), (∀ g, g ∈ G → g.length ≤ 3) → G.length ≤ fr_wt G := by
  intro G
  induction G with
  | nil => intro _; exact Nat.le_refl _
  | cons g G ih =>
    intro h
    have := fr_w_pos (h g List.mem_cons_self)
    have := ih (fun x hx => h x (List.mem_cons_of_mem _ hx))
    rw [List.length_cons, fr_wt]
    omega
theorem fr_nd6 {l : List Nat} (h : l.Nodup) (hl : ∀ x, x ∈ l → x < 6) : l.length ≤ 6 := by
  have := List.Nodup.length_le_of_subset h (fun x hx => List.mem_range.mpr (hl x hx))
  rw [List.length_range] at this
  exact this
theorem fr_Sk_get {a : fr_FN} {A : fr_AT} {r : Nat} {g : List Nat} {G : List (List Nat)} (h : fr_Sk a A r (g :: G)) : ∃ x, A r g = some x ∧ a G.length = nI x := h.1
theorem fr_Sk_congr {a a' : fr_FN} {A A' : fr_AT} {r : Nat} : ∀ {G : List (List Nat)}, (∀ j, j < G.length → a' j = a j) → (∀ g, g ∈ G → A' r g = A r g) → fr_Sk a A r G → fr_Sk a' A' r G := by
  intro G
  induction G with
  | nil => intro _ _ _; trivial
  | cons g G ih =>
    intro h1 h2 h
    obtain ⟨⟨x, h3, h4⟩, h5⟩ := h
    refine ⟨⟨x, by rw [h2 g List.mem_cons_self]; exact h3, by rw [h1 _ (by simp)]; exact h4⟩, ?_⟩
    exact ih (fun j hj => h1 j (by rw [List.length_cons]; omega)) (fun y hy => h2 y (List.mem_cons_of_mem _ hy)) h5
theorem fr_Sk_push {a : fr_FN} {A : fr_AT} {r x : Nat} {g : List Nat} {G : List (List Nat)} (h : fr_Sk a A r G) (hg : A r g = some x) : fr_Sk (upd a G.length (nI x)) A r (g :: G) := by
  refine ⟨⟨x, hg, pk_us⟩, ?_⟩
  exact fr_Sk_congr (fun j hj => pk_un (by omega)) (fun _ _ => rfl) h
end
section
def fr_Sb (r : Nat) (p : List Nat) (r' : Nat) (p' : List Nat) : Prop := r' = r ∧ p <:+ p' ∧ p' ≠ p
def fr_Cv (G : List (List Nat)) (p' : List Nat) : Prop := ∃ g, g ∈ G ∧ g <:+ p'
def fr_Cut (A B : fr_AT) (r : Nat) (p : List Nat) (G : List (List Nat)) : Prop :=
  (∀ r' p', (¬ fr_Sb r p r' p' ∨ fr_Cv G p') → B r' p' = A r' p') ∧ (∀ r' p', fr_Sb r p r' p' → ¬ fr_Cv G p' → B r' p' = none)
def fr_Cl (A : fr_AT) : Prop := ∀ r f p t, A r (f :: p) = some t → ∃ s, A r p = some s
def fr_PM (fr pk : Int32) (pa ch nx fa rt : fr_FN) (A B : fr_AT) (r : Nat) (p : List Nat) (t : Nat) (G : List (List Nat)) : Prop :=
  (fr_PA A ∧ A r p = some t ∧ fr_Cl A ∧ fr_PR rt A ∧ fr_PK pk A) ∧
  ((∀ r' t', B r' [] = some t' → fa t' = -1) ∧ (∀ r' f p' t', B r' (f :: p') = some t' → fa t' = nI f ∧ ∃ s, A r' p' = some s ∧ pa t' = nI s)) ∧
  (∀ r' p' t', B r' p' = some t' → ¬ (r' = r ∧ p' = p) → ∃ l : List Nat, l.Nodup ∧ fr_Ch nx B r' p' (ch t') l ∧ ∀ f s, B r' (f :: p') = some s → f ∈ l) ∧
  ch t = -1 ∧ fr_PL fr nx fa B ∧ fr_Cut A B r p G ∧ fr_Ai G ∧ (∀ g, g ∈ G → fr_Sb r p r g ∧ ∃ x, A r g = some x)
theorem fr_Cl_up {A : fr_AT} (h : fr_Cl A) {r : Nat} {p : List Nat} : ∀ {p' : List Nat}, p <:+ p' → (∃ t, A r p' = some t) → ∃ t, A r p = some t := by
  intro p'
  induction p' with
  | nil => intro hs ht; rw [List.suffix_nil.mp hs]; exact ht
  | cons f l ih =>
    intro hs ht
    rcases List.suffix_cons_iff.mp hs with e | hs
    · rw [e]; exact ht
    · obtain ⟨t, ht⟩ := ht
      exact ih hs (h r f l t ht)
theorem fr_Cut_sub {A B : fr_AT} {r : Nat} {p : List Nat} {G : List (List Nat)} (h : fr_Cut A B r p G) {r' : Nat} {p' : List Nat} {t : Nat} (e : B r' p' = some t) : A r' p' = some t ∧ (¬ fr_Sb r p r' p' ∨ fr_Cv G p') := by
  by_cases h1 : ¬ fr_Sb r p r' p' ∨ fr_Cv G p'
  · rw [h.1 r' p' h1] at e
    exact ⟨e, h1⟩
  · have h2 : fr_Sb r p r' p' := Classical.byContradiction fun hn => h1 (Or.inl hn)
    have h3 : ¬ fr_Cv G p' := fun hc => h1 (Or.inr hc)
    rw [h.2 r' p' h2 h3] at e
    cases e
theorem fr_PM_start {fr pk : Int32} {pa ch nx fa rt ch' : fr_FN} {A : fr_AT} (h : fr_PI fr pk pa ch nx fa rt A) {r t : Nat} {p : List Nat} (ht : A r p = some t)
    (hc1 : ∀ j, j ≠ t → ch' j = ch j) (hc2 : ch' t = -1) {l : List Nat} (hl1 : l.Nodup) (hl2 : ∀ f, f ∈ l → ∃ s, A r (f :: p) = some s) (hl3 : ∀ f s, A r (f :: p) = some s → f ∈ l) :
    fr_PM fr pk pa ch' nx fa rt A A r p t (l.map (fun f => f :: p)) := by
  obtain ⟨hA, hF, hR, hC, hL, hK⟩ := h
  have hCl : fr_Cl A := fun r f p t e => by
    obtain ⟨_, s, h, _⟩ := hF.2 r f p t e
    exact ⟨s, h⟩
  refine ⟨⟨hA, ht, hCl, hR, hK⟩, hF, ?_, hc2, hL, ⟨fun _ _ _ => rfl, ?_⟩, ?_, ?_⟩
  · intro r' p' t' e hne
    obtain ⟨l, h1, h2, h3⟩ := hC r' p' t' e
    refine ⟨l, h1, ?_, h3⟩
    rw [hc1 t' (fun e2 => hne (by subst e2; exact hA.2 _ _ _ _ _ e ht))]
    exact h2
  · rintro r' p' ⟨rfl, h1, h2⟩ hcv
    cases e : A r' p' with
    | none => rfl
    | some t' =>
      exfalso
      obtain ⟨f, hf⟩ := fr_sfx h1 h2
      obtain ⟨s, hs⟩ := fr_Cl_up hCl hf ⟨t', e⟩
      exact hcv ⟨f :: p, List.mem_map.mpr ⟨f, hl3 f s hs, rfl⟩, hf⟩
  · have := fr_Ai_step (g := p) (G := []) (List.pairwise_cons.mpr ⟨fun _ h => (by cases h), List.Pairwise.nil⟩) hl1
    rw [List.append_nil] at this
    exact this
  · intro g hg
    obtain ⟨f, hf, e⟩ := List.mem_map.mp hg
    subst e
    exact ⟨⟨rfl, List.suffix_cons f p, fun e => absurd (congrArg List.length e) (by simp)⟩, hl2 f hf⟩
theorem fr_PM_chain {fr pk : Int32} {pa ch nx fa rt : fr_FN} {A B : fr_AT} {r t k : Nat} {p g : List Nat} {G : List (List Nat)} (h : fr_PM fr pk pa ch nx fa rt A B r p t (g :: G)) (hk : A r g = some k) :
    B r g = some k ∧ ∃ l : List Nat, l.Nodup ∧ fr_Ch nx B r g (ch k) l ∧ (∀ f s, B r (f :: g) = some s → f ∈ l) ∧ (∀ f, f ∈ l → ∃ s, A r (f :: g) = some s) ∧ k < 1036 := by
  obtain ⟨⟨hA, ht, hCl, hR, hK⟩, hF, hC, hct, hL, hcut, hai, hG⟩ := h
  have hb : B r g = some k := by
    rw [hcut.1 r g (Or.inr ⟨g, List.mem_cons_self, List.suffix_rfl⟩)]
    exact hk
  obtain ⟨⟨_, h1, h2⟩, _⟩ := hG g List.mem_cons_self
  obtain ⟨l, l1, l2, l3⟩ := hC r g k hb (fun e => h2 e.2)
  refine ⟨hb, l, l1, l2, l3, ?_, (hA.1 _ _ _ hk).2.2.2⟩
  intro f hf
  obtain ⟨s, hs⟩ := fr_Ch_mem l2 f hf
  exact ⟨s, (fr_Cut_sub hcut hs).1⟩
theorem fr_PM_step {fr pk : Int32} {pa ch nx fa rt nx' fa' : fr_FN} {A B : fr_AT} {r t k : Nat} {p g : List Nat} {G : List (List Nat)} (h : fr_PM fr pk pa ch nx fa rt A B r p t (g :: G)) (hk : A r g = some k) {l : List Nat} (hl1 : l.Nodup) (hl2 : ∀ f, f ∈ l → ∃ s, A r (f :: g) = some s) (hl3 : ∀ f s, B r (f :: g) = some s → f ∈ l)
    (c1 : ∀ j, j ≠ k → nx' j = nx j) (c2 : nx' k = fr) (d1 : ∀ j, j ≠ k → fa' j = fa j) (d2 : fa' k = -2) :
    fr_PM (nI k) pk pa ch nx' fa' rt A (fr_del B r g) r p t (l.map (fun f => f :: g) ++ G) := by
  obtain ⟨hb, _⟩ := fr_PM_chain h hk
  obtain ⟨⟨hA, ht, hCl, hR, hK⟩, hF, hC, hct, hL, hcut, hai, hG⟩ := h
  have hinj : ∀ r' p', B r' p' = some k → r' = r ∧ p' = g := fun r' p' e => hA.2 _ _ _ _ _ (fr_Cut_sub hcut e).1 hk
  have hanti := (List.pairwise_cons.mp hai).1
  have hgp := (hG g List.mem_cons_self).1
  have hdk : ∀ {r' p' t'}, fr_del B r g r' p' = some t' → t' ≠ k := by
    intro r' p' t' e e2
    obtain ⟨h1, h2⟩ := fr_del_c e
    rw [e2] at h2
    exact h1 (hinj _ _ h2)
  refine ⟨⟨hA, ht, hCl, hR, hK⟩, ⟨?_, ?_⟩, ?_, hct, ?_, ⟨?_, ?_⟩, fr_Ai_step hai hl1, ?_⟩
  · intro r' t' e
    rw [d1 _ (hdk e)]
    exact hF.1 _ _ (fr_del_c e).2
  · intro r' f p' t' e
    rw [d1 _ (hdk e)]
    exact hF.2 _ _ _ _ (fr_del_c e).2
  · intro r' p' t' e hne
    obtain ⟨e1, e2⟩ := fr_del_c e
    obtain ⟨l', q1, q2, q3⟩ := hC r' p' t' e2 hne
    have hx : ∀ x, ¬ (r' = r ∧ x :: p' = g) := by
      rintro x ⟨rfl, e3⟩
      obtain ⟨_, s1, s2⟩ := hgp
      rw [← e3] at s1 s2
      have s3 := fr_sfx_t s1 s2
      rcases (fr_Cut_sub hcut e2).2 with q | ⟨g', hg', hg2⟩
      · exact q ⟨rfl, s3, fun e4 => hne ⟨rfl, e4⟩⟩
      · rcases List.mem_cons.mp hg' with e4 | hg'
        · rw [e4, ← e3] at hg2
          have := hg2.length_le
          rw [List.length_cons] at this
          omega
        · refine (hanti g' hg').2 ?_
          rw [← e3]
          exact List.IsSuffix.trans hg2 (List.suffix_cons x p')
    refine ⟨l', q1, ?_, ?_⟩
    · refine fr_Ch_congr (fun x hx' => fr_del_n (hx x)) (fun x s hx' e3 => c1 _ ?_) q2
      rintro rfl
      exact hx x (hinj _ _ e3)
    · intro x s e3
      exact q3 x s (fr_del_c e3).2
  · refine fr_del_L hL (hA.1 _ _ _ hk).2.2.2 hinj hb (fun j hj => c1 j ?_) c2 d1 d2
    rintro rfl
    exact hj _ _ hb
  · intro r' p' hc
    by_cases e : r' = r ∧ p' = g
    · obtain ⟨rfl, rfl⟩ := e
      exfalso
      rcases hc with hc | ⟨g', hg', hs⟩
      · exact hc hgp
      · rcases List.mem_append.mp hg' with hg' | hg'
        · obtain ⟨f, hf, e⟩ := List.mem_map.mp hg'
          subst e
          exact (fr_sfx_ne hs).2 rfl
        · exact (hanti g' hg').2 hs
    · rw [fr_del_n e]
      apply hcut.1
      rcases hc with hc | ⟨g', hg', hs⟩
      · exact Or.inl hc
      · right
        rcases List.mem_append.mp hg' with hg' | hg'
        · obtain ⟨f, hf, e⟩ := List.mem_map.mp hg'
          subst e
          exact ⟨g, List.mem_cons_self, (fr_sfx_ne hs).1⟩
        · exact ⟨g', List.mem_cons_of_mem _ hg', hs⟩
  · intro r' p' hsb hcv
    by_cases e : r' = r ∧ p' = g
    · obtain ⟨rfl, rfl⟩ := e
      exact fr_del_s
    · rw [fr_del_n e]
      by_cases hcv2 : fr_Cv (g :: G) p'
      · obtain ⟨g', hg', hs⟩ := hcv2
        rcases List.mem_cons.mp hg' with e2 | hg'
        · subst e2
          obtain ⟨rfl, _⟩ := hsb
          obtain ⟨f, hf⟩ := fr_sfx hs (fun e3 => e ⟨rfl, e3⟩)
          cases e4 : B r' p' with
          | none => rfl
          | some t' =>
            exfalso
            obtain ⟨s, hs2⟩ := fr_Cl_up hCl hf ⟨t', (fr_Cut_sub hcut e4).1⟩
            have hs3 : B r' (f :: g') = some s := by
              rw [hcut.1 r' (f :: g') (Or.inr ⟨g', List.mem_cons_self, List.suffix_cons f g'⟩)]
              exact hs2
            exact hcv ⟨f :: g', List.mem_append_left _ (List.mem_map.mpr ⟨f, hl3 f s hs3, rfl⟩), hf⟩
        · exact absurd ⟨g', List.mem_append_right _ hg', hs⟩ hcv
      · exact hcut.2 r' p' hsb hcv2
  · intro g' hg'
    rcases List.mem_append.mp hg' with hg' | hg'
    · obtain ⟨f, hf, e⟩ := List.mem_map.mp hg'
      subst e
      obtain ⟨_, s1, s2⟩ := hgp
      refine ⟨⟨rfl, List.IsSuffix.trans s1 (List.suffix_cons f g), ?_⟩, hl2 f hf⟩
      intro e
      have := s1.length_le
      have := congrArg List.length e
      rw [List.length_cons] at this
      omega
    · exact hG g' (List.mem_cons_of_mem _ hg')
theorem fr_PM_end {fr pk : Int32} {pa ch nx fa rt : fr_FN} {A B : fr_AT} {r t : Nat} {p : List Nat} (h : fr_PM fr pk pa ch nx fa rt A B r p t []) :
    fr_PI fr pk pa ch nx fa rt B ∧ (∀ r' p', fr_Sb r p r' p' → B r' p' = none) ∧ (∀ r' p', ¬ fr_Sb r p r' p' → B r' p' = A r' p') := by
  obtain ⟨⟨hA, ht, hCl, hR, hK⟩, hF, hC, hct, hL, hcut, hai, hG⟩ := h
  have hnone : ∀ r' p', fr_Sb r p r' p' → B r' p' = none := fun r' p' hs => hcut.2 r' p' hs (by rintro ⟨g, hg, _⟩; cases hg)
  have hsame : ∀ r' p', ¬ fr_Sb r p r' p' → B r' p' = A r' p' := fun r' p' hs => hcut.1 r' p' (Or.inl hs)
  have hsub : ∀ {r' p' t'}, B r' p' = some t' → A r' p' = some t' ∧ ¬ fr_Sb r p r' p' := by
    intro r' p' t' e
    have h1 := fr_Cut_sub hcut e
    refine ⟨h1.1, fun hs => ?_⟩
    rw [hnone _ _ hs] at e
    cases e
  refine ⟨⟨⟨?_, ?_⟩, ⟨hF.1, ?_⟩, ?_, ?_, hL, ?_⟩, hnone, hsame⟩
  · intro r' p' t' e
    exact hA.1 _ _ _ (hsub e).1
  · intro r1 p1 r2 p2 t' e1 e2
    exact hA.2 _ _ _ _ _ (hsub e1).1 (hsub e2).1
  · intro r' f p' t' e
    obtain ⟨h1, s, h2, h3⟩ := hF.2 r' f p' t' e
    refine ⟨h1, s, ?_, h3⟩
    rw [hsame]
    · exact h2
    · rintro ⟨rfl, s1, s2⟩
      refine (hsub e).2 ⟨rfl, List.IsSuffix.trans s1 (List.suffix_cons f p'), ?_⟩
      intro e2
      have := s1.length_le
      have := congrArg List.length e2
      rw [List.length_cons] at this
      omega
  · intro r' t' e
    exact hR _ _ (hsub e).1
  · intro r' p' t' e
    by_cases hk : r' = r ∧ p' = p
    · obtain ⟨rfl, rfl⟩ := hk
      have : t' = t := by
        have := (hsub e).1
        rw [ht] at this
        exact (Option.some.inj this).symm
      subst this
      refine ⟨[], List.nodup_nil, hct, ?_⟩
      intro f s e2
      rw [hnone r' (f :: p') ⟨rfl, List.suffix_cons f p', fun e => absurd (congrArg List.length e) (by simp)⟩] at e2
      cases e2
    · exact hC r' p' t' e hk
  · obtain ⟨n, h1, h2, h3⟩ := hK
    exact ⟨n, h1, h2, fun r' p' t' e => h3 _ _ _ (hsub e).1⟩
theorem fr_Ch_cut {nx nx' : fr_FN} {A A' : fr_AT} {r b k e f : Nat} {p : List Nat} (hinj : ∀ x y s, A r (x :: p) = some s → A r (y :: p) = some s → x = y) (hk : A r (f :: p) = some k) (hb : A r (e :: p) = some b) {l2 : List Nat}
    (hA : ∀ x, x ≠ f → A' r (x :: p) = A r (x :: p)) (h1 : nx' b = nx k) (h2 : ∀ j, j ≠ b → j ≠ k → nx' j = nx j) :
    ∀ {l0 : List Nat} {x : Int32}, (l0 ++ e :: f :: l2).Nodup → fr_Ch nx A r p x (l0 ++ e :: f :: l2) → fr_Ch nx' A' r p x (l0 ++ e :: l2) := by
  intro l0
  induction l0 with
  | nil =>
    intro x hnd h
    obtain ⟨s, s1, s2, s', s3, s4, s5⟩ := h
    rw [List.nil_append, List.nodup_cons, List.nodup_cons] at hnd
    have es : s = b := by rw [hb] at s1; exact (Option.some.inj s1).symm
    have es' : s' = k := by rw [hk] at s3; exact (Option.some.inj s3).symm
    subst es
    subst es'
    have hef : e ≠ f := fun h => hnd.1 (by rw [h]; exact List.mem_cons_self)
    refine ⟨s, by rw [hA e hef]; exact hb, s2, ?_⟩
    rw [h1]
    refine fr_Ch_congr (fun y hy => hA y (fun h => hnd.2.1 (h ▸ hy))) (fun y s2 hy e2 => h2 _ ?_ ?_) s5
    · rintro rfl
      exact hnd.1 (List.mem_cons_of_mem _ (hinj _ _ _ e2 hb ▸ hy))
    · rintro rfl
      exact hnd.2.1 (hinj _ _ _ e2 hk ▸ hy)
  | cons c l0 ih =>
    intro x hnd h
    obtain ⟨s, s1, s2, s3⟩ := h
    rw [List.cons_append, List.nodup_cons] at hnd
    have hc1 : c ≠ f := by
      rintro rfl
      exact hnd.1 (by simp)
    have hc2 : c ≠ e := by
      rintro rfl
      exact hnd.1 (by simp)
    refine ⟨s, by rw [hA c hc1]; exact s1, s2, ?_⟩
    rw [h2 s]
    · exact ih hnd.2 s3
    · rintro rfl
      exact hc2 (hinj _ _ _ s1 hb)
    · rintro rfl
      exact hc1 (hinj _ _ _ s1 hk)
theorem fr_unlink {fr pk : Int32} {pa ch nx fa rt ch' nx' fa' : fr_FN} {A : fr_AT} (h : fr_PI fr pk pa ch nx fa rt A) {r t k f : Nat} {p : List Nat} (ht : A r p = some t) (hk : A r (f :: p) = some k) (hno : ∀ x, A r (x :: f :: p) = none)
    {l l' : List Nat} (hch : fr_Ch nx A r p (ch t) l) (hl' : ∀ x, x ∈ l' ↔ x ∈ l ∧ x ≠ f) (hnd : l'.Nodup) (hcov : ∀ x s, A r (x :: p) = some s → x ∈ l)
    (hnew : fr_Ch nx' (fr_del A r (f :: p)) r p (ch' t) l')
    (b1 : ∀ j, j ≠ t → ch' j = ch j) (c1 : ∀ j, (∀ x, A r (x :: p) ≠ some j) → nx' j = nx j) (c2 : nx' k = fr)
    (d1 : ∀ j, j ≠ k → fa' j = fa j) (d2 : fa' k = -2) : fr_PI (nI k) pk pa ch' nx' fa' rt (fr_del A r (f :: p)) := by
  obtain ⟨hA, hF, hR, hC, hL, hK⟩ := h
  have hinj : ∀ r' p', A r' p' = some k → r' = r ∧ p' = f :: p := fun r' p' e => hA.2 _ _ _ _ _ e hk
  have hdk : ∀ {r' p' t'}, fr_del A r (f :: p) r' p' = some t' → t' ≠ k := by
    intro r' p' t' e e2
    obtain ⟨h1, h2⟩ := fr_del_c e
    rw [e2] at h2
    exact h1 (hinj _ _ h2)
  refine ⟨⟨?_, ?_⟩, ⟨?_, ?_⟩, ?_, ?_, ?_, ?_⟩
  · intro r' p' t' e
    exact hA.1 _ _ _ (fr_del_c e).2
  · intro r1 p1 r2 p2 t' e1 e2
    exact hA.2 _ _ _ _ _ (fr_del_c e1).2 (fr_del_c e2).2
  · intro r' t' e
    rw [d1 _ (hdk e)]
    exact hF.1 _ _ (fr_del_c e).2
  · intro r' x p' t' e
    rw [d1 _ (hdk e)]
    obtain ⟨h1, s, h2, h3⟩ := hF.2 _ _ _ _ (fr_del_c e).2
    refine ⟨h1, s, ?_, h3⟩
    rw [fr_del_n]
    · exact h2
    · rintro ⟨rfl, rfl⟩
      have := (fr_del_c e).2
      rw [hno] at this
      cases this
  · intro r' t' e
    exact hR _ _ (fr_del_c e).2
  · intro r' p' t' e
    obtain ⟨e1, e2⟩ := fr_del_c e
    by_cases hkey : r' = r ∧ p' = p
    · obtain ⟨rfl, rfl⟩ := hkey
      have : t' = t := by rw [ht] at e2; exact (Option.some.inj e2).symm
      subst this
      refine ⟨l', hnd, hnew, ?_⟩
      intro x s e3
      obtain ⟨e4, e5⟩ := fr_del_c e3
      exact (hl' x).mpr ⟨hcov x s e5, fun e6 => e4 ⟨rfl, by rw [e6]⟩⟩
    · obtain ⟨l2, q1, q2, q3⟩ := hC r' p' t' e2
      have hx : ∀ x, ¬ (r' = r ∧ x :: p' = f :: p) := by
        rintro x ⟨h1, h2⟩
        cases h2
        exact hkey ⟨h1, rfl⟩
      refine ⟨l2, q1, ?_, ?_⟩
      · rw [b1 t' (fun e3 => hkey (by subst e3; exact hA.2 _ _ _ _ _ e2 ht))]
        refine fr_Ch_congr (fun x hx' => fr_del_n (hx x)) (fun x s hx' e3 => c1 s ?_) q2
        intro y e4
        have := hA.2 _ _ _ _ _ e3 e4
        exact hkey ⟨this.1, (List.cons.inj this.2).2⟩
      · intro x s e3
        exact q3 x s (fr_del_c e3).2
  · refine fr_del_L hL (hA.1 _ _ _ hk).2.2.2 hinj hk (fun j hj => c1 j (fun x => hj _ _)) c2 d1 d2
  · obtain ⟨n, h1, h2, h3⟩ := hK
    exact ⟨n, h1, h2, fun r' p' t' e => h3 _ _ _ (fr_del_c e).2⟩
end
section
def fr_i (b : Bool) : Int32 := if b = true then 1 else 0
theorem fr_i_t : fr_i true = 1 := rfl
theorem fr_i_f : fr_i false = 0 := rfl
theorem fr_m3 (a b : Nat) : nI a * 3 + nI b = nI (3 * a + b) := by
  show nI a * nI 3 + nI b = _
  rw [pk_mul, nI_add, Nat.mul_comm]
theorem fr_m4 (a b : Nat) : nI a * 4 + nI b = nI (4 * a + b) := by
  show nI a * nI 4 + nI b = _
  rw [pk_mul, nI_add, Nat.mul_comm]
theorem fr_m5 (a b : Nat) : nI a * 5 + nI b = nI (5 * a + b) := by
  show nI a * nI 5 + nI b = _
  rw [pk_mul, nI_add, Nat.mul_comm]
theorem fr_n4 (a : Nat) : nI a * 4 = nI (4 * a) := by
  show nI a * nI 4 = _
  rw [pk_mul, Nat.mul_comm]
theorem fr_n5 (a : Nat) : nI a * 5 = nI (5 * a) := by
  show nI a * nI 5 = _
  rw [pk_mul, Nat.mul_comm]
theorem fr_n3 (a : Nat) : nI a * 3 = nI (3 * a) := by
  show nI a * nI 3 = _
  rw [pk_mul, Nat.mul_comm]
theorem fr_m1p {n : Nat} (h : 0 < n) : nI n + (-1) = nI (n - 1) := by
  obtain ⟨m, rfl⟩ : ∃ m, n = m + 1 := ⟨n - 1, by omega⟩
  exact pk_m1 m
theorem fr_odd (x : Int32) : x &&& 1 = 0 ∨ x &&& 1 = 1 := by
  obtain ⟨j, hj, e⟩ := pk_andE x (m := 1) 1 (by decide)
  have : j = 0 ∨ j = 1 := by omega
  rcases this with h | h
  · left; rw [e, h]; rfl
  · right; rw [e, h]; rfl
theorem fr_gv_lt {p : List Nat} (h : ∀ x, x ∈ p → x < 6) (j : Nat) : fr_gv p j < 6 := by
  induction p with
  | nil => exact (by decide : 0 < 6)
  | cons f p ih =>
    rw [fr_gv]
    split
    · exact h f List.mem_cons_self
    · exact ih (fun x hx => h x (List.mem_cons_of_mem _ hx))
theorem fr_gv_c {f : Nat} {p : List Nat} {j : Nat} (h : j < p.length) : fr_gv (f :: p) j = fr_gv p j := by
  rw [fr_gv, if_neg (by omega)]
theorem fr_gv_e {f : Nat} {p : List Nat} : fr_gv (f :: p) p.length = f := by
  rw [fr_gv, if_pos rfl]
def fr_Bd (S : fr_SR) (r c i x : Nat) : Prop :=
  ∃ c' i', 5 * r ≤ c' ∧ c' ≤ c ∧ 4 * c' ≤ i' ∧ i' < 4 * c' + fr_tn S c' ∧ i' < i ∧ fr_tH S i' = 3 ∧ fr_tO S i' = nI x
def fr_WT (S : fr_SR) (r c i : Nat) : Prop :=
  (∃ fl h, fr_tF S i = nI fl ∧ fl < 3 ∧ fr_tH S i = nI h ∧ h < 4) ∧
  (fr_tH S i = 3 → fr_cN S c = 0 ∧ ∃ x, x < 4 ∧ fr_tO S i = nI x ∧ fr_vL S (4 * r + x) = fr_cL S c ∧ fr_vF S (4 * r + x) = fr_tF S i) ∧
  (fr_tH S i ≠ 3 → fr_tO S i &&& 1 ≠ 0 → ∃ x, x < 4 ∧ fr_tO S i >>> ((1 : Int32) &&& 31) = nI x ∧ fr_Bd S r c i x)
def fr_WC (S : fr_SR) (r c : Nat) : Prop :=
  fr_cT S c = nI (fr_tn S c) ∧ fr_tn S c ≤ 4 ∧ (fr_cN S c = 0 ∨ fr_cN S c = 1) ∧ fr_cL S c = nI (fr_pc S r (c - 5 * r)) ∧
  (∀ i, 4 * c ≤ i → i < 4 * c + fr_tn S c → fr_WT S r c i)
def fr_WR (S : fr_SR) (r : Nat) : Prop :=
  (fr_co S r = nI (fr_cn S r) ∧ fr_cn S r ≤ 5 ∧ fr_po S r = nI (fr_pn S r) ∧ fr_pn S r ≤ 3 ∧ fr_pc S r (fr_cn S r) = fr_pn S r ∧ fr_cn S r ≤ fr_pn S r + 2) ∧
  (∀ c, 5 * r ≤ c → c < 5 * r + fr_cn S r → fr_WC S r c)
theorem fr_pc_mono {S : fr_SR} {r a b : Nat} (h : a ≤ b) : fr_pc S r a ≤ fr_pc S r b := by
  obtain ⟨m, rfl⟩ : ∃ m, b = a + m := ⟨b - a, by omega⟩
  unfold fr_pc
  rw [fr_cc_add]
  omega
theorem fr_pc_lt {S : fr_SR} {r a b : Nat} (h : a < b) (hn : fr_cN S (5 * r + a) = 0) : fr_pc S r a < fr_pc S r b := by
  have h1 := fr_pc_mono (S := S) (r := r) (a := a + 1) (b := b) h
  have h2 : fr_pc S r (a + 1) = fr_pc S r a + 1 := by
    unfold fr_pc
    rw [fr_cc_add]
    show _ + ((if (!fr_ng S (5 * r + a)) = true then 1 else 0) + 0) = _
    unfold fr_ng
    rw [hn]
    rfl
  omega
theorem fr_WR_d {S : fr_SR} {r c d : Nat} (hW : fr_WR S r) (h1 : 5 * r ≤ c) (h2 : c < 5 * r + fr_cn S r) (hd : fr_cL S c = nI d) (hd2 : d < 2 ^ 31) : d = fr_pc S r (c - 5 * r) ∧ d ≤ fr_pn S r := by
  obtain ⟨⟨_, hcn, _, hpn, hpp, _⟩, hC⟩ := hW
  have h3 := (hC c h1 h2).2.2.2.1
  have h4 := fr_pc_mono (S := S) (r := r) (a := c - 5 * r) (b := fr_cn S r) (by omega)
  rw [hd] at h3
  have h5 := (nI_eq hd2 (by omega)).mp h3
  exact ⟨h5, by omega⟩
/-- the variable that a test asks for: its place, level and field -/
theorem fr_WT_var {S : fr_SR} {r c i d : Nat} (hW : fr_WR S r) (h1 : 5 * r ≤ c) (h2 : c < 5 * r + fr_cn S r) (hd : fr_cL S c = nI d) (hd2 : d < 2 ^ 31) (h3 : 4 * c ≤ i) (h4 : i < 4 * c + fr_tn S c) (h5 : fr_tH S i ≠ 3) (h6 : fr_tO S i &&& 1 ≠ 0) :
    ∃ x l fl, x < 4 ∧ fr_tO S i >>> ((1 : Int32) &&& 31) = nI x ∧ fr_Bd S r c i x ∧ fr_vL S (4 * r + x) = nI l ∧ fr_vF S (4 * r + x) = nI fl ∧ fl < 3 ∧ l ≤ d ∧ (l = d → fr_cN S c = 0) := by
  have hdd := fr_WR_d hW h1 h2 hd hd2
  have hC := hW.2
  obtain ⟨x, hx, hx2, hb⟩ := ((hC c h1 h2).2.2.2.2 i h3 h4).2.2 h5 h6
  have hb' := hb
  obtain ⟨c', i', b1, b2, b3, b4, b5, b6, b7⟩ := hb'
  have hWC := hC c' b1 (by omega)
  obtain ⟨⟨fl, h, k1, k2, k3, k4⟩, hT3, _⟩ := hWC.2.2.2.2 i' b3 b4
  obtain ⟨n0, y, hy, hy2, hy3, hy4⟩ := hT3 b6
  have ey : y = x := by
    rw [hy2] at b7
    exact (nI_eq (by omega) (by omega)).mp b7
  subst ey
  rw [hWC.2.2.2.1] at hy3
  rw [k1] at hy4
  have n0' : fr_cN S (5 * r + (c' - 5 * r)) = 0 := by rw [show 5 * r + (c' - 5 * r) = c' by omega]; exact n0
  have hm := fr_pc_mono (S := S) (r := r) (a := c' - 5 * r) (b := c - 5 * r) (by omega)
  refine ⟨y, _, fl, hx, hx2, hb, hy3, hy4, k2, by omega, ?_⟩
  intro e
  by_cases ec : c' = c
  · rw [← ec]; exact n0
  · have := fr_pc_lt (S := S) (r := r) (a := c' - 5 * r) (b := c - 5 * r) (by omega) n0'
    omega
section
variable {S : fr_SR} {D : fr_DR} {hx : Int32} {o : fr_FN} {q : fr_QR} {z : fr_ZR} {A : fr_AT}
theorem fr_x_given8 {post : Int32 → Prop} {r j : Nat} (hQ : fr_PQ q A) : ∀ (p : List Nat) (t n : Nat), A r p = some t → j < p.length → p.length ≤ n → post (nI (fr_gv p j)) → wX_given_8 post (nI j) (nI (fr_ru S)) (fr_bX S) (nI (fr_lv D).length) (nI (fr_md D)) (fr_fr q) (fr_pk q) (fr_pr D) hx (fr_sa S) (fr_co S) (fr_po S) (fr_te S) (fr_ac S) (fr_cK S) (fr_cT S) (fr_cL S) (fr_cN S) (fr_tF S) (fr_tH S) (fr_tO S) (fr_vL S) (fr_vF S) (fr_aW S) (fr_aK S) (fr_aX S) (fr_aY S) (fr_aZ S) (fr_nu D) (fr_fd D) (fr_kd D) o (fr_pa q) (fr_ch q) (fr_nx q) (fr_fa q) (fr_st q) (fr_rt q) (fr_zs z) (fr_zg z) (fr_zb z) (fr_zm z) (fr_zo z) (fr_zn z) (fr_zf z) (fr_ou D) n (nI t) (nI (p.length - 1)) := by
  intro p
  induction p with
  | nil => intro t n _ h; exact absurd h (Nat.not_lt_zero _)
  | cons f p ih =>
    intro t n ht hj hn hp
    have hl := (hQ.1.1 _ _ _ ht).2.1
    have htl := (hQ.1.1 _ _ _ ht).2.2.2
    obtain ⟨h1, s, h2, h3⟩ := hQ.2.1.2 _ _ _ _ ht
    rw [List.length_cons] at hl hj hn
    obtain ⟨n, rfl⟩ : ∃ m, n = m + 1 := ⟨n - 1, by omega⟩
    have hin : vp_in (nI t) 1036 := vp_in_nI htl (by omega)
    have hcl : (nI t).toNatClampNeg = t := nI_clamp (by omega)
    rw [show (f :: p).length - 1 = p.length from rfl]
    by_cases e : p.length ≤ j
    · refine br_t (nI_le e (by omega)) ⟨hin, ?_⟩
      rw [hcl, h1]
      rw [fr_gv, if_pos (by omega)] at hp
      exact hp
    · refine br_f (nI_ge (by omega) (by omega)) ⟨hin, nm_r (e' := nI s) (by rw [hcl]; exact h3) (nm_r (e' := nI (p.length - 1)) (fr_m1p (by omega)) ?_)⟩
      rw [fr_gv_c (by omega)] at hp
      exact ih s n h2 (by omega) (by omega) hp
theorem fr_x_given {post : Int32 → Prop} {r j t : Nat} {p : List Nat} (hQ : fr_PQ q A) (ht : A r p = some t) (hj : j < p.length) (hp : post (nI (fr_gv p j))) : wpX_given post (fr_mX S D hx o q z) (nI t) (nI p.length) (nI j) := by
  have e : nI p.length - 1 = nI (p.length - 1) := by
    obtain ⟨m, hm⟩ : ∃ m, p.length = m + 1 := ⟨p.length - 1, by omega⟩
    rw [hm]; exact nI_pred m
  exact nm_r e ⟨p.length, fr_x_given8 hQ p t _ ht hj (Nat.le_refl _) hp⟩
theorem fr_x_depth4 {post : Int32 → Prop} {r : Nat} (hQ : fr_PQ q A) : ∀ (p : List Nat) (t n i : Nat), A r p = some t → p.length < n → post (nI (i + p.length)) → wX_depth_4 post (nI (fr_ru S)) (fr_bX S) (nI (fr_lv D).length) (nI (fr_md D)) (fr_fr q) (fr_pk q) (fr_pr D) hx (fr_sa S) (fr_co S) (fr_po S) (fr_te S) (fr_ac S) (fr_cK S) (fr_cT S) (fr_cL S) (fr_cN S) (fr_tF S) (fr_tH S) (fr_tO S) (fr_vL S) (fr_vF S) (fr_aW S) (fr_aK S) (fr_aX S) (fr_aY S) (fr_aZ S) (fr_nu D) (fr_fd D) (fr_kd D) o (fr_pa q) (fr_ch q) (fr_nx q) (fr_fa q) (fr_st q) (fr_rt q) (fr_zs z) (fr_zg z) (fr_zb z) (fr_zm z) (fr_zo z) (fr_zn z) (fr_zf z) (fr_ou D) n (nI i) (nI t) := by
  intro p
  induction p with
  | nil =>
    intro t n i ht hn hp
    have htl := (hQ.1.1 _ _ _ ht).2.2.2
    obtain ⟨n, rfl⟩ : ∃ m, n = m + 1 := ⟨n - 1, by omega⟩
    have hcl : (nI t).toNatClampNeg = t := nI_clamp (by omega)
    refine ⟨vp_in_nI htl (by omega), br_t (by rw [hcl, hQ.2.1.1 _ _ ht]; decide) hp⟩
  | cons f p ih =>
    intro t n i ht hn hp
    have hv := hQ.1.1 _ _ _ ht
    have hf := hv.2.2.1 f List.mem_cons_self
    have htl := hv.2.2.2
    obtain ⟨h1, s, h2, h3⟩ := hQ.2.1.2 _ _ _ _ ht
    rw [List.length_cons] at hn hp
    obtain ⟨n, rfl⟩ : ∃ m, n = m + 1 := ⟨n - 1, by omega⟩
    have hin : vp_in (nI t) 1036 := vp_in_nI htl (by omega)
    have hcl : (nI t).toNatClampNeg = t := nI_clamp (by omega)
    refine ⟨hin, br_f (by rw [hcl, h1]; exact nI_pos (by omega)) (nm_r (e' := nI (i + 1)) (nI_1 i) ⟨hin, nm_r (e' := nI s) (by rw [hcl]; exact h3) ?_⟩)⟩
    exact ih s n (i + 1) h2 (by omega) (by rw [show i + 1 + p.length = i + (p.length + 1) by omega]; exact hp)
theorem fr_x_depth {post : Int32 → Prop} {r t : Nat} {p : List Nat} (hQ : fr_PQ q A) (ht : A r p = some t) (hp : post (nI p.length)) : wpX_depth post (fr_mX S D hx o q z) (nI t) :=
  ⟨p.length + 1, fr_x_depth4 hQ p t _ 0 ht (Nat.lt_succ_self _) (by rw [Nat.zero_add]; exact hp)⟩
theorem fr_x_ruleOf23 {post : Int32 → Prop} {r t R : Nat} (hQ : fr_PQ q A) (hR : ∀ i, (∃ s, A i [] = some s) ↔ i < R) (ht : A r [] = some t) (hp : post (nI r)) : ∀ (k i : Nat), i + k = r → wX_ruleOf_23 post (nI t) (nI (fr_ru S)) (fr_bX S) (nI (fr_lv D).length) (nI (fr_md D)) (fr_fr q) (fr_pk q) (fr_pr D) hx (fr_sa S) (fr_co S) (fr_po S) (fr_te S) (fr_ac S) (fr_cK S) (fr_cT S) (fr_cL S) (fr_cN S) (fr_tF S) (fr_tH S) (fr_tO S) (fr_vL S) (fr_vF S) (fr_aW S) (fr_aK S) (fr_aX S) (fr_aY S) (fr_aZ S) (fr_nu D) (fr_fd D) (fr_kd D) o (fr_pa q) (fr_ch q) (fr_nx q) (fr_fa q) (fr_st q) (fr_rt q) (fr_zs z) (fr_zg z) (fr_zb z) (fr_zm z) (fr_zo z) (fr_zn z) (fr_zf z) (fr_ou D) (k + 1) (nI i) := by
  have hr := (hQ.1.1 _ _ _ ht).1
  have hrR := (hR r).mp ⟨t, ht⟩
  have htl := (hQ.1.1 _ _ _ ht).2.2.2
  intro k
  induction k with
  | zero =>
    intro i hi
    have : i = r := by omega
    subst this
    refine ⟨vp_in_nI hr (by omega), br_t ?_ hp⟩
    rw [nI_clamp (by omega)]
    exact hQ.2.2.1 _ _ ht
  | succ k ih =>
    intro i hi
    obtain ⟨s, hs⟩ := (hR i).mpr (by omega)
    have hsl := (hQ.1.1 _ _ _ hs).2.2.2
    refine ⟨vp_in_nI (by omega) (by omega), br_f ?_ (nm_r (e' := nI (i + 1)) (nI_1 i) (ih (i + 1) (by omega)))⟩
    rw [nI_clamp (by omega), hQ.2.2.1 _ _ hs, nI_eq (by omega) (by omega)]
    rintro rfl
    have := (hQ.1.2 _ _ _ _ _ hs ht).1
    omega
theorem fr_x_ruleOf4 {post : Int32 → Prop} {r R : Nat} (hQ : fr_PQ q A) (hR : ∀ i, (∃ s, A i [] = some s) ↔ i < R) (hp : post (nI r)) : ∀ (p : List Nat) (t n : Nat), A r p = some t → p.length < n → wX_ruleOf_4 post 0 (nI (fr_ru S)) (fr_bX S) (nI (fr_lv D).length) (nI (fr_md D)) (fr_fr q) (fr_pk q) (fr_pr D) hx (fr_sa S) (fr_co S) (fr_po S) (fr_te S) (fr_ac S) (fr_cK S) (fr_cT S) (fr_cL S) (fr_cN S) (fr_tF S) (fr_tH S) (fr_tO S) (fr_vL S) (fr_vF S) (fr_aW S) (fr_aK S) (fr_aX S) (fr_aY S) (fr_aZ S) (fr_nu D) (fr_fd D) (fr_kd D) o (fr_pa q) (fr_ch q) (fr_nx q) (fr_fa q) (fr_st q) (fr_rt q) (fr_zs z) (fr_zg z) (fr_zb z) (fr_zm z) (fr_zo z) (fr_zn z) (fr_zf z) (fr_ou D) n (nI t) := by
  intro p
  induction p with
  | nil =>
    intro t n ht hn
    have htl := (hQ.1.1 _ _ _ ht).2.2.2
    obtain ⟨n, rfl⟩ : ∃ m, n = m + 1 := ⟨n - 1, by omega⟩
    have hcl : (nI t).toNatClampNeg = t := nI_clamp (by omega)
    exact ⟨vp_in_nI htl (by omega), br_t (by rw [hcl, hQ.2.1.1 _ _ ht]; decide) ⟨r + 1, fr_x_ruleOf23 hQ hR ht hp r 0 (by omega)⟩⟩
  | cons f p ih =>
    intro t n ht hn
    have hv := hQ.1.1 _ _ _ ht
    have hf := hv.2.2.1 f List.mem_cons_self
    have htl := hv.2.2.2
    obtain ⟨h1, s, h2, h3⟩ := hQ.2.1.2 _ _ _ _ ht
    rw [List.length_cons] at hn
    obtain ⟨n, rfl⟩ : ∃ m, n = m + 1 := ⟨n - 1, by omega⟩
    have hin : vp_in (nI t) 1036 := vp_in_nI htl (by omega)
    have hcl : (nI t).toNatClampNeg = t := nI_clamp (by omega)
    exact ⟨hin, br_f (by rw [hcl, h1]; exact nI_pos (by omega)) ⟨hin, nm_r (e' := nI s) (by rw [hcl]; exact h3) (ih s n h2 (by omega))⟩⟩
theorem fr_x_ruleOf {post : Int32 → Prop} {r t R : Nat} {p : List Nat} (hQ : fr_PQ q A) (hR : ∀ i, (∃ s, A i [] = some s) ↔ i < R) (ht : A r p = some t) (hp : post (nI r)) : wpX_ruleOf post (fr_mX S D hx o q z) (nI t) :=
  ⟨p.length + 1, fr_x_ruleOf4 hQ hR hp p t _ ht (Nat.lt_succ_self _)⟩
theorem fr_x_value {post : Int32 → Prop} {r t : Nat} {p : List Nat} {x : Int32} (hQ : fr_PQ q A) (ht : A r p = some t)
    (hv : x &&& 1 ≠ 0 → ∃ y l fl, y < 4 ∧ x >>> ((1 : Int32) &&& 31) = nI y ∧ fr_vL S (4 * r + y) = nI l ∧ fr_vF S (4 * r + y) = nI fl ∧ fl < 3 ∧ l < p.length)
    (hp : post (fr_ov S (fr_fd D) r (fr_gv p) x)) : wpX_value post (fr_mX S D hx o q z) (nI r) (nI t) (nI p.length) x := by
  have hval := hQ.1.1 _ _ _ ht
  by_cases hx0 : x &&& 1 = 0
  · refine br_t hx0 ?_
    rw [fr_ov, if_pos hx0] at hp
    exact hp
  · obtain ⟨y, l, fl, h1, h2, h3, h4, h5, h6⟩ := hv hx0
    have e1 : nI r * 4 + x >>> ((1 : Int32) &&& 31) = nI (4 * r + y) := by rw [h2, fr_m4]
    have hin : vp_in (nI (4 * r + y)) 16 := vp_in_nI (by omega) (by omega)
    have hcl : (nI (4 * r + y)).toNatClampNeg = 4 * r + y := nI_clamp (by omega)
    have hg := fr_gv_lt hval.2.2.1 l
    rw [fr_ov, if_neg hx0] at hp
    have e2 : fr_vx x = y := by unfold fr_vx; rw [h2]; exact nI_clamp (by omega)
    rw [e2] at hp
    have e3 : fr_vl S (4 * r + y) = l := by unfold fr_vl; rw [h3]; exact nI_clamp (by omega)
    have e4 : fr_vf S (4 * r + y) = fl := by unfold fr_vf; rw [h4]; exact nI_clamp (by omega)
    rw [e3, e4] at hp
    refine br_f hx0 (nm_r e1 ⟨hin, ?_⟩)
    rw [hcl, h3]
    refine fr_x_given hQ ht h6 ⟨hin, ?_⟩
    rw [h4, fr_m3]
    refine ⟨vp_in_nI (by omega) (by omega), ?_⟩
    rw [nI_clamp (by omega)]
    exact hp
end
end
section
section
variable {S : fr_SR} {D : fr_DR} {hx : Int32} {o : fr_FN} {q : fr_QR} {z : fr_ZR} {A : fr_AT}
theorem fr_x_p169 {post J : Int32 → Prop} {x1 x2 x3 x4 x5 h v w : Int32} {i : Nat} (h1 : fr_t3 h v w = true → J (nI (i + 1))) (h2 : fr_t3 h v w = false → post 0) : wX_passes_169 post J x1 x2 x3 x4 x5 (nI i) h v w (nI (fr_ru S)) (fr_bX S) (nI (fr_lv D).length) (nI (fr_md D)) (fr_fr q) (fr_pk q) (fr_pr D) hx (fr_sa S) (fr_co S) (fr_po S) (fr_te S) (fr_ac S) (fr_cK S) (fr_cT S) (fr_cL S) (fr_cN S) (fr_tF S) (fr_tH S) (fr_tO S) (fr_vL S) (fr_vF S) (fr_aW S) (fr_aK S) (fr_aX S) (fr_aY S) (fr_aZ S) (fr_nu D) (fr_fd D) (fr_kd D) o (fr_pa q) (fr_ch q) (fr_nx q) (fr_fa q) (fr_st q) (fr_rt q) (fr_zs z) (fr_zg z) (fr_zb z) (fr_zm z) (fr_zo z) (fr_zn z) (fr_zf z) (fr_ou D) := by
  unfold fr_t3 at h1 h2
  have e : nI i + 1 = nI (i + 1) := nI_1 i
  refine br_c (fun c0 => ?_) (fun c0 => ?_)
  · rw [if_pos c0] at h1 h2
    exact br_c (fun c1 => nm_r e (h1 (decide_eq_true c1))) (fun c1 => h2 (decide_eq_false c1))
  · rw [if_neg c0] at h1 h2
    refine br_c (fun c1 => ?_) (fun c1 => ?_)
    · rw [if_pos c1] at h1 h2
      exact br_c (fun c2 => h2 (by rw [decide_eq_true c2]; rfl)) (fun c2 => nm_r e (h1 (by rw [decide_eq_false c2]; rfl)))
    · rw [if_neg c1] at h1 h2
      exact br_c (fun c2 => nm_r e (h1 (decide_eq_true c2))) (fun c2 => h2 (decide_eq_false c2))
theorem fr_x_p22 {post : Int32 → Prop} {r c f t : Nat} {p : List Nat} {g : Nat → Nat} (hQ : fr_PQ q A) (ht : A r p = some t) (hW : fr_WR S r) (hc1 : 5 * r ≤ c) (hc2 : c < 5 * r + fr_cn S r) (hd : fr_cL S c = nI p.length) (hf : f < 6)
    (hg1 : ∀ l, l < p.length → g l = fr_gv p l) (hg2 : fr_cN S c = 0 → g p.length = f) :
    ∀ (k n i : Nat), i + k = 4 * c + fr_tn S c → 4 * c ≤ i → k < n → post (fr_i (fr_al (fr_ts S (fr_fd D) r g f) i k)) → wX_passes_22 post (nI r) (nI c) (nI f) (nI t) (nI p.length) (nI (fr_ru S)) (fr_bX S) (nI (fr_lv D).length) (nI (fr_md D)) (fr_fr q) (fr_pk q) (fr_pr D) hx (fr_sa S) (fr_co S) (fr_po S) (fr_te S) (fr_ac S) (fr_cK S) (fr_cT S) (fr_cL S) (fr_cN S) (fr_tF S) (fr_tH S) (fr_tO S) (fr_vL S) (fr_vF S) (fr_aW S) (fr_aK S) (fr_aX S) (fr_aY S) (fr_aZ S) (fr_nu D) (fr_fd D) (fr_kd D) o (fr_pa q) (fr_ch q) (fr_nx q) (fr_fa q) (fr_st q) (fr_rt q) (fr_zs z) (fr_zg z) (fr_zb z) (fr_zm z) (fr_zo z) (fr_zn z) (fr_zf z) (fr_ou D) n (nI i) := by
  have hval := hQ.1.1 _ _ _ ht
  have hcn := hW.1.2.1
  have hWC := hW.2 c hc1 hc2
  have htn := hWC.2.1
  have hcin : vp_in (nI c) 20 := vp_in_nI (by omega) (by omega)
  have hccl : (nI c).toNatClampNeg = c := nI_clamp (by omega)
  have e0 : nI c * 4 + fr_cT S (nI c).toNatClampNeg = nI (4 * c + fr_tn S c) := by rw [hccl, hWC.1, fr_m4]
  intro k
  induction k with
  | zero =>
    intro n i hi h4 hn hp
    obtain ⟨n, rfl⟩ : ∃ m, n = m + 1 := ⟨n - 1, by omega⟩
    refine ⟨hcin, br_t ?_ hp⟩
    rw [e0]
    exact nI_le (by omega) (by omega)
  | succ k ih =>
    intro n i hi h4 hn hp
    obtain ⟨n, rfl⟩ : ∃ m, n = m + 1 := ⟨n - 1, by omega⟩
    have hin : vp_in (nI i) 80 := vp_in_nI (by omega) (by omega)
    have hcl : (nI i).toNatClampNeg = i := nI_clamp (by omega)
    have hWT := hWC.2.2.2.2 i h4 (by omega)
    obtain ⟨⟨fl, hh, k1, k2, k3, k4⟩, _, _⟩ := hWT
    have e1 : nI f * 3 + fr_tF S (nI i).toNatClampNeg = nI (3 * f + fl) := by rw [hcl, k1, fr_m3]
    have e2 : (fr_tF S i).toNatClampNeg = fl := by rw [k1]; exact nI_clamp (by omega)
    refine ⟨hcin, br_f ?_ ⟨hin, nm_r (e' := fr_tH S i) (by rw [hcl]) ⟨hin, ?_⟩⟩⟩
    · rw [e0]
      exact nI_ge (by omega) (by omega)
    rw [e1]
    refine ⟨vp_in_nI (by omega) (by omega), nm_r (e' := fr_fd D (3 * f + fl)) (by rw [nI_clamp (by omega)]) ⟨hin, nm_r (e' := fr_tO S i) (by rw [hcl]) ?_⟩⟩
    rw [fr_al] at hp
    by_cases h3 : fr_tH S i = 3
    · refine br_t h3 (nm_r (nI_1 i) (ih n (i + 1) (by omega) (by omega) (by omega) ?_))
      rw [fr_ts, if_pos h3, Bool.true_and] at hp
      exact hp
    · refine br_f h3 ?_
      rw [fr_ts, if_neg h3, e2] at hp
      have hJ : fr_t3 (fr_tH S i) (fr_fd D (3 * f + fl)) (fr_ov S (fr_fd D) r g (fr_tO S i)) = true → wX_passes_22 post (nI r) (nI c) (nI f) (nI t) (nI p.length) (nI (fr_ru S)) (fr_bX S) (nI (fr_lv D).length) (nI (fr_md D)) (fr_fr q) (fr_pk q) (fr_pr D) hx (fr_sa S) (fr_co S) (fr_po S) (fr_te S) (fr_ac S) (fr_cK S) (fr_cT S) (fr_cL S) (fr_cN S) (fr_tF S) (fr_tH S) (fr_tO S) (fr_vL S) (fr_vF S) (fr_aW S) (fr_aK S) (fr_aX S) (fr_aY S) (fr_aZ S) (fr_nu D) (fr_fd D) (fr_kd D) o (fr_pa q) (fr_ch q) (fr_nx q) (fr_fa q) (fr_st q) (fr_rt q) (fr_zs z) (fr_zg z) (fr_zb z) (fr_zm z) (fr_zo z) (fr_zn z) (fr_zf z) (fr_ou D) n (nI (i + 1)) := by
        intro e
        rw [e, Bool.true_and] at hp
        exact ih n (i + 1) (by omega) (by omega) (by omega) hp
      have hK : fr_t3 (fr_tH S i) (fr_fd D (3 * f + fl)) (fr_ov S (fr_fd D) r g (fr_tO S i)) = false → post 0 := by
        intro e
        rw [e, Bool.false_and] at hp
        exact hp
      clear hp
      by_cases ho : fr_tO S i &&& 1 = 0
      · have ho1 : ¬ fr_tO S i &&& 1 = 1 := by rw [ho]; decide
        have e5 : fr_ov S (fr_fd D) r g (fr_tO S i) = fr_ov S (fr_fd D) r (fr_gv p) (fr_tO S i) := by
          unfold fr_ov
          rw [if_pos ho, if_pos ho]
        rw [e5] at hJ hK
        exact br_f ho1 (br_t rfl (fr_x_value hQ ht (fun h => absurd ho h) (fr_x_p169 hJ hK)))
      · have ho1 : fr_tO S i &&& 1 = 1 := by
          rcases fr_odd (fr_tO S i) with h | h
          · exact absurd h ho
          · exact h
        obtain ⟨x, l, fl2, v1, v2, v3, v4, v5, v6, v7, v8⟩ := fr_WT_var hW hc1 hc2 hd (by omega) h4 (by omega) h3 ho
        have e6 : nI r * 4 + fr_tO S i >>> ((1 : Int32) &&& 31) = nI (4 * r + x) := by rw [v2, fr_m4]
        have hin6 : vp_in (nI (4 * r + x)) 16 := vp_in_nI (by omega) (by omega)
        have hcl6 : (nI (4 * r + x)).toNatClampNeg = 4 * r + x := nI_clamp (by omega)
        have e7 : fr_vx (fr_tO S i) = x := by unfold fr_vx; rw [v2]; exact nI_clamp (by omega)
        have e8 : fr_vl S (4 * r + x) = l := by unfold fr_vl; rw [v4]; exact nI_clamp (by omega)
        have e9 : fr_vf S (4 * r + x) = fl2 := by unfold fr_vf; rw [v5]; exact nI_clamp (by omega)
        have e10 : fr_ov S (fr_fd D) r g (fr_tO S i) = fr_fd D (3 * g l + fl2) := by
          unfold fr_ov
          rw [if_neg ho, e7, e8, e9]
        refine br_t ho1 ?_
        rw [e6]
        refine ⟨hin6, ?_⟩
        rw [hcl6, v4]
        by_cases hl : l = p.length
        · have hn0 := v8 hl
          refine br_t (by rw [hl]) ⟨hcin, br_t (by rw [hccl]; exact hn0) (br_f (by decide) ?_)⟩
          rw [e6]
          refine ⟨hin6, ?_⟩
          rw [hcl6, v5, fr_m3]
          refine ⟨vp_in_nI (by omega) (by omega), nm_r (e' := fr_ov S (fr_fd D) r g (fr_tO S i)) ?_ (fr_x_p169 hJ hK)⟩
          rw [nI_clamp (by omega), e10, hl, hg2 hn0]
        · have hll : l < p.length := by omega
          have e11 : fr_ov S (fr_fd D) r g (fr_tO S i) = fr_ov S (fr_fd D) r (fr_gv p) (fr_tO S i) := by
            rw [e10]
            unfold fr_ov
            rw [if_neg ho, e7, e8, e9, hg1 l hll]
          rw [e11] at hJ hK
          refine br_f (by rw [nI_eq (by omega) (by omega)]; exact hl) (br_t rfl (fr_x_value hQ ht (fun _ => ⟨x, l, fl2, v1, v2, v4, v5, v6, hll⟩) (fr_x_p169 hJ hK)))
theorem fr_x_passes {post : Int32 → Prop} {r c f t : Nat} {p : List Nat} (g : Nat → Nat) (hQ : fr_PQ q A) (ht : A r p = some t) (hW : fr_WR S r) (hc1 : 5 * r ≤ c) (hc2 : c < 5 * r + fr_cn S r) (hd : fr_cL S c = nI p.length) (hf : f < 6)
    (hg1 : ∀ l, l < p.length → g l = fr_gv p l) (hg2 : fr_cN S c = 0 → g p.length = f)
    (hp : post (fr_i (fr_ps S (fr_kd D) (fr_fd D) r c f g))) : wpX_passes post (fr_mX S D hx o q z) (nI r) (nI c) (nI f) (nI t) (nI p.length) := by
  have hval := hQ.1.1 _ _ _ ht
  have hcn := hW.1.2.1
  have hcl : (nI f).toNatClampNeg = f := nI_clamp (by omega)
  have hccl : (nI c).toNatClampNeg = c := nI_clamp (by omega)
  refine ⟨vp_in_nI hf (by omega), vp_in_nI (by omega) (by omega), ?_⟩
  rw [hcl, hccl]
  unfold fr_ps at hp
  refine br_c (fun e => ?_) (fun e => ?_)
  · rw [decide_eq_true e, Bool.true_and] at hp
    exact nm_r (fr_n4 c) ⟨_, fr_x_p22 hQ ht hW hc1 hc2 hd hf hg1 hg2 (fr_tn S c) _ (4 * c) rfl (Nat.le_refl _) (Nat.lt_succ_self _) hp⟩
  · rw [decide_eq_false e, Bool.false_and] at hp
    exact hp
theorem fr_x_blocks8 {post : Int32 → Prop} {r f t : Nat} {p : List Nat} (hQ : fr_PQ q A) (ht : A r p = some t) (hW : fr_WR S r) (hf : f < 6) :
    ∀ (k n c a : Nat), c + k = 5 * r + fr_cn S r → 5 * r ≤ c → k < n → post (nI (a + fr_cc (fr_bq S (fr_kd D) (fr_fd D) r f p) c k)) → wX_blocks_8 post (nI r) (nI f) (nI t) (nI p.length) (nI (fr_ru S)) (fr_bX S) (nI (fr_lv D).length) (nI (fr_md D)) (fr_fr q) (fr_pk q) (fr_pr D) hx (fr_sa S) (fr_co S) (fr_po S) (fr_te S) (fr_ac S) (fr_cK S) (fr_cT S) (fr_cL S) (fr_cN S) (fr_tF S) (fr_tH S) (fr_tO S) (fr_vL S) (fr_vF S) (fr_aW S) (fr_aK S) (fr_aX S) (fr_aY S) (fr_aZ S) (fr_nu D) (fr_fd D) (fr_kd D) o (fr_pa q) (fr_ch q) (fr_nx q) (fr_fa q) (fr_st q) (fr_rt q) (fr_zs z) (fr_zg z) (fr_zb z) (fr_zm z) (fr_zo z) (fr_zn z) (fr_zf z) (fr_ou D) n (nI a) (nI c) := by
  have hval := hQ.1.1 _ _ _ ht
  have hcn := hW.1.2.1
  have hrcl : (nI r).toNatClampNeg = r := nI_clamp (by omega)
  have e0 : nI r * 5 + fr_co S (nI r).toNatClampNeg = nI (5 * r + fr_cn S r) := by rw [hrcl, hW.1.1, fr_m5]
  have hrin : vp_in (nI r) 4 := vp_in_nI hval.1 (by omega)
  intro k
  induction k with
  | zero =>
    intro n c a hi h4 hn hp
    obtain ⟨n, rfl⟩ : ∃ m, n = m + 1 := ⟨n - 1, by omega⟩
    refine ⟨hrin, br_t ?_ hp⟩
    rw [e0]
    exact nI_le (by omega) (by omega)
  | succ k ih =>
    intro n c a hi h4 hn hp
    obtain ⟨n, rfl⟩ : ∃ m, n = m + 1 := ⟨n - 1, by omega⟩
    have hin : vp_in (nI c) 20 := vp_in_nI (by omega) (by omega)
    have hcl : (nI c).toNatClampNeg = c := nI_clamp (by omega)
    have hWC := hW.2 c h4 (by omega)
    rw [fr_cc] at hp
    refine ⟨hrin, br_f ?_ ⟨hin, ?_⟩⟩
    · rw [e0]
      exact nI_ge (by omega) (by omega)
    rw [hcl]
    have hgo : fr_bq S (fr_kd D) (fr_fd D) r f p c = false → wX_blocks_8 post (nI r) (nI f) (nI t) (nI p.length) (nI (fr_ru S)) (fr_bX S) (nI (fr_lv D).length) (nI (fr_md D)) (fr_fr q) (fr_pk q) (fr_pr D) hx (fr_sa S) (fr_co S) (fr_po S) (fr_te S) (fr_ac S) (fr_cK S) (fr_cT S) (fr_cL S) (fr_cN S) (fr_tF S) (fr_tH S) (fr_tO S) (fr_vL S) (fr_vF S) (fr_aW S) (fr_aK S) (fr_aX S) (fr_aY S) (fr_aZ S) (fr_nu D) (fr_fd D) (fr_kd D) o (fr_pa q) (fr_ch q) (fr_nx q) (fr_fa q) (fr_st q) (fr_rt q) (fr_zs z) (fr_zg z) (fr_zb z) (fr_zm z) (fr_zo z) (fr_zn z) (fr_zf z) (fr_ou D) n (nI a) (nI (c + 1)) := by
      intro e
      rw [e] at hp
      exact ih n (c + 1) a (by omega) (by omega) (by omega) (by rw [if_neg (by decide), Nat.zero_add] at hp; exact hp)
    by_cases hn0 : fr_cN S c = 0
    · refine br_t hn0 (nm_r (nI_1 c) (hgo ?_))
      unfold fr_bq fr_ng
      rw [decide_eq_true hn0]
      rfl
    · refine br_f hn0 ⟨hin, ?_⟩
      have e1 : fr_ng S c = true := by unfold fr_ng; rw [decide_eq_false hn0]; rfl
      by_cases hl : fr_cL S c = nI p.length
      · refine br_t hl (fr_x_passes (fr_gv p) hQ ht hW h4 (by omega) hl hf (fun _ _ => rfl) (fun h => absurd h hn0) ?_)
        cases hps : fr_ps S (fr_kd D) (fr_fd D) r c f (fr_gv p) with
        | false =>
          refine br_t rfl (nm_r (nI_1 c) (hgo ?_))
          unfold fr_bq
          rw [hps, Bool.and_false, Bool.and_false]
        | true =>
          refine br_f (by decide) (nm_r (nI_1 a) (nm_r (nI_1 c) (ih n (c + 1) (a + 1) (by omega) (by omega) (by omega) ?_)))
          have : fr_bq S (fr_kd D) (fr_fd D) r f p c = true := by
            unfold fr_bq
            rw [e1, hps, decide_eq_true hl]
            rfl
          rw [this, if_pos rfl] at hp
          rw [Nat.add_assoc]
          exact hp
      · refine br_f hl (nm_r (nI_1 c) (hgo ?_))
        unfold fr_bq
        rw [decide_eq_false hl, Bool.false_and, Bool.and_false]
theorem fr_x_blocks {post : Int32 → Prop} {r f t : Nat} {p : List Nat} (hQ : fr_PQ q A) (ht : A r p = some t) (hW : fr_WR S r) (hf : f < 6) (hp : post (nI (fr_bl S (fr_kd D) (fr_fd D) r f p))) : wpX_blocks post (fr_mX S D hx o q z) (nI r) (nI f) (nI t) (nI p.length) := by
  refine nm_r (fr_n5 r) ⟨_, fr_x_blocks8 hQ ht hW hf (fr_cn S r) _ (5 * r) 0 rfl (Nat.le_refl _) (Nat.lt_succ_self _) ?_⟩
  rw [Nat.zero_add]
  exact hp
theorem fr_x_posAt4 {post : Int32 → Prop} {r d : Nat} (hr : r < 4) (hW : fr_WR S r) (h1 : ∀ c, fr_pA S r d = some c → post (nI c)) (h2 : fr_pA S r d = none → post (-1)) :
    ∀ (k n c : Nat), c + k = 5 * r + fr_cn S r → 5 * r ≤ c → k < n → fr_fs (fun c => !fr_ng S c && decide (fr_cL S c = nI d)) c k = fr_pA S r d → wX_positiveAt_4 post (nI r) (nI d) (nI (fr_ru S)) (fr_bX S) (nI (fr_lv D).length) (nI (fr_md D)) (fr_fr q) (fr_pk q) (fr_pr D) hx (fr_sa S) (fr_co S) (fr_po S) (fr_te S) (fr_ac S) (fr_cK S) (fr_cT S) (fr_cL S) (fr_cN S) (fr_tF S) (fr_tH S) (fr_tO S) (fr_vL S) (fr_vF S) (fr_aW S) (fr_aK S) (fr_aX S) (fr_aY S) (fr_aZ S) (fr_nu D) (fr_fd D) (fr_kd D) o (fr_pa q) (fr_ch q) (fr_nx q) (fr_fa q) (fr_st q) (fr_rt q) (fr_zs z) (fr_zg z) (fr_zb z) (fr_zm z) (fr_zo z) (fr_zn z) (fr_zf z) (fr_ou D) n (nI c) := by
  have hcn := hW.1.2.1
  have hrcl : (nI r).toNatClampNeg = r := nI_clamp (by omega)
  have e0 : nI r * 5 + fr_co S (nI r).toNatClampNeg = nI (5 * r + fr_cn S r) := by rw [hrcl, hW.1.1, fr_m5]
  have hrin : vp_in (nI r) 4 := vp_in_nI hr (by omega)
  intro k
  induction k with
  | zero =>
    intro n c hi h4 hn hp
    obtain ⟨n, rfl⟩ : ∃ m, n = m + 1 := ⟨n - 1, by omega⟩
    refine ⟨hrin, br_t ?_ (h2 hp.symm)⟩
    rw [e0]
    exact nI_le (by omega) (by omega)
  | succ k ih =>
    intro n c hi h4 hn hp
    obtain ⟨n, rfl⟩ : ∃ m, n = m + 1 := ⟨n - 1, by omega⟩
    have hin : vp_in (nI c) 20 := vp_in_nI (by omega) (by omega)
    have hcl : (nI c).toNatClampNeg = c := nI_clamp (by omega)
    refine ⟨hrin, br_f ?_ ⟨hin, ?_⟩⟩
    · rw [e0]
      exact nI_ge (by omega) (by omega)
    rw [hcl]
    rw [fr_fs] at hp
    by_cases hn0 : fr_cN S c = 0
    · have e1 : fr_ng S c = false := by unfold fr_ng; rw [decide_eq_true hn0]; rfl
      refine br_t hn0 ⟨hin, ?_⟩
      by_cases hl : fr_cL S c = nI d
      · rw [e1, decide_eq_true hl, if_pos (by decide)] at hp
        exact br_t hl (h1 c hp.symm)
      · rw [e1, decide_eq_false hl, if_neg (by decide)] at hp
        exact br_f hl (nm_r (nI_1 c) (ih n (c + 1) (by omega) (by omega) (by omega) hp))
    · have e1 : fr_ng S c = true := by unfold fr_ng; rw [decide_eq_false hn0]; rfl
      rw [e1, Bool.not_true, Bool.false_and, if_neg (by decide)] at hp
      exact br_f hn0 (nm_r (nI_1 c) (ih n (c + 1) (by omega) (by omega) (by omega) hp))
theorem fr_x_posAt {post : Int32 → Prop} {r d : Nat} (hr : r < 4) (hW : fr_WR S r) (h1 : ∀ c, fr_pA S r d = some c → post (nI c)) (h2 : fr_pA S r d = none → post (-1)) : wpX_positiveAt post (fr_mX S D hx o q z) (nI r) (nI d) :=
  nm_r (fr_n5 r) ⟨_, fr_x_posAt4 hr hW h1 h2 (fr_cn S r) _ (5 * r) rfl (Nat.le_refl _) (Nat.lt_succ_self _) rfl⟩
end
end
section
theorem fr_pA_some {S : fr_SR} {r d c : Nat} (hW : fr_WR S r) (h : fr_pA S r d = some c) (hd : d < 2 ^ 31) : 5 * r ≤ c ∧ c < 5 * r + fr_cn S r ∧ fr_cN S c = 0 ∧ fr_cL S c = nI d ∧ d < fr_pn S r := by
  obtain ⟨h1, h2, h3, _⟩ := fr_fs_some _ _ _ h
  rw [Bool.and_eq_true] at h3
  have h4 : fr_cN S c = 0 := by
    have := h3.1
    unfold fr_ng at this
    rw [Bool.not_not] at this
    exact of_decide_eq_true this
  have h5 := of_decide_eq_true h3.2
  have h6 := fr_WR_d hW h1 h2 h5 hd
  have h7 := fr_pc_lt (S := S) (r := r) (a := c - 5 * r) (b := fr_cn S r) (by omega) (by rw [show 5 * r + (c - 5 * r) = c by omega]; exact h4)
  have h8 := hW.1.2.2.2.2.1
  exact ⟨h1, h2, h4, h5, by omega⟩
theorem fr_cc_split {P : Nat → Bool} : ∀ (k i : Nat), fr_cc P i k + fr_cc (fun j => !P j) i k = k := by
  intro k
  induction k with
  | zero => intro i; rfl
  | succ k ih =>
    intro i
    have := ih (i + 1)
    rw [fr_cc, fr_cc]
    cases P i <;> simp <;> omega
theorem fr_cc_sub {P Q : Nat → Bool} (h : ∀ j, P j = true → Q j = true) : ∀ (k i : Nat), fr_cc P i k ≤ fr_cc Q i k := by
  intro k
  induction k with
  | zero => intro i; exact Nat.le_refl _
  | succ k ih =>
    intro i
    have := ih (i + 1)
    rw [fr_cc, fr_cc]
    by_cases hp : P i = true
    · rw [if_pos hp, if_pos (h i hp)]; omega
    · rw [if_neg hp]; omega
theorem fr_bl_le {S : fr_SR} {kd fd : fr_FN} {r f : Nat} {p : List Nat} (hW : fr_WR S r) : fr_bl S kd fd r f p ≤ 2 := by
  have h1 := fr_cc_sub (P := fr_bq S kd fd r f p) (Q := fr_ng S) (fun j hj => by
    unfold fr_bq at hj
    rw [Bool.and_eq_true] at hj
    exact hj.1) (fr_cn S r) (5 * r)
  have h2 := fr_cc_split (P := fr_ng S) (fr_cn S r) (5 * r)
  have h3 := hW.1.2.2.2.2
  unfold fr_bl
  unfold fr_pc at h3
  omega
theorem fr_sum_le {f : Nat → Nat} (hf : ∀ x, f x ≤ 2) : ∀ l : List Nat, (l.map f).sum ≤ 2 * l.length := by
  intro l
  induction l with
  | nil => exact Nat.le_refl _
  | cons a l ih =>
    have := hf a
    rw [List.map_cons, List.sum_cons, List.length_cons]
    omega
theorem fr_ct_le {S : fr_SR} {kd fd : fr_FN} {lv : List Nat} {r : Nat} {p : List Nat} (hW : fr_WR S r) (hl : lv.length ≤ 6) : fr_ct S kd fd lv r p ≤ 12 := by
  have := fr_sum_le (f := fun f => fr_bl S kd fd r f p) (fun x => fr_bl_le hW) lv
  unfold fr_ct
  omega
def fr_LV (lv : List Nat) : Prop := lv.Nodup ∧ ∀ x, x ∈ lv → x < 6
def fr_OK (o : fr_FN) (lv : List Nat) : Prop := ∀ i, i < lv.length → o i = nI (lv.getD i 0)
theorem fr_LV_len {lv : List Nat} (h : fr_LV lv) : lv.length ≤ 6 := fr_nd6 h.1 h.2
theorem fr_drop {lv : List Nat} {i : Nat} (h : i < lv.length) : lv.drop i = lv.getD i 0 :: lv.drop (i + 1) := by
  rw [List.drop_eq_getElem_cons h, List.getD_eq_getElem?_getD, List.getElem?_eq_getElem h]
  rfl
theorem fr_getD_mem {lv : List Nat} {i : Nat} (h : i < lv.length) : lv.getD i 0 ∈ lv := by
  rw [List.getD_eq_getElem?_getD, List.getElem?_eq_getElem h]
  exact List.getElem_mem h
theorem fr_take_s {lv : List Nat} {i : Nat} (h : i < lv.length) : lv.take (i + 1) = lv.take i ++ [lv.getD i 0] := by
  rw [List.take_add_one, List.getD_eq_getElem?_getD, List.getElem?_eq_getElem h]
  rfl
theorem fr_take_no {lv : List Nat} {i : Nat} (hn : lv.Nodup) (h : i < lv.length) : lv.getD i 0 ∉ lv.take i := by
  intro hm
  have h1 : (lv.take i ++ lv.drop i).Nodup := by rw [List.take_append_drop]; exact hn
  rw [fr_drop h] at h1
  have := (List.nodup_append.mp h1).2.2 _ hm _ List.mem_cons_self
  exact this rfl
def fr_tk (q : fr_QR) (s : Nat) (up fv : Int32) : fr_QR :=
  (fr_nx q s, if fr_fr q ≤ fr_pk q then fr_pk q else fr_fr q, upd (fr_pa q) s up, upd (fr_ch q) s (-1), upd (fr_nx q) s (-1), upd (fr_fa q) s fv, upd (fr_st q) s 0, fr_rt q)
def fr_lk (q : fr_QR) (s t : Nat) : fr_QR :=
  (fr_fr q, fr_pk q, fr_pa q, upd (fr_ch q) t (nI s), upd (fr_nx q) s (fr_ch q t), fr_fa q, fr_st q, fr_rt q)
def fr_sg (z : fr_ZR) (a : fr_FN) : fr_ZR := (fr_zs z, a, fr_zb z, fr_zm z, fr_zo z, fr_zn z, fr_zf z)
def fr_sq (q : fr_QR) (a : fr_FN) : fr_QR := (fr_fr q, fr_pk q, fr_pa q, fr_ch q, fr_nx q, fr_fa q, a, fr_rt q)
section
variable {S : fr_SR} {D : fr_DR} {hx : Int32} {o : fr_FN} {q : fr_QR} {z : fr_ZR} {A : fr_AT}
theorem fr_x_take {post : Int32 → SX → Prop} {s : Nat} {up fv : Int32} (hs : fr_fr q = nI s) (hs2 : s < 1036) (hu : vp_nar .short up.toInt16.toInt32 = up) (hf : vp_nar .byte fv.toInt8.toInt32 = fv)
    (hp : post (nI s) (fr_mX S D hx o (fr_tk q s up fv) z)) : wpX_take post (fr_mX S D hx o q z) up fv := by
  have hin : vp_in (nI s) 1036 := vp_in_nI hs2 (by omega)
  have hin0 : vp_in (fr_fr q) 1036 := by rw [hs]; exact hin
  have hcl : (nI s).toNatClampNeg = s := nI_clamp (by omega)
  have hcl0 : (fr_fr q).toNatClampNeg = s := by rw [hs]; exact hcl
  have hp' : ∀ pk, pk = (if fr_fr q ≤ fr_pk q then fr_pk q else fr_fr q) → wX_take_28 post up fv (fr_fr q) (nI (fr_ru S)) (fr_bX S) (nI (fr_lv D).length) (nI (fr_md D)) ((fr_nx q s)) pk (fr_pr D) hx (fr_sa S) (fr_co S) (fr_po S) (fr_te S) (fr_ac S) (fr_cK S) (fr_cT S) (fr_cL S) (fr_cN S) (fr_tF S) (fr_tH S) (fr_tO S) (fr_vL S) (fr_vF S) (fr_aW S) (fr_aK S) (fr_aX S) (fr_aY S) (fr_aZ S) (fr_nu D) (fr_fd D) (fr_kd D) o (fr_pa q) (fr_ch q) (fr_nx q) (fr_fa q) (fr_st q) (fr_rt q) (fr_zs z) (fr_zg z) (fr_zb z) (fr_zm z) (fr_zo z) (fr_zn z) (fr_zf z) (fr_ou D) := by
    intro pk hpk
    refine ⟨hin0, nm_r (e' := upd (fr_pa q) s up) (by rw [hcl0, hu]) ⟨hin0, nm_r (e' := upd (fr_fa q) s fv) (by rw [hcl0, hf]) ⟨hin0, nm_r (e' := upd (fr_ch q) s (-1)) (by rw [hcl0, fr_sm1]) ⟨hin0, nm_r (e' := upd (fr_nx q) s (-1)) (by rw [hcl0, fr_sm1]) ⟨hin0, nm_r (e' := upd (fr_st q) s 0) (by rw [hcl0, fr_b0]) ?_⟩⟩⟩⟩⟩
    rw [hpk, hs]
    rw [fr_tk, hs] at hp
    exact hp
  refine ⟨hin0, nm_r (e' := fr_nx q s) (by rw [hcl0]) (br_c (fun h => ?_) (fun h => ?_))⟩
  · exact hp' _ (by rw [if_pos h])
  · exact hp' _ (by rw [if_neg h])
theorem fr_x_attach {post : Int32 → SX → Prop} {r f t : Nat} {p : List Nat} (hQ : fr_PQ q A) (ht : A r p = some t) (hW : fr_WR S r) (hf : f < 6) (hn : A r (f :: p) = none)
    (h0 : fr_ex S (fr_kd D) (fr_fd D) r p f = false → post (-1) (fr_mX S D hx o q z))
    (h1 : fr_ex S (fr_kd D) (fr_fd D) r p f = true → ∀ (q' : fr_QR) (s : Nat), fr_PQ q' (fr_ins A r (f :: p) s) → s < 1036 → (∀ r p, A r p ≠ some s) → fr_st q' s = 0 → (∀ j, j ≠ s → fr_st q' j = fr_st q j) → p.length < 3 → post (nI s) (fr_mX S D hx o q' z)) :
    wpX_attach post (fr_mX S D hx o q z) (nI r) (nI f) (nI t) (nI p.length) := by
  have hval := hQ.1.1 _ _ _ ht
  unfold wpX_attach
  refine fr_x_posAt hval.1 hW ?_ ?_
  · intro c hc
    obtain ⟨c1, c2, c3, c4, c5⟩ := fr_pA_some hW hc (by omega)
    have hpn := hW.1.2.2.2.1
    have hcn := hW.1.2.1
    refine br_f (nI_pos (by omega)) ?_
    have eex : fr_ex S (fr_kd D) (fr_fd D) r p f = fr_ps S (fr_kd D) (fr_fd D) r c f (fr_gv (f :: p)) := by
      unfold fr_ex
      rw [hc]
    refine fr_x_passes (fr_gv (f :: p)) hQ ht hW c1 c2 c4 hf (fun l hl => fr_gv_c hl) (fun _ => fr_gv_e) ?_
    rw [← eex]
    cases he : fr_ex S (fr_kd D) (fr_fd D) r p f with
    | false => exact br_t rfl (h0 he)
    | true =>
      refine br_f (by decide) ?_
      obtain ⟨s, s1, s2, s3⟩ := fr_free hQ hval.1 (p := f :: p) (by rw [List.length_cons]; omega) (by
        intro x hx
        rcases List.mem_cons.mp hx with e | hx
        · rw [e]; exact hf
        · exact hval.2.2.1 x hx) hn
      have hts : t ≠ s := fun e => s3 r p (e ▸ ht)
      have hin : vp_in (nI s) 1036 := vp_in_nI s2 (by omega)
      have htin : vp_in (nI t) 1036 := vp_in_nI hval.2.2.2 (by omega)
      have hcl : (nI s).toNatClampNeg = s := nI_clamp (by omega)
      have htcl : (nI t).toNatClampNeg = t := nI_clamp (by omega)
      refine fr_x_take (s := s) s1 s2 (fr_s1616 (by omega)) (fr_b88 (by omega)) ?_
      have hct : ∃ m, fr_ch q t = nI m ∧ m < 1036 ∨ fr_ch q t = -1 := by
        obtain ⟨l, _, hl, _⟩ := hQ.2.2.2.1 _ _ _ ht
        match l, hl with
        | [], hl => exact ⟨0, Or.inr hl⟩
        | x :: l, hl =>
          obtain ⟨m, m1, m2, _⟩ := hl
          exact ⟨m, Or.inl ⟨m2, (hQ.1.1 _ _ _ m1).2.2.2⟩⟩
      have hnar : vp_nar .short (upd (fr_ch q) s (-1) t) = fr_ch q t := by
        rw [pk_un hts]
        obtain ⟨m, ⟨h, hm⟩ | h⟩ := hct
        · rw [h]; exact fr_s16 (by omega)
        · rw [h]; exact fr_sm1
      refine ⟨htin, hin, nm_r (e' := upd (upd (fr_nx q) s (-1)) s (fr_ch q t)) (by rw [hcl, htcl]; exact congrArg _ hnar) ⟨htin, nm_r (e' := upd (upd (fr_ch q) s (-1)) t (nI s)) (by rw [htcl, fr_s1616 (by omega)]; rfl) ?_⟩⟩
      have hfin := h1 he (fr_nx q s, if fr_fr q ≤ fr_pk q then fr_pk q else fr_fr q, upd (fr_pa q) s (nI t), upd (upd (fr_ch q) s (-1)) t (nI s), upd (upd (fr_nx q) s (-1)) s (fr_ch q t), upd (fr_fa q) s (nI f), upd (fr_st q) s 0, fr_rt q) s ?_ s2 s3 pk_us (fun j hj => pk_un hj) (by omega)
      · exact hfin
      · refine fr_ins_child hQ ht hn hf (by omega) s1 s2 s3 (fun j hj => pk_un hj) pk_us (fun j h1 h2 => ?_) ?_ pk_us (fun j hj => ?_) pk_us (fun j hj => pk_un hj) pk_us rfl
        · exact (pk_un h2).trans (pk_un h1)
        · exact (pk_un (fun e => hts e.symm)).trans pk_us
        · exact (pk_un hj).trans (pk_un hj)
  · intro hc
    refine br_t (by decide) (h0 ?_)
    unfold fr_ex
    rw [hc]
end
end
section
def fr_RN (S : fr_SR) (kd fd : fr_FN) (lv : List Nat) (A : fr_AT) (st : fr_FN) (r : Nat) (p : List Nat) (t : Nat) : Prop := fr_RT S kd fd lv (fun _ _ => false) A st r p t
def fr_Ext (S : fr_SR) (kd fd : fr_FN) (lv : List Nat) (r : Nat) (p0 : List Nat) (q : fr_QR) (A : fr_AT) (q' : fr_QR) (A' : fr_AT) : Prop :=
  fr_PQ q' A' ∧ (∀ r' p', ¬ fr_Sb r p0 r' p' → A' r' p' = A r' p') ∧
  (∀ r' p' t', A r' p' = some t' → ¬ (r' = r ∧ p0 <:+ p') → fr_st q' t' = fr_st q t') ∧
  (∀ p' t', p0 <:+ p' → A' r p' = some t' → fr_RN S kd fd lv A' (fr_st q') r p' t')
def fr_EB (r : Nat) (p0 : List Nat) (q0 : fr_QR) (A0 : fr_AT) (q : fr_QR) (A : fr_AT) (G : List (List Nat)) : Prop :=
  fr_PQ q A ∧ (∀ r' p', ¬ fr_Sb r p0 r' p' → A r' p' = A0 r' p') ∧
  (∀ r' p' t', A0 r' p' = some t' → ¬ (r' = r ∧ p0 <:+ p') → fr_st q t' = fr_st q0 t') ∧
  (∀ g, g ∈ G → p0 <:+ g ∧ (∃ x, A r g = some x) ∧ ∀ x, A r (x :: g) = none) ∧ G.Nodup
def fr_EI (S : fr_SR) (kd fd : fr_FN) (lv : List Nat) (r : Nat) (p0 : List Nat) (q0 : fr_QR) (A0 : fr_AT) (q : fr_QR) (A : fr_AT) (G : List (List Nat)) : Prop :=
  fr_EB r p0 q0 A0 q A G ∧ ∀ p' t', p0 <:+ p' → A r p' = some t' → p' ∈ G ∨ fr_RN S kd fd lv A (fr_st q) r p' t'
def fr_E9 (S : fr_SR) (kd fd : fr_FN) (lv : List Nat) (r : Nat) (p0 : List Nat) (q0 : fr_QR) (A0 : fr_AT) (g : List Nat) (k i : Nat) (q : fr_QR) (A : fr_AT) (G : List (List Nat)) : Prop :=
  fr_EB r p0 q0 A0 q A G ∧ (g ∉ G ∧ p0 <:+ g ∧ A r g = some k ∧ fr_st q k = nI 0 ∧ ∀ x, (∃ s, A r (x :: g) = some s) ↔ (x ∈ lv.take i ∧ fr_ex S kd fd r g x = true)) ∧
  ∀ p' t', p0 <:+ p' → A r p' = some t' → p' ∈ G ∨ p' = g ∨ fr_RN S kd fd lv A (fr_st q) r p' t'
theorem fr_RN_eq {S : fr_SR} {kd fd : fr_FN} {lv : List Nat} {A : fr_AT} {st : fr_FN} {r : Nat} {p : List Nat} {t : Nat} : fr_RN S kd fd lv A st r p t ↔ (st t = nI (fr_ct S kd fd lv r p) ∧ ∀ x, (∃ s, A r (x :: p) = some s) ↔ (fr_ct S kd fd lv r p = 0 ∧ x ∈ lv ∧ fr_ex S kd fd r p x = true)) := by
  unfold fr_RN fr_RT
  rw [if_neg (by rintro ⟨h, _⟩; cases h)]
theorem fr_RT_congr {S : fr_SR} {kd fd : fr_FN} {lv : List Nat} {M M' : Nat → List Nat → Bool} {A A' : fr_AT} {st st' : fr_FN} {r : Nat} {p : List Nat} {t : Nat} (h1 : M' r p = M r p) (h2 : st' t = st t) (h3 : ∀ x, A' r (x :: p) = A r (x :: p)) (h : fr_RT S kd fd lv M A st r p t) : fr_RT S kd fd lv M' A' st' r p t := by
  unfold fr_RT at h ⊢
  rw [h1, h2]
  refine ⟨h.1, fun x => ?_⟩
  rw [h3 x]
  exact h.2 x
theorem fr_E9_no {S : fr_SR} {kd fd : fr_FN} {lv : List Nat} {r : Nat} {p0 : List Nat} {q0 : fr_QR} {A0 : fr_AT} {g : List Nat} {k i : Nat} {q : fr_QR} {A : fr_AT} {G : List (List Nat)} (h : fr_E9 S kd fd lv r p0 q0 A0 g k i q A G) (hi : i < lv.length) (he : fr_ex S kd fd r g (lv.getD i 0) = false) : fr_E9 S kd fd lv r p0 q0 A0 g k (i + 1) q A G := by
  obtain ⟨h1, ⟨h2, h3, h4, h5, h6⟩, h7⟩ := h
  refine ⟨h1, ⟨h2, h3, h4, h5, fun x => ?_⟩, h7⟩
  rw [h6 x, fr_take_s hi, List.mem_append, List.mem_singleton]
  constructor
  · rintro ⟨a, b⟩; exact ⟨Or.inl a, b⟩
  · rintro ⟨a | a, b⟩
    · exact ⟨a, b⟩
    · rw [a, he] at b; cases b
theorem fr_E9_yes {S : fr_SR} {kd fd : fr_FN} {lv : List Nat} {r : Nat} {p0 : List Nat} {q0 : fr_QR} {A0 : fr_AT} {g : List Nat} {k i : Nat} {q q' : fr_QR} {A : fr_AT} {G : List (List Nat)} {s : Nat} (h : fr_E9 S kd fd lv r p0 q0 A0 g k i q A G) (hlv : fr_LV lv) (hi : i < lv.length) (he : fr_ex S kd fd r g (lv.getD i 0) = true)
    (hn : A r (lv.getD i 0 :: g) = none) (hQ : fr_PQ q' (fr_ins A r (lv.getD i 0 :: g) s)) (hs : ∀ r p, A r p ≠ some s) (hst : ∀ j, j ≠ s → fr_st q' j = fr_st q j) :
    fr_E9 S kd fd lv r p0 q0 A0 g k (i + 1) q' (fr_ins A r (lv.getD i 0 :: g) s) ((lv.getD i 0 :: g) :: G) := by
  obtain ⟨⟨b1, b2, b3, b4, b5⟩, ⟨h2, h3, h4, h5, h6⟩, h7⟩ := h
  have hgl : ∀ x : Nat, g ≠ x :: g := fun x e => absurd (congrArg List.length e) (by simp)
  have hsb : fr_Sb r p0 r (lv.getD i 0 :: g) := by
    refine ⟨rfl, List.IsSuffix.trans h3 (List.suffix_cons _ _), ?_⟩
    intro e
    have := h3.length_le
    have := congrArg List.length e
    rw [List.length_cons] at this
    omega
  have hcl : ∀ x, A r (x :: lv.getD i 0 :: g) = none := by
    intro x
    cases e : A r (x :: lv.getD i 0 :: g) with
    | none => rfl
    | some t =>
      obtain ⟨_, s', h8, _⟩ := b1.2.1.2 _ _ _ _ e
      rw [hn] at h8
      cases h8
  have hold : ∀ {r' p' t'}, A r' p' = some t' → t' ≠ s := fun h e => hs _ _ (e ▸ h)
  have hins : ∀ {r' p' t'}, A r' p' = some t' → fr_ins A r (lv.getD i 0 :: g) s r' p' = some t' := by
    intro r' p' t' e
    rw [fr_ins_n]
    · exact e
    · rintro ⟨rfl, rfl⟩
      rw [hn] at e
      cases e
  refine ⟨⟨hQ, ?_, ?_, ?_, ?_⟩, ⟨?_, h3, hins h4, ?_, ?_⟩, ?_⟩
  · intro r' p' hns
    rw [fr_ins_n]
    · exact b2 r' p' hns
    · rintro ⟨rfl, rfl⟩
      exact hns hsb
  · intro r' p' t' e hns
    rw [hst]
    · exact b3 r' p' t' e hns
    · have : A r' p' = some t' := by rw [b2 r' p' (fun hc => hns ⟨hc.1, hc.2.1⟩)]; exact e
      exact hold this
  · intro g' hg'
    rcases List.mem_cons.mp hg' with e | hg'
    · rw [e]
      refine ⟨hsb.2.1, ⟨s, fr_ins_s⟩, fun x => ?_⟩
      rw [fr_ins_n (by rintro ⟨_, e⟩; exact absurd (congrArg List.length e) (by simp))]
      exact hcl x
    · obtain ⟨c1, ⟨x, c2⟩, c3⟩ := b4 g' hg'
      refine ⟨c1, ⟨x, hins c2⟩, fun y => ?_⟩
      rw [fr_ins_n]
      · exact c3 y
      · rintro ⟨_, e⟩
        cases e
        exact h2 hg'
  · refine List.nodup_cons.mpr ⟨fun hm => ?_, b5⟩
    obtain ⟨_, ⟨x, c2⟩, _⟩ := b4 _ hm
    rw [hn] at c2
    cases c2
  · intro hm
    rcases List.mem_cons.mp hm with e | hm
    · exact hgl _ e
    · exact h2 hm
  · rw [hst _ (hold h4)]
    exact h5
  · intro x
    rw [fr_take_s hi, List.mem_append, List.mem_singleton]
    by_cases e : x = lv.getD i 0
    · constructor
      · intro _
        exact ⟨Or.inr e, by rw [e]; exact he⟩
      · intro _
        exact ⟨s, by rw [e]; exact fr_ins_s⟩
    · rw [fr_ins_n (by rintro ⟨_, e2⟩; exact e (List.cons.inj e2).1), h6 x]
      constructor
      · rintro ⟨a, b⟩; exact ⟨Or.inl a, b⟩
      · rintro ⟨a | a, b⟩
        · exact ⟨a, b⟩
        · exact absurd a e
  · intro p' t' hp' e
    rcases fr_ins_c e with ⟨_, e2, _⟩ | ⟨_, e2⟩
    · left
      rw [e2]
      exact List.mem_cons_self
    · rcases h7 p' t' hp' e2 with c | c | c
      · exact Or.inl (List.mem_cons_of_mem _ c)
      · exact Or.inr (Or.inl c)
      · by_cases hpg : p' = g
        · exact Or.inr (Or.inl hpg)
        · right; right
          refine fr_RT_congr rfl (hst _ (hold e2)) (fun x => fr_ins_n ?_) c
          rintro ⟨_, e3⟩
          exact hpg (List.cons.inj e3).2
theorem fr_E9_start {S : fr_SR} {kd fd : fr_FN} {lv : List Nat} {r : Nat} {p0 : List Nat} {q0 : fr_QR} {A0 : fr_AT} {g : List Nat} {k : Nat} {q : fr_QR} {A : fr_AT} {G : List (List Nat)} (h : fr_EI S kd fd lv r p0 q0 A0 q A (g :: G)) (hk : A r g = some k) (v : Int32) :
    fr_EB r p0 q0 A0 (fr_sq q (upd (fr_st q) k v)) A G ∧ (g ∉ G ∧ p0 <:+ g ∧ ∀ x, A r (x :: g) = none) ∧
    ∀ p' t', p0 <:+ p' → A r p' = some t' → p' ∈ G ∨ p' = g ∨ fr_RN S kd fd lv A (fr_st (fr_sq q (upd (fr_st q) k v))) r p' t' := by
  obtain ⟨⟨b1, b2, b3, b4, b5⟩, h7⟩ := h
  rw [List.nodup_cons] at b5
  obtain ⟨g1, _, g3⟩ := b4 g List.mem_cons_self
  have hne : ∀ {r' p' t'}, A r' p' = some t' → ¬ (r' = r ∧ p' = g) → t' ≠ k := by
    rintro r' p' t' e hn rfl
    exact hn (b1.1.2 _ _ _ _ _ e hk)
  refine ⟨⟨b1, b2, ?_, fun g' hg' => b4 g' (List.mem_cons_of_mem _ hg'), b5.2⟩, ⟨b5.1, g1, g3⟩, ?_⟩
  · intro r' p' t' e hns
    show upd (fr_st q) k v t' = _
    rw [pk_un]
    · exact b3 r' p' t' e hns
    · have : A r' p' = some t' := by rw [b2 r' p' (fun hc => hns ⟨hc.1, hc.2.1⟩)]; exact e
      refine hne this ?_
      rintro ⟨rfl, rfl⟩
      exact hns ⟨rfl, g1⟩
  · intro p' t' hp' e
    by_cases hpg : p' = g
    · exact Or.inr (Or.inl hpg)
    · rcases h7 p' t' hp' e with c | c
      · rcases List.mem_cons.mp c with c | c
        · exact Or.inr (Or.inl c)
        · exact Or.inl c
      · right; right
        refine fr_RT_congr rfl ?_ (fun _ => rfl) c
        show upd (fr_st q) k v t' = _
        exact pk_un (hne e (fun h => hpg h.2))
theorem fr_E9_end {S : fr_SR} {kd fd : fr_FN} {lv : List Nat} {r : Nat} {p0 : List Nat} {q0 : fr_QR} {A0 : fr_AT} {g : List Nat} {k : Nat} {q : fr_QR} {A : fr_AT} {G : List (List Nat)} (h : fr_E9 S kd fd lv r p0 q0 A0 g k lv.length q A G) (hc : fr_ct S kd fd lv r g = 0) : fr_EI S kd fd lv r p0 q0 A0 q A G := by
  obtain ⟨h1, ⟨h2, h3, h4, h5, h6⟩, h7⟩ := h
  refine ⟨h1, fun p' t' hp' e => ?_⟩
  rcases h7 p' t' hp' e with c | c | c
  · exact Or.inl c
  · right
    subst c
    have : t' = k := by rw [h4] at e; exact (Option.some.inj e).symm
    subst this
    rw [fr_RN_eq]
    refine ⟨by rw [hc]; exact h5, fun x => ?_⟩
    rw [h6 x, List.take_length]
    exact ⟨fun a => ⟨hc, a⟩, fun a => a.2⟩
  · exact Or.inr c
theorem fr_EI_blocked {S : fr_SR} {kd fd : fr_FN} {lv : List Nat} {r : Nat} {p0 : List Nat} {q0 : fr_QR} {A0 : fr_AT} {g : List Nat} {k : Nat} {q : fr_QR} {A : fr_AT} {G : List (List Nat)} (h : fr_EI S kd fd lv r p0 q0 A0 q A (g :: G)) (hk : A r g = some k) (hc : fr_ct S kd fd lv r g ≠ 0) :
    fr_EI S kd fd lv r p0 q0 A0 (fr_sq q (upd (fr_st q) k (nI (fr_ct S kd fd lv r g)))) A G := by
  obtain ⟨h1, ⟨h2, h3, h4⟩, h7⟩ := fr_E9_start h hk (nI (fr_ct S kd fd lv r g))
  refine ⟨h1, fun p' t' hp' e => ?_⟩
  rcases h7 p' t' hp' e with c | c | c
  · exact Or.inl c
  · right
    subst c
    have : t' = k := by rw [hk] at e; exact (Option.some.inj e).symm
    subst this
    rw [fr_RN_eq]
    refine ⟨pk_us, fun x => ?_⟩
    rw [h4 x]
    constructor
    · rintro ⟨s, e⟩; cases e
    · rintro ⟨a, _⟩; exact absurd a hc
  · exact Or.inr c
section
variable {S : fr_SR} {D : fr_DR} {hx : Int32} {o : fr_FN} {A0 : fr_AT} {q0 : fr_QR}
theorem fr_x_ext91 {post : SX → Prop} {J : Int32 → Int32 → Int32 → Int32 → Int32 → Int32 → Int32 → Int32 → Int32 → fr_FN → fr_FN → fr_FN → fr_FN → fr_FN → fr_FN → fr_FN → fr_FN → fr_FN → fr_FN → fr_FN → fr_FN → fr_FN → fr_FN → fr_FN → fr_FN → fr_FN → fr_FN → fr_FN → fr_FN → fr_FN → fr_FN → fr_FN → fr_FN → fr_FN → fr_FN → fr_FN → fr_FN → fr_FN → fr_FN → fr_FN → fr_FN → fr_FN → fr_FN → fr_FN → fr_FN → fr_FN → Prop}
    {r k : Nat} {p0 g : List Nat} (hW : fr_WR S r) (hlv : fr_LV (fr_lv D)) (hO : fr_OK o (fr_lv D)) :
    ∀ (m n i : Nat) (G : List (List Nat)) (q : fr_QR) (A : fr_AT) (z : fr_ZR), i + m = (fr_lv D).length → m < n → fr_E9 S (fr_kd D) (fr_fd D) (fr_lv D) r p0 q0 A0 g k i q A G → fr_Sk (fr_zg z) A r G → G.length + m < 600 →
    (∀ (G' : List (List Nat)) (q' : fr_QR) (A' : fr_AT) (a : fr_FN), fr_E9 S (fr_kd D) (fr_fd D) (fr_lv D) r p0 q0 A0 g k (fr_lv D).length q' A' G' → fr_Sk a A' r G' → fr_wt G' ≤ fr_wt G + m * fr_w (g.length + 1) → J (nI G'.length) (nI (fr_ru S)) (fr_bX S) (nI (fr_lv D).length) (nI (fr_md D)) (fr_fr q') (fr_pk q') (fr_pr D) hx (fr_sa S) (fr_co S) (fr_po S) (fr_te S) (fr_ac S) (fr_cK S) (fr_cT S) (fr_cL S) (fr_cN S) (fr_tF S) (fr_tH S) (fr_tO S) (fr_vL S) (fr_vF S) (fr_aW S) (fr_aK S) (fr_aX S) (fr_aY S) (fr_aZ S) (fr_nu D) (fr_fd D) (fr_kd D) o (fr_pa q') (fr_ch q') (fr_nx q') (fr_fa q') (fr_st q') (fr_rt q') (fr_zs (fr_sg z a)) (fr_zg (fr_sg z a)) (fr_zb (fr_sg z a)) (fr_zm (fr_sg z a)) (fr_zo (fr_sg z a)) (fr_zn (fr_sg z a)) (fr_zf (fr_sg z a)) (fr_ou D)) →
    wX_extend_91 post J (nI r) (nI k) (nI g.length) 0 n (nI G.length) (nI i) (nI (fr_ru S)) (fr_bX S) (nI (fr_lv D).length) (nI (fr_md D)) (fr_fr q) (fr_pk q) (fr_pr D) hx (fr_sa S) (fr_co S) (fr_po S) (fr_te S) (fr_ac S) (fr_cK S) (fr_cT S) (fr_cL S) (fr_cN S) (fr_tF S) (fr_tH S) (fr_tO S) (fr_vL S) (fr_vF S) (fr_aW S) (fr_aK S) (fr_aX S) (fr_aY S) (fr_aZ S) (fr_nu D) (fr_fd D) (fr_kd D) o (fr_pa q) (fr_ch q) (fr_nx q) (fr_fa q) (fr_st q) (fr_rt q) (fr_zs z) (fr_zg z) (fr_zb z) (fr_zm z) (fr_zo z) (fr_zn z) (fr_zf z) (fr_ou D) := by
  intro m
  induction m with
  | zero =>
    intro n i G q A z hi hn hE hS hG hJ
    obtain ⟨n, rfl⟩ : ∃ m, n = m + 1 := ⟨n - 1, by omega⟩
    have hlen := fr_LV_len hlv
    have hi' : i = (fr_lv D).length := by omega
    subst hi'
    exact br_t (nI_le (Nat.le_refl _) (by omega)) (hJ G q A (fr_zg z) hE hS (by omega))
  | succ m ih =>
    intro n i G q A z hi hn hE hS hG hJ
    obtain ⟨n, rfl⟩ : ∃ m, n = m + 1 := ⟨n - 1, by omega⟩
    have hlen := fr_LV_len hlv
    have hil : i < (fr_lv D).length := by omega
    have hfm := fr_getD_mem hil
    have hf6 := hlv.2 _ hfm
    have hE' := hE
    obtain ⟨⟨b1, b2, b3, b4, b5⟩, ⟨h2, h3, h4, h5, h6⟩, h7⟩ := hE'
    have hnone : A r ((fr_lv D).getD i 0 :: g) = none := by
      cases e : A r ((fr_lv D).getD i 0 :: g) with
      | none => rfl
      | some s => exact absurd ((h6 _).mp ⟨s, e⟩).1 (fr_take_no hlv.1 hil)
    have hcl : (nI i).toNatClampNeg = i := nI_clamp (by omega)
    refine br_f (nI_ge (by omega) (by omega)) (br_t rfl ⟨vp_in_nI (by omega) (by omega), ?_⟩)
    rw [hcl, hO i hil]
    refine fr_x_attach b1 h4 hW hf6 hnone ?_ ?_
    · intro he
      refine br_t (by decide) (nm_r (nI_1 i) (ih n (i + 1) G q A z (by omega) (by omega) (fr_E9_no hE hil he) hS (by omega) ?_))
      intro G' q' A' a e1 e2 e3
      exact hJ G' q' A' a e1 e2 (by rw [Nat.add_mul]; omega)
    · intro he q' s hQ' hs2 hs3 hs4 hs5 hlt
      have hgc : (nI G.length).toNatClampNeg = G.length := nI_clamp (by omega)
      refine br_f (nI_pos (by omega)) (nm_r (nI_1 G.length) ⟨vp_in_nI (by omega) (by omega), nm_r (e' := upd (fr_zg z) G.length (nI s)) (by rw [hgc, fr_s1616 (by omega)]) (nm_r (nI_1 i) ?_)⟩)
      refine ih n (i + 1) (((fr_lv D).getD i 0 :: g) :: G) q' (fr_ins A r ((fr_lv D).getD i 0 :: g) s) (fr_sg z (upd (fr_zg z) G.length (nI s))) (by omega) (by omega) (fr_E9_yes hE hlv hil he hnone hQ' hs3 hs5) ?_ (by rw [List.length_cons]; omega) ?_
      · refine fr_Sk_push (fr_Sk_congr (fun _ _ => rfl) (fun g' hg' => ?_) hS) fr_ins_s
        rw [fr_ins_n]
        rintro ⟨_, e⟩
        obtain ⟨_, ⟨x, hx'⟩, _⟩ := b4 g' hg'
        rw [e, hnone] at hx'
        cases hx'
      · intro G' q'' A' a e1 e2 e3
        refine hJ G' q'' A' a e1 e2 ?_
        rw [fr_wt, List.length_cons] at e3
        rw [Nat.add_mul]
        omega
theorem fr_x_ext42 {post : SX → Prop} {J : Int32 → Int32 → Int32 → Int32 → Int32 → Int32 → Int32 → Int32 → Int32 → fr_FN → fr_FN → fr_FN → fr_FN → fr_FN → fr_FN → fr_FN → fr_FN → fr_FN → fr_FN → fr_FN → fr_FN → fr_FN → fr_FN → fr_FN → fr_FN → fr_FN → fr_FN → fr_FN → fr_FN → fr_FN → fr_FN → fr_FN → fr_FN → fr_FN → fr_FN → fr_FN → fr_FN → fr_FN → fr_FN → fr_FN → fr_FN → fr_FN → fr_FN → fr_FN → fr_FN → fr_FN → Prop}
    {r k : Nat} {g : List Nat} {q : fr_QR} {A : fr_AT} {z : fr_ZR} {x3 : Int32} (hQ : fr_PQ q A) (ht : A r g = some k) (hW : fr_WR S r) (hlv : fr_LV (fr_lv D)) (hO : fr_OK o (fr_lv D))
    (hK : ∃ n91, wX_extend_91 post J (nI r) (nI k) (nI g.length) (nI (fr_ct S (fr_kd D) (fr_fd D) (fr_lv D) r g)) n91 x3 0 (nI (fr_ru S)) (fr_bX S) (nI (fr_lv D).length) (nI (fr_md D)) (fr_fr (fr_sq q (upd (fr_st q) k (nI (fr_ct S (fr_kd D) (fr_fd D) (fr_lv D) r g))))) (fr_pk (fr_sq q (upd (fr_st q) k (nI (fr_ct S (fr_kd D) (fr_fd D) (fr_lv D) r g))))) (fr_pr D) hx (fr_sa S) (fr_co S) (fr_po S) (fr_te S) (fr_ac S) (fr_cK S) (fr_cT S) (fr_cL S) (fr_cN S) (fr_tF S) (fr_tH S) (fr_tO S) (fr_vL S) (fr_vF S) (fr_aW S) (fr_aK S) (fr_aX S) (fr_aY S) (fr_aZ S) (fr_nu D) (fr_fd D) (fr_kd D) o (fr_pa (fr_sq q (upd (fr_st q) k (nI (fr_ct S (fr_kd D) (fr_fd D) (fr_lv D) r g))))) (fr_ch (fr_sq q (upd (fr_st q) k (nI (fr_ct S (fr_kd D) (fr_fd D) (fr_lv D) r g))))) (fr_nx (fr_sq q (upd (fr_st q) k (nI (fr_ct S (fr_kd D) (fr_fd D) (fr_lv D) r g))))) (fr_fa (fr_sq q (upd (fr_st q) k (nI (fr_ct S (fr_kd D) (fr_fd D) (fr_lv D) r g))))) (fr_st (fr_sq q (upd (fr_st q) k (nI (fr_ct S (fr_kd D) (fr_fd D) (fr_lv D) r g))))) (fr_rt (fr_sq q (upd (fr_st q) k (nI (fr_ct S (fr_kd D) (fr_fd D) (fr_lv D) r g))))) (fr_zs z) (fr_zg z) (fr_zb z) (fr_zm z) (fr_zo z) (fr_zn z) (fr_zf z) (fr_ou D)) :
    ∀ (m n i a : Nat), i + m = (fr_lv D).length → m < n → a + (((fr_lv D).drop i).map (fun f => fr_bl S (fr_kd D) (fr_fd D) r f g)).sum = fr_ct S (fr_kd D) (fr_fd D) (fr_lv D) r g →
    wX_extend_42 post J (nI r) x3 (nI k) (nI g.length) (nI (fr_ru S)) (fr_bX S) (nI (fr_lv D).length) (nI (fr_md D)) (fr_fr q) (fr_pk q) (fr_pr D) hx (fr_sa S) (fr_co S) (fr_po S) (fr_te S) (fr_ac S) (fr_cK S) (fr_cT S) (fr_cL S) (fr_cN S) (fr_tF S) (fr_tH S) (fr_tO S) (fr_vL S) (fr_vF S) (fr_aW S) (fr_aK S) (fr_aX S) (fr_aY S) (fr_aZ S) (fr_nu D) (fr_fd D) (fr_kd D) o (fr_pa q) (fr_ch q) (fr_nx q) (fr_fa q) (fr_st q) (fr_rt q) (fr_zs z) (fr_zg z) (fr_zb z) (fr_zm z) (fr_zo z) (fr_zn z) (fr_zf z) (fr_ou D) n (nI a) (nI i) := by
  have hlen := fr_LV_len hlv
  have hkl := (hQ.1.1 _ _ _ ht).2.2.2
  have hkc : (nI k).toNatClampNeg = k := nI_clamp (by omega)
  have hct := fr_ct_le (kd := fr_kd D) (fd := fr_fd D) (lv := fr_lv D) (p := g) hW hlen
  intro m
  induction m with
  | zero =>
    intro n i a hi hn hs
    obtain ⟨n, rfl⟩ : ∃ m, n = m + 1 := ⟨n - 1, by omega⟩
    rw [List.drop_eq_nil_of_le (by omega), List.map_nil, List.sum_nil, Nat.add_zero] at hs
    refine br_t (nI_le (by omega) (by omega)) ⟨vp_in_nI hkl (by omega), nm_r (e' := upd (fr_st q) k (nI a)) (by rw [hkc, fr_b88 (by omega)]) ?_⟩
    rw [hs]
    exact hK
  | succ m ih =>
    intro n i a hi hn hs
    obtain ⟨n, rfl⟩ : ∃ m, n = m + 1 := ⟨n - 1, by omega⟩
    have hil : i < (fr_lv D).length := by omega
    have hcl : (nI i).toNatClampNeg = i := nI_clamp (by omega)
    rw [fr_drop hil, List.map_cons, List.sum_cons] at hs
    refine br_f (nI_ge (by omega) (by omega)) ⟨vp_in_nI (by omega) (by omega), ?_⟩
    rw [hcl, hO i hil]
    refine fr_x_blocks hQ ht hW (hlv.2 _ (fr_getD_mem hil)) (nm_r (nI_add _ _) (nm_r (nI_1 i) (ih n (i + 1) _ (by omega) (by omega) (by omega))))
theorem fr_x_ext13 {post : SX → Prop} {r : Nat} {p0 : List Nat} (hW : fr_WR S r) (hlv : fr_LV (fr_lv D)) (hO : fr_OK o (fr_lv D)) :
    ∀ (w n : Nat) (G : List (List Nat)) (q : fr_QR) (A : fr_AT) (z : fr_ZR), fr_wt G ≤ w → w < n → fr_EI S (fr_kd D) (fr_fd D) (fr_lv D) r p0 q0 A0 q A G → fr_Sk (fr_zg z) A r G → fr_wt G ≤ 259 →
    (∀ (q' : fr_QR) (A' : fr_AT) (a : fr_FN), fr_EI S (fr_kd D) (fr_fd D) (fr_lv D) r p0 q0 A0 q' A' [] → post (fr_mX S D hx o q' (fr_sg z a))) →
    wX_extend_13 post (nI r) n (nI G.length) (nI (fr_ru S)) (fr_bX S) (nI (fr_lv D).length) (nI (fr_md D)) (fr_fr q) (fr_pk q) (fr_pr D) hx (fr_sa S) (fr_co S) (fr_po S) (fr_te S) (fr_ac S) (fr_cK S) (fr_cT S) (fr_cL S) (fr_cN S) (fr_tF S) (fr_tH S) (fr_tO S) (fr_vL S) (fr_vF S) (fr_aW S) (fr_aK S) (fr_aX S) (fr_aY S) (fr_aZ S) (fr_nu D) (fr_fd D) (fr_kd D) o (fr_pa q) (fr_ch q) (fr_nx q) (fr_fa q) (fr_st q) (fr_rt q) (fr_zs z) (fr_zg z) (fr_zb z) (fr_zm z) (fr_zo z) (fr_zn z) (fr_zf z) (fr_ou D) := by
  intro w
  induction w with
  | zero =>
    intro n G q A z hw hn hE hS hG hJ
    obtain ⟨n, rfl⟩ : ∃ m, n = m + 1 := ⟨n - 1, by omega⟩
    match G, hw, hE, hS with
    | [], _, hE, hS => exact br_t (by decide) (hJ q A (fr_zg z) hE)
    | g :: G, hw, hE, hS =>
      exfalso
      obtain ⟨_, ⟨x, hx'⟩, _⟩ := hE.1.2.2.2.1 g List.mem_cons_self
      have := fr_w_pos (hE.1.1.1.1 _ _ _ hx').2.1
      rw [fr_wt] at hw
      omega
  | succ w ih =>
    intro n G q A z hw hn hE hS hG hJ
    obtain ⟨n, rfl⟩ : ∃ m, n = m + 1 := ⟨n - 1, by omega⟩
    match G, hw, hE, hS, hG with
    | [], _, hE, hS, _ => exact br_t (by decide) (hJ q A (fr_zg z) hE)
    | g :: G, hw, hE, hS, hG =>
      obtain ⟨⟨k, hk, hk2⟩, hS2⟩ := hS
      have hQ := hE.1.1
      have hkv := hQ.1.1 _ _ _ hk
      have hkl := hkv.2.2.2
      have hlen3 : ∀ g', g' ∈ g :: G → g'.length ≤ 3 := by
        intro g' hg'
        obtain ⟨_, ⟨x, hx'⟩, _⟩ := hE.1.2.2.2.1 g' hg'
        exact (hQ.1.1 _ _ _ hx').2.1
      have hGl := fr_wt_len _ hlen3
      rw [List.length_cons] at hGl
      have hws := fr_w_step hkv.2.1
      rw [fr_wt] at hw hG hGl
      have hlen := fr_LV_len hlv
      refine br_f (nI_nle (by rw [List.length_cons]; omega) (by rw [List.length_cons]; omega)) (nm_r (e' := nI G.length) (fr_m1p (by rw [List.length_cons]; omega)) ⟨vp_in_nI (by omega) (by omega), nm_r (e' := nI k) (by rw [nI_clamp (by omega)]; exact hk2) ?_⟩)
      refine fr_x_depth hQ hk ?_
      refine ⟨_, fr_x_ext42 hQ hk hW hlv hO ?_ (fr_lv D).length _ 0 0 (by omega) (Nat.lt_succ_self _) (by rw [List.drop_zero, Nat.zero_add]; rfl)⟩
      by_cases hc : fr_ct S (fr_kd D) (fr_fd D) (fr_lv D) r g = 0
      · rw [hc]
        obtain ⟨s1, ⟨s2, s3, s4⟩, s5⟩ := fr_E9_start hE hk (nI 0)
        refine ⟨(fr_lv D).length + 1, fr_x_ext91 (p0 := p0) (q0 := q0) (A0 := A0) hW hlv hO (fr_lv D).length _ 0 G (fr_sq q (upd (fr_st q) k (nI 0))) A z (by omega) (Nat.lt_succ_self _) ⟨s1, ⟨s2, s3, hk, pk_us, fun x => ?_⟩, s5⟩ hS2 (by omega) ?_⟩
        · rw [s4 x, List.take_zero]
          constructor
          · rintro ⟨s, e⟩; cases e
          · rintro ⟨a, _⟩; cases a
        · intro G' q' A' a e1 e2 e3
          have e4 : (fr_lv D).length * fr_w (g.length + 1) ≤ 6 * fr_w (g.length + 1) := Nat.mul_le_mul_right _ hlen
          exact ih n G' q' A' (fr_sg z a) (by omega) (by omega) (fr_E9_end e1 hc) e2 (by omega) hJ
      · refine ⟨1, ?_⟩
        have hE2 := fr_EI_blocked hE hk hc
        have hct := fr_ct_le (kd := fr_kd D) (fd := fr_fd D) (lv := fr_lv D) (p := g) hW hlen
        have hgo := ih n G _ A z (by omega) (by omega) hE2 hS2 (by omega) hJ
        exact br_c (fun _ => hgo) (fun _ => br_f (nI_ne0 (by omega) (by omega)) hgo)
theorem fr_x_extend {post : SX → Prop} {r t : Nat} {p0 : List Nat} {q : fr_QR} {A : fr_AT} {z : fr_ZR} (hQ : fr_PQ q A) (ht : A r p0 = some t) (hno : ∀ x, A r (x :: p0) = none) (hW : fr_WR S r) (hlv : fr_LV (fr_lv D)) (hO : fr_OK o (fr_lv D))
    (hp : ∀ (q' : fr_QR) (A' : fr_AT) (a : fr_FN), fr_Ext S (fr_kd D) (fr_fd D) (fr_lv D) r p0 q A q' A' → post (fr_mX S D hx o q' (fr_sg z a))) :
    wpX_extend post (fr_mX S D hx o q z) (nI r) (nI t) := by
  have htv := hQ.1.1 _ _ _ ht
  refine nm_r (e' := nI 1) rfl (nm_r (e' := upd (fr_zg z) 0 (nI t)) (by rw [fr_s1616 (by omega)]) ⟨260, ?_⟩)
  refine fr_x_ext13 (q0 := q) (A0 := A) (p0 := p0) hW hlv hO 259 260 [p0] q A (fr_sg z (upd (fr_zg z) 0 (nI t))) ?_ (by omega) ?_ ?_ ?_ ?_
  · have := fr_w_le p0.length
    rw [fr_wt, fr_wt]; omega
  · refine ⟨⟨hQ, fun _ _ _ => rfl, fun _ _ _ _ _ => rfl, ?_, ?_⟩, ?_⟩
    · intro g hg
      rw [List.mem_singleton.mp hg]
      exact ⟨List.suffix_rfl, ⟨t, ht⟩, hno⟩
    · exact List.nodup_cons.mpr ⟨fun h => (by cases h), List.nodup_nil⟩
    · intro p' t' hs e
      left
      apply Classical.byContradiction
      intro hne
      have hne' : p' ≠ p0 := fun e => hne (by rw [e]; exact List.mem_singleton.mpr rfl)
      obtain ⟨f, hf⟩ := fr_sfx hs hne'
      obtain ⟨s, hs2⟩ := fr_up hQ.2.1 hf ⟨t', e⟩
      rw [hno] at hs2
      cases hs2
  · exact ⟨⟨t, ht, (pk_us : upd (fr_zg z) 0 (nI t) 0 = nI t)⟩, trivial⟩
  · have := fr_w_le p0.length
    rw [fr_wt, fr_wt]; omega
  · intro q' A' a hE
    refine hp q' A' a ⟨hE.1.1, hE.1.2.1, hE.1.2.2.1, fun p' t' h1 h2 => ?_⟩
    rcases hE.2 p' t' h1 h2 with h | h
    · cases h
    · exact h
end
end
section
theorem fr_fr_rng {fr : Int32} {nx fa : fr_FN} {A : fr_AT} (h : fr_PL fr nx fa A) : vp_nar .short fr.toInt16.toInt32 = fr := by
  obtain ⟨L, _, h2, h3, _⟩ := h
  match L, h2, h3 with
  | [], h2, _ => rw [h2]; exact fr_s1616 (by omega)
  | a :: l, h2, h3 =>
    have := (h3 a List.mem_cons_self).1
    rw [h2.1]
    exact fr_s1616 (by omega)
theorem fr_ndrev {l : List Nat} (h : l.Nodup) : l.reverse.Nodup := List.pairwise_reverse.mpr (List.Pairwise.imp (fun h => Ne.symm h) h)
def fr_qf (q : fr_QR) (k : Nat) : fr_QR := (nI k, fr_pk q, fr_pa q, fr_ch q, upd (fr_nx q) k (fr_fr q), upd (fr_fa q) k (-2), fr_st q, fr_rt q)
def fr_qc (q : fr_QR) (t : Nat) (v : Int32) : fr_QR := (fr_fr q, fr_pk q, fr_pa q, upd (fr_ch q) t v, fr_nx q, fr_fa q, fr_st q, fr_rt q)
def fr_PMq (q : fr_QR) (A B : fr_AT) (r : Nat) (p : List Nat) (t : Nat) (G : List (List Nat)) : Prop := fr_PM (fr_fr q) (fr_pk q) (fr_pa q) (fr_ch q) (fr_nx q) (fr_fa q) (fr_rt q) A B r p t G
section
variable {S : fr_SR} {D : fr_DR} {hx : Int32} {o : fr_FN} {q : fr_QR} {A B : fr_AT}
theorem fr_x_pr63 {post : SX → Prop} {J : Int32 → Int32 → fr_FN → fr_FN → fr_FN → fr_FN → fr_FN → fr_FN → fr_FN → fr_FN → fr_FN → fr_FN → fr_FN → fr_FN → fr_FN → fr_FN → fr_FN → fr_FN → fr_FN → fr_FN → fr_FN → fr_FN → fr_FN → fr_FN → fr_FN → fr_FN → fr_FN → fr_FN → fr_FN → fr_FN → fr_FN → fr_FN → fr_FN → fr_FN → fr_FN → fr_FN → fr_FN → fr_FN → fr_FN → Prop} {r k : Nat} {g : List Nat} {G : List (List Nat)} (hA : fr_PA A) (hB : ∀ f s, B r (f :: g) = some s → A r (f :: g) = some s) (hk : k < 1036) (hfr : vp_nar .short (fr_fr q).toInt16.toInt32 = fr_fr q) :
    ∀ (l : List Nat) (n : Nat) (C : List Nat) (x : Int32) (z : fr_ZR), fr_Ch (fr_nx q) B r g x l → l.length < n → fr_Sk (fr_zg z) A r (C.map (fun f => f :: g) ++ G) → C.length + G.length + l.length < 600 →
    (∀ a, fr_Sk a A r ((l.reverse ++ C).map (fun f => f :: g) ++ G) → J (nI (l.length + C.length + G.length)) (nI k) (fr_sa S) (fr_co S) (fr_po S) (fr_te S) (fr_ac S) (fr_cK S) (fr_cT S) (fr_cL S) (fr_cN S) (fr_tF S) (fr_tH S) (fr_tO S) (fr_vL S) (fr_vF S) (fr_aW S) (fr_aK S) (fr_aX S) (fr_aY S) (fr_aZ S) (fr_nu D) (fr_fd D) (fr_kd D) o (fr_pa (fr_qf q k)) (fr_ch (fr_qf q k)) (fr_nx (fr_qf q k)) (fr_fa (fr_qf q k)) (fr_st (fr_qf q k)) (fr_rt (fr_qf q k)) (fr_zs (fr_sg z a)) (fr_zg (fr_sg z a)) (fr_zb (fr_sg z a)) (fr_zm (fr_sg z a)) (fr_zo (fr_sg z a)) (fr_zn (fr_sg z a)) (fr_zf (fr_sg z a)) (fr_ou D)) →
    wX_prune_63 post J (nI k) (nI (fr_ru S)) (fr_bX S) (nI (fr_lv D).length) (nI (fr_md D)) (fr_fr q) (fr_pk q) (fr_pr D) hx n (nI (C.length + G.length)) x (fr_sa S) (fr_co S) (fr_po S) (fr_te S) (fr_ac S) (fr_cK S) (fr_cT S) (fr_cL S) (fr_cN S) (fr_tF S) (fr_tH S) (fr_tO S) (fr_vL S) (fr_vF S) (fr_aW S) (fr_aK S) (fr_aX S) (fr_aY S) (fr_aZ S) (fr_nu D) (fr_fd D) (fr_kd D) o (fr_pa q) (fr_ch q) (fr_nx q) (fr_fa q) (fr_st q) (fr_rt q) (fr_zs z) (fr_zg z) (fr_zb z) (fr_zm z) (fr_zo z) (fr_zn z) (fr_zf z) (fr_ou D) := by
  have hkc : (nI k).toNatClampNeg = k := nI_clamp (by omega)
  have hkin : vp_in (nI k) 1036 := vp_in_nI hk (by omega)
  intro l
  induction l with
  | nil =>
    intro n C x z hc hn hS hG hJ
    obtain ⟨n, rfl⟩ : ∃ m, n = m + 1 := ⟨n - 1, by omega⟩
    have hx : x = -1 := hc
    subst hx
    refine br_t (by decide) ⟨hkin, nm_r (e' := upd (fr_fa q) k (-2)) (by rw [hkc, fr_bm2]) ⟨hkin, nm_r (e' := upd (fr_nx q) k (fr_fr q)) (by rw [hkc, hfr]) ?_⟩⟩
    have := hJ (fr_zg z) hS
    rw [List.length_nil, Nat.zero_add] at this
    exact this
  | cons f l ih =>
    intro n C x z hc hn hS hG hJ
    obtain ⟨n, rfl⟩ : ∃ m, n = m + 1 := ⟨n - 1, by omega⟩
    obtain ⟨s, s1, s2, s3⟩ := hc
    subst s2
    have hs := hB f s s1
    have hsl := (hA.1 _ _ _ hs).2.2.2
    rw [List.length_cons] at hG hn
    have hcl : (nI (C.length + G.length)).toNatClampNeg = C.length + G.length := nI_clamp (by omega)
    refine br_f (nI_pos (by omega)) (nm_r (e' := nI ((f :: C).length + G.length)) (by rw [nI_1, List.length_cons]; exact congrArg nI (by omega)) ⟨vp_in_nI (by omega) (by omega), nm_r (e' := upd (fr_zg z) (C.length + G.length) (nI s)) (by rw [hcl, fr_s1616 (by omega)]) ⟨vp_in_nI hsl (by omega), nm_r (e' := fr_nx q s) (by rw [nI_clamp (by omega)]) ?_⟩⟩)
    refine ih n (f :: C) (fr_nx q s) (fr_sg z (upd (fr_zg z) (C.length + G.length) (nI s))) s3 (by omega) ?_ (by rw [List.length_cons]; omega) ?_
    · have := fr_Sk_push hS hs
      rw [List.length_append, List.length_map] at this
      exact this
    · intro a ha
      have := hJ a (by rw [List.reverse_cons, List.append_assoc]; exact ha)
      rw [show (f :: l).length + C.length + G.length = l.length + (f :: C).length + G.length by simp; omega] at this
      exact this
theorem fr_x_pr41 {post : SX → Prop} {r t : Nat} {p : List Nat} :
    ∀ (w n : Nat) (G : List (List Nat)) (q : fr_QR) (B : fr_AT) (z : fr_ZR), fr_wt G ≤ w → w < n → fr_PMq q A B r p t G → fr_Sk (fr_zg z) A r G → fr_wt G ≤ 259 →
    (∀ (q' : fr_QR) (B' : fr_AT) (a : fr_FN), fr_PMq q' A B' r p t [] → fr_st q' = fr_st q → fr_ch q' = fr_ch q → (∀ r' p' j, B' r' p' = some j → fr_nx q' j = fr_nx q j) → post (fr_mX S D hx o q' (fr_sg z a))) →
    wX_prune_41 post (nI (fr_ru S)) (fr_bX S) (nI (fr_lv D).length) (nI (fr_md D)) (fr_pk q) (fr_pr D) hx n (nI G.length) (fr_fr q) (fr_sa S) (fr_co S) (fr_po S) (fr_te S) (fr_ac S) (fr_cK S) (fr_cT S) (fr_cL S) (fr_cN S) (fr_tF S) (fr_tH S) (fr_tO S) (fr_vL S) (fr_vF S) (fr_aW S) (fr_aK S) (fr_aX S) (fr_aY S) (fr_aZ S) (fr_nu D) (fr_fd D) (fr_kd D) o (fr_pa q) (fr_ch q) (fr_nx q) (fr_fa q) (fr_st q) (fr_rt q) (fr_zs z) (fr_zg z) (fr_zb z) (fr_zm z) (fr_zo z) (fr_zn z) (fr_zf z) (fr_ou D) := by
  intro w
  induction w with
  | zero =>
    intro n G q B z hw hn hE hS hG hJ
    obtain ⟨n, rfl⟩ : ∃ m, n = m + 1 := ⟨n - 1, by omega⟩
    match G, hw, hE, hS with
    | [], _, hE, hS => exact br_t (by decide) (hJ q B (fr_zg z) hE rfl rfl (fun _ _ _ _ => rfl))
    | g :: G, hw, hE, hS =>
      exfalso
      obtain ⟨_, ⟨x, hx'⟩⟩ := hE.2.2.2.2.2.2.2 g List.mem_cons_self
      have := fr_w_pos (hE.1.1.1 _ _ _ hx').2.1
      rw [fr_wt] at hw
      omega
  | succ w ih =>
    intro n G q B z hw hn hE hS hG hJ
    obtain ⟨n, rfl⟩ : ∃ m, n = m + 1 := ⟨n - 1, by omega⟩
    match G, hw, hE, hS, hG with
    | [], _, hE, hS, _ => exact br_t (by decide) (hJ q B (fr_zg z) hE rfl rfl (fun _ _ _ _ => rfl))
    | g :: G, hw, hE, hS, hG =>
      obtain ⟨⟨k, hk, hk2⟩, hS2⟩ := hS
      have hA := hE.1.1
      have hkv := hA.1 _ _ _ hk
      have hkl := hkv.2.2.2
      have hlen3 : ∀ g', g' ∈ g :: G → g'.length ≤ 3 := by
        intro g' hg'
        obtain ⟨_, ⟨x, hx'⟩⟩ := hE.2.2.2.2.2.2.2 g' hg'
        exact (hA.1 _ _ _ hx').2.1
      have hGl := fr_wt_len _ hlen3
      rw [List.length_cons] at hGl
      have hws := fr_w_step hkv.2.1
      rw [fr_wt] at hw hG hGl
      obtain ⟨hb, l, l1, l2, l3, l4, _⟩ := fr_PM_chain hE hk
      have hl6 : l.length ≤ 6 := by
        refine fr_nd6 l1 (fun x hx' => ?_)
        obtain ⟨s, hs⟩ := l4 x hx'
        exact (hA.1 _ _ _ hs).2.2.1 x List.mem_cons_self
      have e4 : l.length * fr_w (g.length + 1) ≤ 6 * fr_w (g.length + 1) := Nat.mul_le_mul_right _ hl6
      have hcl : (nI k).toNatClampNeg = k := nI_clamp (by omega)
      refine br_f (nI_nle (by rw [List.length_cons]; omega) (by rw [List.length_cons]; omega)) (nm_r (e' := nI G.length) (fr_m1p (by rw [List.length_cons]; omega)) ⟨vp_in_nI (by omega) (by omega), nm_r (e' := nI k) (by rw [nI_clamp (by omega)]; exact hk2) ⟨vp_in_nI hkl (by omega), nm_r (e' := fr_ch q k) (by rw [hcl]) ⟨l.length + 1, ?_⟩⟩⟩)
      have hstep := fr_x_pr63 (S := S) (D := D) (hx := hx) (o := o) (q := q) (post := post) (J := wX_prune_41 post (nI (fr_ru S)) (fr_bX S) (nI (fr_lv D).length) (nI (fr_md D)) (fr_pk q) (fr_pr D) hx n) (G := G) hA (fun f s hs => (fr_Cut_sub hE.2.2.2.2.2.1 hs).1) hkl (fr_fr_rng hE.2.2.2.2.1) l (l.length + 1) [] (fr_ch q k) z l2 (Nat.lt_succ_self _) hS2 (by rw [List.length_nil]; omega) ?_
      · rw [List.length_nil, Nat.zero_add] at hstep
        exact hstep
      · intro a ha
        rw [List.append_nil] at ha
        have hE2 : fr_PMq (fr_qf q k) A (fr_del B r g) r p t (l.reverse.map (fun f => f :: g) ++ G) := by
          refine fr_PM_step hE hk (l := l.reverse) ?_ (fun f hf => l4 f (List.mem_reverse.mp hf)) (fun f s hs => List.mem_reverse.mpr (l3 f s hs)) (fun j hj => pk_un hj) pk_us (fun j hj => pk_un hj) pk_us
          exact fr_ndrev l1
        have hwt := fr_wt_step g G l.reverse
        rw [List.length_reverse] at hwt
        have hfin := ih n (l.reverse.map (fun f => f :: g) ++ G) (fr_qf q k) (fr_del B r g) (fr_sg z a) (by omega) (by omega) hE2 ha (by omega) (fun q' B' a' w1 w2 w3 w4 => hJ q' B' a' w1 w2 w3 (fun r' p' j hj => by
          refine (w4 r' p' j hj).trans (pk_un ?_)
          rintro rfl
          have c1 := (fr_Cut_sub w1.2.2.2.2.2.1 hj).1
          obtain ⟨rfl, rfl⟩ := hA.2 _ _ _ _ _ c1 hk
          have c2 := (fr_PM_end w1).2.1 _ _ (hE.2.2.2.2.2.2.2 p' List.mem_cons_self).1
          rw [c2] at hj
          cases hj))
        rw [List.length_append, List.length_map, List.length_reverse] at hfin
        rw [List.length_nil, Nat.add_zero]
        exact hfin
theorem fr_x_pr9 {post : SX → Prop} {r t : Nat} {p : List Nat} (hA : fr_PA A) (ht : t < 1036) :
    ∀ (l : List Nat) (n : Nat) (C : List Nat) (x : Int32) (z : fr_ZR), fr_Ch (fr_nx q) A r p x l → l.length < n → fr_Sk (fr_zg z) A r (C.map (fun f => f :: p)) → C.length + l.length < 600 →
    (∀ a, fr_Sk a A r ((l.reverse ++ C).map (fun f => f :: p)) → ∃ n41, wX_prune_41 post (nI (fr_ru S)) (fr_bX S) (nI (fr_lv D).length) (nI (fr_md D)) (fr_pk q) (fr_pr D) hx n41 (nI (l.length + C.length)) (fr_fr q) (fr_sa S) (fr_co S) (fr_po S) (fr_te S) (fr_ac S) (fr_cK S) (fr_cT S) (fr_cL S) (fr_cN S) (fr_tF S) (fr_tH S) (fr_tO S) (fr_vL S) (fr_vF S) (fr_aW S) (fr_aK S) (fr_aX S) (fr_aY S) (fr_aZ S) (fr_nu D) (fr_fd D) (fr_kd D) o (fr_pa (fr_qc q t (-1))) (fr_ch (fr_qc q t (-1))) (fr_nx (fr_qc q t (-1))) (fr_fa (fr_qc q t (-1))) (fr_st (fr_qc q t (-1))) (fr_rt (fr_qc q t (-1))) (fr_zs (fr_sg z a)) (fr_zg (fr_sg z a)) (fr_zb (fr_sg z a)) (fr_zm (fr_sg z a)) (fr_zo (fr_sg z a)) (fr_zn (fr_sg z a)) (fr_zf (fr_sg z a)) (fr_ou D)) →
    wX_prune_9 post (nI t) (nI (fr_ru S)) (fr_bX S) (nI (fr_lv D).length) (nI (fr_md D)) (fr_fr q) (fr_pk q) (fr_pr D) hx n (nI C.length) x (fr_sa S) (fr_co S) (fr_po S) (fr_te S) (fr_ac S) (fr_cK S) (fr_cT S) (fr_cL S) (fr_cN S) (fr_tF S) (fr_tH S) (fr_tO S) (fr_vL S) (fr_vF S) (fr_aW S) (fr_aK S) (fr_aX S) (fr_aY S) (fr_aZ S) (fr_nu D) (fr_fd D) (fr_kd D) o (fr_pa q) (fr_ch q) (fr_nx q) (fr_fa q) (fr_st q) (fr_rt q) (fr_zs z) (fr_zg z) (fr_zb z) (fr_zm z) (fr_zo z) (fr_zn z) (fr_zf z) (fr_ou D) := by
  have htc : (nI t).toNatClampNeg = t := nI_clamp (by omega)
  have htin : vp_in (nI t) 1036 := vp_in_nI ht (by omega)
  intro l
  induction l with
  | nil =>
    intro n C x z hc hn hS hG hJ
    obtain ⟨n, rfl⟩ : ∃ m, n = m + 1 := ⟨n - 1, by omega⟩
    have hx : x = -1 := hc
    subst hx
    refine br_t (by decide) ⟨htin, nm_r (e' := upd (fr_ch q) t (-1)) (by rw [htc, fr_sm1]) ?_⟩
    have := hJ (fr_zg z) hS
    rw [List.length_nil, Nat.zero_add] at this
    exact this
  | cons f l ih =>
    intro n C x z hc hn hS hG hJ
    obtain ⟨n, rfl⟩ : ∃ m, n = m + 1 := ⟨n - 1, by omega⟩
    obtain ⟨s, s1, s2, s3⟩ := hc
    subst s2
    have hsl := (hA.1 _ _ _ s1).2.2.2
    rw [List.length_cons] at hG hn
    have hcl : (nI C.length).toNatClampNeg = C.length := nI_clamp (by omega)
    refine br_f (nI_pos (by omega)) (nm_r (e' := nI (f :: C).length) (nI_1 _) ⟨vp_in_nI (by omega) (by omega), nm_r (e' := upd (fr_zg z) C.length (nI s)) (by rw [hcl, fr_s1616 (by omega)]) ⟨vp_in_nI hsl (by omega), nm_r (e' := fr_nx q s) (by rw [nI_clamp (by omega)]) ?_⟩⟩)
    refine ih n (f :: C) (fr_nx q s) (fr_sg z (upd (fr_zg z) C.length (nI s))) s3 (by omega) ?_ (by rw [List.length_cons]; omega) ?_
    · have := fr_Sk_push hS s1
      rw [List.length_map] at this
      exact this
    · intro a ha
      have := hJ a (by rw [List.reverse_cons, List.append_assoc]; exact ha)
      rw [show (f :: l).length + C.length = l.length + (f :: C).length by simp; omega] at this
      exact this
theorem fr_x_prune {post : SX → Prop} {r t : Nat} {p : List Nat} {z : fr_ZR} (hQ : fr_PQ q A) (ht : A r p = some t)
    (hp : ∀ (q' : fr_QR) (A' : fr_AT) (a : fr_FN), fr_PQ q' A' → (∀ r' p', fr_Sb r p r' p' → A' r' p' = none) → (∀ r' p', ¬ fr_Sb r p r' p' → A' r' p' = A r' p') → fr_st q' = fr_st q → (∀ j, j ≠ t → fr_ch q' j = fr_ch q j) → (∀ r' p' j, A' r' p' = some j → fr_nx q' j = fr_nx q j) → post (fr_mX S D hx o q' (fr_sg z a))) :
    wpX_prune post (fr_mX S D hx o q z) (nI t) := by
  have htv := hQ.1.1 _ _ _ ht
  obtain ⟨l, l1, l2, l3⟩ := hQ.2.2.2.1 _ _ _ ht
  have hmem := fr_Ch_mem l2
  have hl6 : l.length ≤ 6 := by
    refine fr_nd6 l1 (fun x hx' => ?_)
    obtain ⟨s, hs⟩ := hmem x hx'
    exact (hQ.1.1 _ _ _ hs).2.2.1 x List.mem_cons_self
  refine ⟨vp_in_nI htv.2.2.2 (by omega), nm_r (e' := fr_ch q t) (by rw [nI_clamp (by omega)]) ⟨l.length + 1, ?_⟩⟩
  refine fr_x_pr9 (r := r) (p := p) (A := A) hQ.1 htv.2.2.2 l (l.length + 1) [] (fr_ch q t) z l2 (Nat.lt_succ_self _) trivial (by rw [List.length_nil]; omega) ?_
  intro a ha
  rw [List.append_nil] at ha
  have hwt := fr_wt_step p [] l.reverse
  rw [List.length_reverse, List.append_nil, fr_wt] at hwt
  have hws := fr_w_step htv.2.1
  have hwl := fr_w_le p.length
  have e4 : l.length * fr_w (p.length + 1) ≤ 6 * fr_w (p.length + 1) := Nat.mul_le_mul_right _ hl6
  have hPM : fr_PMq (fr_qc q t (-1)) A A r p t (l.reverse.map (fun f => f :: p)) :=
    fr_PM_start hQ ht (fun j hj => pk_un hj) pk_us (fr_ndrev l1) (fun f hf => hmem f (List.mem_reverse.mp hf)) (fun f s hs => List.mem_reverse.mpr (l3 f s hs))
  refine ⟨260, ?_⟩
  have hfin := fr_x_pr41 (S := S) (D := D) (hx := hx) (o := o) (post := post) (A := A) 259 260 (l.reverse.map (fun f => f :: p)) (fr_qc q t (-1)) A (fr_sg z a) (by omega) (by omega) hPM ha (by omega) ?_
  · rw [List.length_map, List.length_reverse] at hfin
    rw [List.length_nil, Nat.add_zero]
    exact hfin
  · intro q' B' a' h1 h2 h3 h4
    obtain ⟨e1, e2, e3⟩ := fr_PM_end h1
    refine hp q' B' a' e1 e2 e3 h2 (fun j hj => ?_) h4
    rw [h3]
    exact pk_un hj
end
end
section
theorem fr_Ch_rng {nx : fr_FN} {A : fr_AT} {r : Nat} {p : List Nat} (hA : fr_PA A) : ∀ {l : List Nat} {x : Int32}, fr_Ch nx A r p x l → vp_nar .short x = x := by
  intro l x h
  match l, h with
  | [], h =>
    have : x = -1 := h
    rw [this]; exact fr_sm1
  | f :: l, h =>
    obtain ⟨s, s1, s2, _⟩ := h
    have := (hA.1 _ _ _ s1).2.2.2
    rw [s2]
    exact fr_s16 (by omega)
def fr_DP (r : Nat) (p : List Nat) (f : Nat) (q : fr_QR) (A : fr_AT) (q' : fr_QR) (A' : fr_AT) : Prop :=
  fr_PQ q' A' ∧ (∀ r' p', r' = r → (f :: p) <:+ p' → A' r' p' = none) ∧ (∀ r' p', ¬ (r' = r ∧ (f :: p) <:+ p') → A' r' p' = A r' p') ∧ fr_st q' = fr_st q
theorem fr_DP_of {r f s : Nat} {p : List Nat} {q q1 q' : fr_QR} {A A1 : fr_AT} (hQ : fr_PQ q' (fr_del A1 r (f :: p))) (h1 : ∀ r' p', fr_Sb r (f :: p) r' p' → A1 r' p' = none) (h2 : ∀ r' p', ¬ fr_Sb r (f :: p) r' p' → A1 r' p' = A r' p') (h3 : fr_st q' = fr_st q) : fr_DP r p f q A q' (fr_del A1 r (f :: p)) := by
  refine ⟨hQ, ?_, ?_, h3⟩
  · rintro r' p' rfl hs
    by_cases e : p' = f :: p
    · rw [e]; exact fr_del_s
    · rw [fr_del_n (fun h => e h.2)]
      exact h1 _ _ ⟨rfl, hs, e⟩
  · intro r' p' hn
    rw [fr_del_n (by rintro ⟨rfl, rfl⟩; exact hn ⟨rfl, List.suffix_rfl⟩)]
    exact h2 _ _ (fun h => hn ⟨h.1, h.2.1⟩)
section
variable {S : fr_SR} {D : fr_DR} {hx : Int32} {o : fr_FN} {q : fr_QR} {A : fr_AT} {z : fr_ZR}
theorem fr_x_det41 {post : SX → Prop} {r t f s : Nat} {p l0 l : List Nat} {b : Int32} (hQ : fr_PQ q A) (ht : A r p = some t) (hs : A r (f :: p) = some s)
    (hnd : (l0 ++ f :: l).Nodup) (hch : fr_Ch (fr_nx q) A r p (fr_ch q t) (l0 ++ f :: l)) (hcov : ∀ x s, A r (x :: p) = some s → x ∈ l0 ++ f :: l)
    (hb : (l0 = [] ∧ b = -1) ∨ ∃ e l00 bn, l0 = l00 ++ [e] ∧ A r (e :: p) = some bn ∧ b = nI bn)
    (hp : ∀ (q' : fr_QR) (A' : fr_AT) (a : fr_FN), fr_DP r p f q A q' A' → post (fr_mX S D hx o q' (fr_sg z a))) :
    wX_detach_41 post (nI t) b (nI s) (nI (fr_ru S)) (fr_bX S) (nI (fr_lv D).length) (nI (fr_md D)) (fr_fr q) (fr_pk q) (fr_pr D) hx (fr_sa S) (fr_co S) (fr_po S) (fr_te S) (fr_ac S) (fr_cK S) (fr_cT S) (fr_cL S) (fr_cN S) (fr_tF S) (fr_tH S) (fr_tO S) (fr_vL S) (fr_vF S) (fr_aW S) (fr_aK S) (fr_aX S) (fr_aY S) (fr_aZ S) (fr_nu D) (fr_fd D) (fr_kd D) o (fr_pa q) (fr_ch q) (fr_nx q) (fr_fa q) (fr_st q) (fr_rt q) (fr_zs z) (fr_zg z) (fr_zb z) (fr_zm z) (fr_zo z) (fr_zn z) (fr_zf z) (fr_ou D) := by
  have hsv := hQ.1.1 _ _ _ hs
  have htv := hQ.1.1 _ _ _ ht
  have hscl : (nI s).toNatClampNeg = s := nI_clamp (by omega)
  have htcl : (nI t).toNatClampNeg = t := nI_clamp (by omega)
  have hsin : vp_in (nI s) 1036 := vp_in_nI hsv.2.2.2 (by omega)
  have htin : vp_in (nI t) 1036 := vp_in_nI htv.2.2.2 (by omega)
  have hts : t ≠ s := by
    rintro rfl
    have := (hQ.1.2 _ _ _ _ _ ht hs).2
    exact absurd (congrArg List.length this) (by simp)
  refine br_t (nI_pos' (by omega)) (fr_x_prune hQ hs ?_)
  intro q1 A1 a hQ1 hn1 hs1 hst1 hch1 hnx1
  have hkeep : ∀ x, A1 r (x :: p) = A r (x :: p) := by
    intro x
    refine hs1 _ _ ?_
    rintro ⟨_, h1, h2⟩
    exact h2 (h1.eq_of_length (by simp)).symm
  have hp1 : A1 r p = some t := by
    rw [hs1]
    · exact ht
    · rintro ⟨_, h1, _⟩
      have := h1.length_le
      rw [List.length_cons] at this
      omega
  have hs1' : A1 r (f :: p) = some s := by rw [hkeep]; exact hs
  have hno : ∀ x, A1 r (x :: f :: p) = none := fun x => hn1 _ _ ⟨rfl, List.suffix_cons _ _, fun e => absurd (congrArg List.length e) (by simp)⟩
  have hch' : fr_Ch (fr_nx q1) A1 r p (fr_ch q1 t) (l0 ++ f :: l) := by
    rw [hch1 t hts]
    refine fr_Ch_congr (fun x _ => hkeep x) (fun x j _ hj => ?_) hch
    rw [← hkeep] at hj
    exact hnx1 _ _ _ hj
  have hcov' : ∀ x s, A1 r (x :: p) = some s → x ∈ l0 ++ f :: l := fun x s h => hcov x s (by rw [← hkeep]; exact h)
  have hinj : ∀ x y j, A1 r (x :: p) = some j → A1 r (y :: p) = some j → x = y := fun x y j h1 h2 => (List.cons.inj (hQ1.1.2 _ _ _ _ _ h1 h2).2).1
  have hfr := fr_fr_rng hQ1.2.2.2.2.1
  rcases hb with ⟨rfl, rfl⟩ | ⟨e, l00, bn, rfl, he, rfl⟩
  · obtain ⟨s', w1, w2, w3⟩ := hch'
    have es : s' = s := by rw [hs1'] at w1; exact (Option.some.inj w1).symm
    subst es
    rw [List.nil_append, List.nodup_cons] at hnd
    refine br_f (by decide) ⟨hsin, htin, nm_r (e' := upd (fr_ch q1) t (fr_nx q1 s')) (by rw [htcl, hscl, fr_Ch_rng hQ1.1 w3]) ?_⟩
    refine ⟨hsin, nm_r (e' := upd (fr_fa q1) s' (-2)) (by rw [hscl, fr_bm2]) ⟨hsin, nm_r (e' := upd (fr_nx q1) s' (fr_fr q1)) (by rw [hscl, hfr]) ?_⟩⟩
    refine hp (nI s', fr_pk q1, fr_pa q1, upd (fr_ch q1) t (fr_nx q1 s'), upd (fr_nx q1) s' (fr_fr q1), upd (fr_fa q1) s' (-2), fr_st q1, fr_rt q1) (fr_del A1 r (f :: p)) a (fr_DP_of (s := s') (q1 := q1) ?_ hn1 hs1 hst1)
    refine fr_unlink (l := f :: l) (l' := l) hQ1 hp1 hs1' hno ⟨s', w1, w2, w3⟩ (fun x => ?_) hnd.2 hcov' ?_ (fun j hj => pk_un hj) (fun j hj => pk_un (fun e => hj f (e ▸ hs1'))) pk_us (fun j hj => pk_un hj) pk_us
    · rw [List.mem_cons]
      constructor
      · intro h
        exact ⟨Or.inr h, fun e => hnd.1 (e ▸ h)⟩
      · rintro ⟨h | h, h2⟩
        · exact absurd h h2
        · exact h
    · show fr_Ch (upd (fr_nx q1) s' (fr_fr q1)) (fr_del A1 r (f :: p)) r p (upd (fr_ch q1) t (fr_nx q1 s') t) l
      rw [pk_us]
      refine fr_Ch_congr (fun x hx' => fr_del_n ?_) (fun x j hx' hj => pk_un ?_) w3
      · rintro ⟨_, e⟩
        exact hnd.1 ((List.cons.inj e).1 ▸ hx')
      · rintro rfl
        exact hnd.1 (hinj _ _ _ hj hs1' ▸ hx')
  · have hev := hQ.1.1 _ _ _ he
    have he1 : A1 r (e :: p) = some bn := by rw [hkeep]; exact he
    have hbcl : (nI bn).toNatClampNeg = bn := nI_clamp (by omega)
    have hbin : vp_in (nI bn) 1036 := vp_in_nI hev.2.2.2 (by omega)
    have hnd2 : (l00 ++ e :: f :: l).Nodup := by rw [List.append_assoc] at hnd; exact hnd
    have hch2 : fr_Ch (fr_nx q1) A1 r p (fr_ch q1 t) (l00 ++ e :: f :: l) := by rw [List.append_assoc] at hch'; exact hch'
    have hef : e ≠ f := by
      rintro rfl
      exact (List.nodup_cons.mp (List.nodup_append.mp hnd2).2.1).1 List.mem_cons_self
    have hbs : bn ≠ s := by
      rintro rfl
      exact hef (hinj _ _ _ he1 hs1')
    have hrng : vp_nar .short (fr_nx q1 s) = fr_nx q1 s := by
      have : ∀ (l0 : List Nat) (x : Int32), fr_Ch (fr_nx q1) A1 r p x (l0 ++ f :: l) → fr_Ch (fr_nx q1) A1 r p (fr_nx q1 s) l := by
        intro l0
        induction l0 with
        | nil =>
          rintro x ⟨s', w1, w2, w3⟩
          have es : s' = s := by rw [hs1'] at w1; exact (Option.some.inj w1).symm
          rw [es] at w3
          exact w3
        | cons c l0 ih =>
          rintro x ⟨s', w1, w2, w3⟩
          exact ih _ w3
      exact fr_Ch_rng hQ1.1 (this _ _ hch')
    refine br_t (nI_pos' (by omega)) ⟨hsin, hbin, nm_r (e' := upd (fr_nx q1) bn (fr_nx q1 s)) (by rw [hbcl, hscl, hrng]) ?_⟩
    refine ⟨hsin, nm_r (e' := upd (fr_fa q1) s (-2)) (by rw [hscl, fr_bm2]) ⟨hsin, nm_r (e' := upd (upd (fr_nx q1) bn (fr_nx q1 s)) s (fr_fr q1)) (by rw [hscl, hfr]) ?_⟩⟩
    refine hp (nI s, fr_pk q1, fr_pa q1, fr_ch q1, upd (upd (fr_nx q1) bn (fr_nx q1 s)) s (fr_fr q1), upd (fr_fa q1) s (-2), fr_st q1, fr_rt q1) (fr_del A1 r (f :: p)) a (fr_DP_of (s := s) (q1 := q1) ?_ hn1 hs1 hst1)
    refine fr_unlink (l := l00 ++ e :: f :: l) (l' := l00 ++ e :: l) hQ1 hp1 hs1' hno hch2 (fun x => ?_) ?_ (fun x s h => by have := hcov' x s h; rw [List.append_assoc] at this; exact this) ?_ (fun j hj => rfl) (fun j hj => ?_) pk_us (fun j hj => pk_un hj) pk_us
    · have h3 := List.nodup_append.mp hnd2
      have h4 := List.nodup_cons.mp h3.2.1
      have h5 := List.nodup_cons.mp h4.2
      simp only [List.mem_append, List.mem_cons]
      constructor
      · rintro (h | h | h)
        · exact ⟨Or.inl h, fun e2 => h3.2.2 x h f (by simp) e2⟩
        · exact ⟨Or.inr (Or.inl h), fun e2 => hef (h ▸ e2)⟩
        · exact ⟨Or.inr (Or.inr (Or.inr h)), fun e2 => h5.1 (e2 ▸ h)⟩
      · rintro ⟨h | h | h | h, h2⟩
        · exact Or.inl h
        · exact Or.inr (Or.inl h)
        · exact absurd h h2
        · exact Or.inr (Or.inr h)
    · refine List.Nodup.sublist ?_ hnd2
      exact List.Sublist.append_left (List.Sublist.cons_cons e (List.sublist_cons_self f l)) l00
    · refine fr_Ch_cut hinj hs1' he1 (fun x hx' => fr_del_n (fun h => hx' (List.cons.inj h.2).1)) ?_ (fun j h1 h2 => ?_) hnd2 hch2
      · exact (pk_un hbs).trans pk_us
      · exact (pk_un h2).trans (pk_un h1)
    · have j1 : j ≠ s := fun e2 => hj f (by rw [e2]; exact hs1')
      have j2 : j ≠ bn := fun e2 => hj e (by rw [e2]; exact he1)
      exact (pk_un j1).trans (pk_un j2)
theorem fr_x_det10 {post : SX → Prop} {r t f : Nat} {p : List Nat} (hQ : fr_PQ q A) (ht : A r p = some t) (hf : f < 6)
    (hp : ∀ (q' : fr_QR) (A' : fr_AT) (a : fr_FN), fr_DP r p f q A q' A' → post (fr_mX S D hx o q' (fr_sg z a))) :
    ∀ (l : List Nat) (n : Nat) (l0 : List Nat) (x b : Int32), fr_Ch (fr_nx q) A r p x l → l.length < n → (l0 ++ l).Nodup → fr_Ch (fr_nx q) A r p (fr_ch q t) (l0 ++ l) → (∀ x s, A r (x :: p) = some s → x ∈ l0 ++ l) → f ∉ l0 →
    ((l0 = [] ∧ b = -1) ∨ ∃ e l00 bn, l0 = l00 ++ [e] ∧ A r (e :: p) = some bn ∧ b = nI bn) →
    wX_detach_10 post (nI t) (nI f) (nI (fr_ru S)) (fr_bX S) (nI (fr_lv D).length) (nI (fr_md D)) (fr_fr q) (fr_pk q) (fr_pr D) hx (fr_sa S) (fr_co S) (fr_po S) (fr_te S) (fr_ac S) (fr_cK S) (fr_cT S) (fr_cL S) (fr_cN S) (fr_tF S) (fr_tH S) (fr_tO S) (fr_vL S) (fr_vF S) (fr_aW S) (fr_aK S) (fr_aX S) (fr_aY S) (fr_aZ S) (fr_nu D) (fr_fd D) (fr_kd D) o (fr_pa q) (fr_ch q) (fr_nx q) (fr_fa q) (fr_st q) (fr_rt q) (fr_zs z) (fr_zg z) (fr_zb z) (fr_zm z) (fr_zo z) (fr_zn z) (fr_zf z) (fr_ou D) n b x := by
  intro l
  induction l with
  | nil =>
    intro n l0 x b hc hn hnd hch hcov hf0 hb
    obtain ⟨n, rfl⟩ : ∃ m, n = m + 1 := ⟨n - 1, by omega⟩
    have hx : x = -1 := hc
    subst hx
    rw [List.append_nil] at hcov
    have hno : A r (f :: p) = none := by
      cases e : A r (f :: p) with
      | none => rfl
      | some s => exact absurd (hcov f s e) hf0
    refine br_t (by decide) (br_f (by decide) (hp q A (fr_zg z) ⟨hQ, ?_, fun _ _ _ => rfl, rfl⟩))
    rintro r' p' rfl hs
    cases e : A r' p' with
    | none => rfl
    | some s' =>
      obtain ⟨s, hs2⟩ := fr_up hQ.2.1 hs ⟨s', e⟩
      rw [hno] at hs2
      cases hs2
  | cons c l ih =>
    intro n l0 x b hc hn hnd hch hcov hf0 hb
    obtain ⟨n, rfl⟩ : ∃ m, n = m + 1 := ⟨n - 1, by omega⟩
    obtain ⟨s, s1, s2, s3⟩ := hc
    subst s2
    have hsv := hQ.1.1 _ _ _ s1
    have hscl : (nI s).toNatClampNeg = s := nI_clamp (by omega)
    have hsin : vp_in (nI s) 1036 := vp_in_nI hsv.2.2.2 (by omega)
    have hfa := (hQ.2.1.2 _ _ _ _ s1).1
    have hc6 := hsv.2.2.1 c List.mem_cons_self
    refine br_f (nI_pos (by omega)) ⟨hsin, ?_⟩
    rw [hscl, hfa]
    by_cases e : c = f
    · subst e
      exact br_t rfl (fr_x_det41 hQ ht s1 hnd hch hcov hb hp)
    · refine br_f (by rw [nI_eq (by omega) (by omega)]; exact e) ⟨hsin, nm_r rfl ?_⟩
      have e2 : l0 ++ c :: l = (l0 ++ [c]) ++ l := by rw [List.append_assoc]; rfl
      rw [e2] at hnd hch hcov
      refine ih n (l0 ++ [c]) (fr_nx q s) (nI s) s3 (by rw [List.length_cons] at hn; omega) hnd hch hcov ?_ (Or.inr ⟨c, l0, s, rfl, s1, rfl⟩)
      intro hm
      rcases List.mem_append.mp hm with h | h
      · exact hf0 h
      · exact e (List.mem_singleton.mp h).symm
theorem fr_x_detach {post : SX → Prop} {r t f : Nat} {p : List Nat} (hQ : fr_PQ q A) (ht : A r p = some t) (hf : f < 6)
    (hp : ∀ (q' : fr_QR) (A' : fr_AT) (a : fr_FN), fr_DP r p f q A q' A' → post (fr_mX S D hx o q' (fr_sg z a))) : wpX_detach post (fr_mX S D hx o q z) (nI t) (nI f) := by
  have htv := hQ.1.1 _ _ _ ht
  obtain ⟨l, l1, l2, l3⟩ := hQ.2.2.2.1 _ _ _ ht
  refine ⟨vp_in_nI htv.2.2.2 (by omega), nm_r (e' := fr_ch q t) (by rw [nI_clamp (by omega)]) ⟨l.length + 1, ?_⟩⟩
  exact fr_x_det10 hQ ht hf hp l (l.length + 1) [] (fr_ch q t) (-1) l2 (Nat.lt_succ_self _) l1 l2 l3 (fun h => by cases h) (Or.inl ⟨rfl, rfl⟩)
end
end
section
def fr_Dl (b : Bool) (S : fr_SR) (kd fd : fr_FN) (lv lv' : List Nat) (r f : Nat) : Prop :=
  (b = true → f ∉ lv ∧ (∀ x, x ∈ lv' ↔ x ∈ lv ∨ x = f) ∧ ∀ p, fr_ct S kd fd lv' r p = fr_ct S kd fd lv r p + fr_bl S kd fd r f p) ∧
  (b = false → f ∉ lv' ∧ (∀ x, x ∈ lv ↔ x ∈ lv' ∨ x = f) ∧ ∀ p, fr_ct S kd fd lv r p = fr_ct S kd fd lv' r p + fr_bl S kd fd r f p)
def fr_MI (S : fr_SR) (kd fd : fr_FN) (lv lv' : List Nat) (M : Nat → List Nat → Bool) (r : Nat) (q0 : fr_QR) (A0 : fr_AT) (q : fr_QR) (A : fr_AT) (G : List (List Nat)) : Prop :=
  (fr_PQ q A ∧ (∀ r' p', r' ≠ r → A r' p' = A0 r' p') ∧ (∀ r' p' t', r' ≠ r → A0 r' p' = some t' → fr_st q t' = fr_st q0 t') ∧ (∃ x, A r [] = some x)) ∧
  fr_Ai G ∧ (∀ g, g ∈ G → ∃ x, A r g = some x) ∧
  (∀ p' t', A r p' = some t' → fr_RT S kd fd lv' M A (fr_st q) r p' t' ∨ fr_Cv G p') ∧
  (∀ g, g ∈ G → ∀ p', g <:+ p' → (∀ t', A r p' = some t' → fr_RT S kd fd lv M A (fr_st q) r p' t') ∧ (M r p' = true → (∃ x, A r p' = some x) ∧ fr_ct S kd fd lv r p' = 0))
section
variable {S : fr_SR} {kd fd : fr_FN} {lv lv' : List Nat} {M : Nat → List Nat → Bool} {r : Nat} {q0 : fr_QR} {A0 : fr_AT} {q q' : fr_QR} {A A' : fr_AT}
theorem fr_MI_step {g : List Nat} {G : List (List Nat)} {k : Nat} {C : List Nat} (h : fr_MI S kd fd lv lv' M r q0 A0 q A (g :: G)) (hk : A r g = some k) (hQ' : fr_PQ q' A')
    (o1 : ∀ r' p', ¬ fr_Sb r g r' p' → A' r' p' = A r' p') (o2 : ∀ r' p' t', A r' p' = some t' → ¬ (r' = r ∧ g <:+ p') → fr_st q' t' = fr_st q t')
    (hC : C.Nodup) (c1 : ∀ c, c ∈ C → ∃ x, A' r (c :: g) = some x)
    (c2 : ∀ p' t', g <:+ p' → A' r p' = some t' → fr_RT S kd fd lv' M A' (fr_st q') r p' t' ∨ fr_Cv (C.map (fun c => c :: g)) p')
    (c3 : ∀ c, c ∈ C → ∀ p', (c :: g) <:+ p' → (∀ t', A' r p' = some t' → fr_RT S kd fd lv M A' (fr_st q') r p' t') ∧ (M r p' = true → (∃ x, A' r p' = some x) ∧ fr_ct S kd fd lv r p' = 0)) :
    fr_MI S kd fd lv lv' M r q0 A0 q' A' (C.map (fun c => c :: g) ++ G) := by
  obtain ⟨⟨h1, h2, h3, h4⟩, h5, h6, h7, h8⟩ := h
  have hanti := (List.pairwise_cons.mp h5).1
  have hout : ∀ {p'}, ¬ g <:+ p' → ∀ x, A' r (x :: p') = A r (x :: p') := by
    intro p' hn x
    refine o1 _ _ ?_
    rintro ⟨_, s1, s2⟩
    exact hn (fr_sfx_t s1 s2)
  have hsame : ∀ {p'}, ¬ g <:+ p' → A' r p' = A r p' := fun hn => o1 _ _ (fun h => hn h.2.1)
  have hGout : ∀ g', g' ∈ G → ∀ p', g' <:+ p' → ¬ g <:+ p' := by
    intro g' hg' p' s1 s2
    rcases List.suffix_or_suffix_of_suffix s1 s2 with s | s
    · exact (hanti g' hg').2 s
    · exact (hanti g' hg').1 s
  refine ⟨⟨hQ', ?_, ?_, ?_⟩, fr_Ai_step h5 hC, ?_, ?_, ?_⟩
  · intro r' p' hr
    rw [o1 _ _ (fun h => hr h.1)]
    exact h2 _ _ hr
  · intro r' p' t' hr e
    rw [o2 r' p' t' (by rw [h2 _ _ hr]; exact e) (fun h => hr h.1)]
    exact h3 _ _ _ hr e
  · rw [o1]
    · exact h4
    · rintro ⟨_, s1, s2⟩
      exact s2 (List.suffix_nil.mp s1).symm
  · intro g' hg'
    rcases List.mem_append.mp hg' with hg' | hg'
    · obtain ⟨c, hc, rfl⟩ := List.mem_map.mp hg'
      exact c1 c hc
    · rw [hsame (hGout g' hg' g' List.suffix_rfl)]
      exact h6 g' (List.mem_cons_of_mem _ hg')
  · intro p' t' e
    by_cases hb : g <:+ p'
    · rcases c2 p' t' hb e with c | ⟨g', w1, w2⟩
      · exact Or.inl c
      · exact Or.inr ⟨g', List.mem_append_left _ w1, w2⟩
    · rw [hsame hb] at e
      rcases h7 p' t' e with c | ⟨g', w1, w2⟩
      · left
        exact fr_RT_congr rfl (o2 _ _ _ e (fun h => hb h.2)) (hout hb) c
      · right
        rcases List.mem_cons.mp w1 with e2 | w1
        · rw [e2] at w2
          exact absurd w2 hb
        · exact ⟨g', List.mem_append_right _ w1, w2⟩
  · intro g' hg' p' hs
    rcases List.mem_append.mp hg' with hg' | hg'
    · obtain ⟨c, hc, rfl⟩ := List.mem_map.mp hg'
      exact c3 c hc p' hs
    · have hb := hGout g' hg' p' hs
      obtain ⟨w1, w2⟩ := h8 g' (List.mem_cons_of_mem _ hg') p' hs
      rw [hsame hb]
      refine ⟨fun t' e => ?_, w2⟩
      exact fr_RT_congr rfl (o2 _ _ _ e (fun h => hb h.2)) (hout hb) (w1 t' e)
/-- what stands at the popped key behind the detaching -/
def fr_Pop (S : fr_SR) (kd fd : fr_FN) (lv lv' : List Nat) (M : Nat → List Nat → Bool) (r f : Nat) (q : fr_QR) (A : fr_AT) (g : List Nat) (k : Nat) (q1 : fr_QR) (A1 : fr_AT) : Prop :=
  fr_PQ q1 A1 ∧ A1 r g = some k ∧ (∀ r' p', ¬ fr_Sb r g r' p' → A1 r' p' = A r' p') ∧ (∀ r' p' t', A r' p' = some t' → ¬ (r' = r ∧ p' = g) → fr_st q1 t' = fr_st q t') ∧
  (∀ p', (f :: g) <:+ p' → A1 r p' = none) ∧ (∀ p', ¬ (f :: g) <:+ p' → A1 r p' = A r p') ∧
  fr_st q1 k = (if M r g = true ∧ fr_ct S kd fd lv' r g = 0 then 16 else nI (fr_ct S kd fd lv' r g)) ∧
  (∀ x, (∃ s, A1 r (x :: g) = some s) ↔ (fr_ct S kd fd lv r g = 0 ∧ (x ∈ lv' ∧ x ≠ f) ∧ fr_ex S kd fd r g x = true))
theorem fr_Pop_of {f : Nat} {g : List Nat} {G : List (List Nat)} {k : Nat} {b : Bool} {q1 q2 : fr_QR} {A1 : fr_AT} (h : fr_MI S kd fd lv lv' M r q0 A0 q A (g :: G)) (hk : A r g = some k) (hD : fr_Dl b S kd fd lv lv' r f) (hP : fr_DP r g f q A q1 A1)
    (hq : fr_PQ q2 A1) (hst : (fr_bl S kd fd r f g = 0 ∧ fr_st q2 = fr_st q1) ∨ (fr_bl S kd fd r f g ≠ 0 ∧ fr_st q2 = upd (fr_st q1) k (nI (fr_ct S kd fd lv' r g)))) :
    fr_Pop S kd fd lv lv' M r f q A g k q2 A1 := by
  obtain ⟨⟨h1, h2, h3, h4⟩, h5, h6, h7, h8⟩ := h
  obtain ⟨d1, d2, d3, d4⟩ := hP
  obtain ⟨w1, w2⟩ := h8 g List.mem_cons_self g List.suffix_rfl
  have hRT := w1 k hk
  have hself : ¬ (f :: g) <:+ g := fun s => (fr_sfx_ne s).2 rfl
  have hA1 : ∀ p', ¬ (f :: g) <:+ p' → A1 r p' = A r p' := fun p' hn => d3 r p' (fun h => hn h.2)
  have hne : ∀ {r' p' t'}, A r' p' = some t' → ¬ (r' = r ∧ p' = g) → t' ≠ k := by
    rintro r' p' t' e hn rfl
    exact hn (h1.1.2 _ _ _ _ _ e hk)
  refine ⟨hq, by rw [hA1 g hself]; exact hk, ?_, ?_, fun p' hs => d2 r p' rfl hs, hA1, ?_, ?_⟩
  · intro r' p' hn
    refine d3 _ _ ?_
    rintro ⟨e, s⟩
    exact hn ⟨e, (fr_sfx_ne s).1, (fr_sfx_ne s).2⟩
  · intro r' p' t' e hn
    rcases hst with ⟨_, e2⟩ | ⟨_, e2⟩
    · rw [e2, d4]
    · rw [e2, d4, pk_un (hne e hn)]
  · rcases hst with ⟨e1, e2⟩ | ⟨e1, e2⟩
    · have hc : fr_ct S kd fd lv' r g = fr_ct S kd fd lv r g := by
        cases b with
        | true =>
          have := (hD.1 rfl).2.2 g
          omega
        | false =>
          have := (hD.2 rfl).2.2 g
          omega
      rw [e2, d4, hc]
      exact hRT.1
    · rw [e2, pk_us, if_neg]
      rintro ⟨m1, m2⟩
      have hc0 := (w2 m1).2
      cases b with
      | true =>
        have := (hD.1 rfl).2.2 g
        omega
      | false =>
        have := (hD.2 rfl).2.2 g
        omega
  · intro x
    have hx : (x ∈ lv ∧ x ≠ f) ↔ (x ∈ lv' ∧ x ≠ f) := by
      cases b with
      | true =>
        have := (hD.1 rfl).2.1 x
        constructor
        · rintro ⟨a, c⟩; exact ⟨this.mpr (Or.inl a), c⟩
        · rintro ⟨a, c⟩
          rcases this.mp a with a | a
          · exact ⟨a, c⟩
          · exact absurd a c
      | false =>
        have := (hD.2 rfl).2.1 x
        constructor
        · rintro ⟨a, c⟩
          rcases this.mp a with a | a
          · exact ⟨a, c⟩
          · exact absurd a c
        · rintro ⟨a, c⟩; exact ⟨this.mpr (Or.inl a), c⟩
    rw [← hx]
    by_cases e : x = f
    · rw [e, d2 r (f :: g) rfl List.suffix_rfl]
      constructor
      · rintro ⟨s, e⟩; cases e
      · rintro ⟨_, ⟨_, c⟩, _⟩; exact absurd rfl c
    · rw [hA1 (x :: g) (fun s => e (List.cons.inj (s.eq_of_length (by simp))).1.symm), hRT.2 x]
      constructor
      · rintro ⟨a, c, d⟩; exact ⟨a, ⟨c, e⟩, d⟩
      · rintro ⟨a, ⟨c, _⟩, d⟩; exact ⟨a, c, d⟩
variable {f : Nat} {g : List Nat} {G : List (List Nat)} {k : Nat} {b : Bool} {q1 : fr_QR} {A1 : fr_AT}
theorem fr_Pop_M {p' : List Nat} (h : fr_MI S kd fd lv lv' M r q0 A0 q A (g :: G)) (hP : fr_Pop S kd fd lv lv' M r f q A g k q1 A1) (hs : g <:+ p') (hc : fr_ct S kd fd lv r g ≠ 0) : M r p' = false := by
  cases hm : M r p' with
  | false => rfl
  | true =>
    exfalso
    obtain ⟨⟨h1, h2, h3, h4⟩, h5, h6, h7, h8⟩ := h
    obtain ⟨⟨x, hx⟩, h9⟩ := (h8 g List.mem_cons_self p' hs).2 hm
    by_cases e : p' = g
    · rw [e] at h9
      exact hc h9
    · obtain ⟨y, hy⟩ := fr_sfx hs e
      obtain ⟨s, hs2⟩ := fr_up h1.2.1 hy ⟨x, hx⟩
      have hkk := h6 g List.mem_cons_self
      obtain ⟨k', hk'⟩ := hkk
      have := (((h8 g List.mem_cons_self g List.suffix_rfl).1 k' hk').2 y).mp ⟨s, hs2⟩
      exact hc this.1
theorem fr_Pop_none {p' : List Nat} (hP : fr_Pop S kd fd lv lv' M r f q A g k q1 A1) (hc : fr_ct S kd fd lv r g ≠ 0) (hs : g <:+ p') (hne : p' ≠ g) : A1 r p' = none := by
  obtain ⟨p1, p2, p3, p4, p5, p6, p7, p8⟩ := hP
  cases e : A1 r p' with
  | none => rfl
  | some t =>
    obtain ⟨y, hy⟩ := fr_sfx hs hne
    obtain ⟨s, hs2⟩ := fr_up p1.2.1 hy ⟨t, e⟩
    exact absurd ((p8 y).mp ⟨s, hs2⟩).1 hc
/-- closed before, closed now -/
theorem fr_MI_stay (h : fr_MI S kd fd lv lv' M r q0 A0 q A (g :: G)) (hk : A r g = some k) (hP : fr_Pop S kd fd lv lv' M r f q A g k q1 A1) (hc0 : fr_ct S kd fd lv r g ≠ 0) (hc1 : fr_ct S kd fd lv' r g ≠ 0) : fr_MI S kd fd lv lv' M r q0 A0 q1 A1 G := by
  have hP' := hP
  obtain ⟨p1, p2, p3, p4, p5, p6, p7, p8⟩ := hP'
  refine fr_MI_step (C := []) h hk p1 p3 (fun r' p' t' e hn => p4 r' p' t' e (fun h => hn ⟨h.1, by rw [h.2]; exact List.suffix_rfl⟩)) List.nodup_nil (fun c hc => by cases hc) ?_ (fun c hc => by cases hc)
  intro p' t' hs e
  left
  by_cases hpg : p' = g
  · subst hpg
    have : t' = k := by rw [p2] at e; exact (Option.some.inj e).symm
    subst this
    refine ⟨p7, fun x => ?_⟩
    rw [p8 x]
    constructor
    · rintro ⟨a, _⟩; exact absurd a hc0
    · rintro ⟨a, _⟩; exact absurd a hc1
  · rw [fr_Pop_none hP hc0 hs hpg] at e
    cases e
/-- open before, closed now: pruned -/
theorem fr_MI_prune {q2 : fr_QR} {A2 : fr_AT} (h : fr_MI S kd fd lv lv' M r q0 A0 q A (g :: G)) (hk : A r g = some k) (hP : fr_Pop S kd fd lv lv' M r f q A g k q1 A1) (hc1 : fr_ct S kd fd lv' r g ≠ 0)
    (a1 : fr_PQ q2 A2) (a2 : ∀ r' p', fr_Sb r g r' p' → A2 r' p' = none) (a3 : ∀ r' p', ¬ fr_Sb r g r' p' → A2 r' p' = A1 r' p') (a4 : fr_st q2 = fr_st q1) : fr_MI S kd fd lv lv' M r q0 A0 q2 A2 G := by
  obtain ⟨p1, p2, p3, p4, p5, p6, p7, p8⟩ := hP
  refine fr_MI_step (C := []) h hk a1 (fun r' p' hn => (a3 r' p' hn).trans (p3 r' p' hn)) (fun r' p' t' e hn => ?_) List.nodup_nil (fun c hc => by cases hc) ?_ (fun c hc => by cases hc)
  · rw [a4]
    exact p4 r' p' t' e (fun h => hn ⟨h.1, by rw [h.2]; exact List.suffix_rfl⟩)
  · intro p' t' hs e
    left
    by_cases hpg : p' = g
    · subst hpg
      rw [a3 _ _ (fun h => h.2.2 rfl), p2] at e
      have : t' = k := (Option.some.inj e).symm
      subst this
      refine ⟨by rw [a4]; exact p7, fun x => ?_⟩
      rw [a2 r (x :: p') ⟨rfl, List.suffix_cons _ _, fun e => absurd (congrArg List.length e) (by simp)⟩]
      constructor
      · rintro ⟨s, e⟩; cases e
      · rintro ⟨a, _⟩; exact absurd a hc1
    · rw [a2 _ _ ⟨rfl, hs, hpg⟩] at e
      cases e
/-- closed before, open now: extended -/
theorem fr_MI_ext {q2 : fr_QR} {A2 : fr_AT} (h : fr_MI S kd fd lv lv' M r q0 A0 q A (g :: G)) (hk : A r g = some k) (hP : fr_Pop S kd fd lv lv' M r f q A g k q1 A1) (hc0 : fr_ct S kd fd lv r g ≠ 0)
    (hE : fr_Ext S kd fd lv' r g q1 A1 q2 A2) : fr_MI S kd fd lv lv' M r q0 A0 q2 A2 G := by
  have hP' := hP
  obtain ⟨p1, p2, p3, p4, p5, p6, p7, p8⟩ := hP'
  obtain ⟨e1, e2, e3, e4⟩ := hE
  refine fr_MI_step (C := []) h hk e1 (fun r' p' hn => (e2 r' p' hn).trans (p3 r' p' hn)) (fun r' p' t' e hn => ?_) List.nodup_nil (fun c hc => by cases hc) ?_ (fun c hc => by cases hc)
  · have hA : A1 r' p' = some t' := by rw [p3 r' p' (fun h => hn ⟨h.1, h.2.1⟩)]; exact e
    rw [e3 r' p' t' hA hn]
    exact p4 r' p' t' e (fun h => hn ⟨h.1, by rw [h.2]; exact List.suffix_rfl⟩)
  · intro p' t' hs e
    left
    exact fr_RT_congr (fr_Pop_M h hP hs hc0) rfl (fun _ => rfl) (e4 p' t' hs e)
/-- open before and now: the children go to the stack; the new fact may have a child of its own -/
theorem fr_MI_open {q2 : fr_QR} {A2 : fr_AT} {C : List Nat} (h : fr_MI S kd fd lv lv' M r q0 A0 q A (g :: G)) (hk : A r g = some k) (hD : fr_Dl b S kd fd lv lv' r f) (hP : fr_Pop S kd fd lv lv' M r f q A g k q1 A1) (hc0 : fr_ct S kd fd lv r g = 0) (hc1 : fr_ct S kd fd lv' r g = 0)
    (hC : C.Nodup) (hC2 : ∀ x, x ∈ C ↔ ∃ s, A1 r (x :: g) = some s)
    (a1 : fr_PQ q2 A2) (a2 : ∀ r' p', ¬ (r' = r ∧ (f :: g) <:+ p') → A2 r' p' = A1 r' p') (a3 : ∀ r' p' t', A1 r' p' = some t' → fr_st q2 t' = fr_st q1 t')
    (a4 : (∃ s, A2 r (f :: g) = some s) ↔ (b = true ∧ fr_ex S kd fd r g f = true)) (a5 : ∀ p' t', (f :: g) <:+ p' → A2 r p' = some t' → b = true ∧ fr_RN S kd fd lv' A2 (fr_st q2) r p' t') :
    fr_MI S kd fd lv lv' M r q0 A0 q2 A2 (C.map (fun c => c :: g) ++ G) := by
  obtain ⟨p1, p2, p3, p4, p5, p6, p7, p8⟩ := hP
  have hfC : f ∉ C := fun hm => by
    obtain ⟨s, hs⟩ := (hC2 f).mp hm
    rw [p5 _ List.suffix_rfl] at hs
    cases hs
  have hself : ∀ x, x ≠ f → ¬ (f :: g) <:+ (x :: g) := fun x e s => e (List.cons.inj (s.eq_of_length (by simp))).1.symm
  have hst : ∀ r' p' t', A r' p' = some t' → A1 r' p' = some t' → ¬ (r' = r ∧ p' = g) → fr_st q2 t' = fr_st q t' := fun r' p' t' w1 w2 w3 => (a3 r' p' t' w2).trans (p4 r' p' t' w1 w3)
  have hcg : ∀ {c p'}, c ∈ C → (c :: g) <:+ p' → ¬ (f :: g) <:+ p' := by
    intro c p' hc s1 s2
    have hl : (c :: g).length = (f :: g).length := rfl
    rcases List.suffix_or_suffix_of_suffix s1 s2 with s | s
    · have := (List.cons.inj (s.eq_of_length hl)).1
      exact hfC (this ▸ hc)
    · have := (List.cons.inj (s.eq_of_length hl.symm)).1
      exact hfC (this ▸ hc)
  refine fr_MI_step h hk a1 ?_ ?_ hC ?_ ?_ ?_
  · intro r' p' hn
    rw [a2 r' p' (fun h => hn ⟨h.1, (fr_sfx_ne h.2).1, (fr_sfx_ne h.2).2⟩)]
    exact p3 r' p' hn
  · intro r' p' t' e hn
    have hA : A1 r' p' = some t' := by rw [p3 r' p' (fun h => hn ⟨h.1, h.2.1⟩)]; exact e
    exact hst r' p' t' e hA (fun h => hn ⟨h.1, by rw [h.2]; exact List.suffix_rfl⟩)
  · intro c hc
    obtain ⟨s, hs⟩ := (hC2 c).mp hc
    refine ⟨s, ?_⟩
    rw [a2 _ _ (fun h => hself c (fun e => hfC (e ▸ hc)) h.2)]
    exact hs
  · intro p' t' hs e
    by_cases hpg : p' = g
    · left
      subst hpg
      rw [a2 _ _ (fun h => (fr_sfx_ne h.2).2 rfl)] at e
      have : t' = k := by rw [p2] at e; exact (Option.some.inj e).symm
      subst this
      refine ⟨by rw [a3 _ _ _ e]; exact p7, fun x => ?_⟩
      by_cases ex : x = f
      · subst ex
        rw [a4]
        constructor
        · rintro ⟨w1, w2⟩
          exact ⟨hc1, ((hD.1 w1).2.1 x).mpr (Or.inr rfl), w2⟩
        · rintro ⟨_, w2, w3⟩
          refine ⟨?_, w3⟩
          cases b with
          | true => rfl
          | false => exact absurd w2 (hD.2 rfl).1
      · rw [a2 _ _ (fun h => hself x ex h.2), p8 x]
        constructor
        · rintro ⟨_, ⟨w1, _⟩, w2⟩; exact ⟨hc1, w1, w2⟩
        · rintro ⟨_, w1, w2⟩; exact ⟨hc0, ⟨w1, ex⟩, w2⟩
    · obtain ⟨y, hy⟩ := fr_sfx hs hpg
      by_cases ey : y = f
      · left
        subst ey
        obtain ⟨hb, hR⟩ := a5 p' t' hy e
        refine fr_RT_congr ?_ rfl (fun _ => rfl) hR
        cases hm : M r p' with
        | false => rfl
        | true =>
          exfalso
          obtain ⟨⟨h1, h2, h3, h4⟩, h5, h6, h7, h8⟩ := h
          obtain ⟨⟨x, hx⟩, _⟩ := (h8 g List.mem_cons_self p' hs).2 hm
          obtain ⟨s, hs2⟩ := fr_up h1.2.1 hy ⟨x, hx⟩
          have := (((h8 g List.mem_cons_self g List.suffix_rfl).1 k hk).2 y).mp ⟨s, hs2⟩
          exact (hD.1 hb).1 this.2.1
      · right
        have hnf : ¬ (f :: g) <:+ p' := by
          intro s2
          have hl : (y :: g).length = (f :: g).length := rfl
          rcases List.suffix_or_suffix_of_suffix hy s2 with s | s
          · exact ey (List.cons.inj (s.eq_of_length hl)).1
          · exact ey (List.cons.inj (s.eq_of_length hl.symm)).1.symm
        rw [a2 _ _ (fun h => hnf h.2)] at e
        obtain ⟨s, hs2⟩ := fr_up p1.2.1 hy ⟨t', e⟩
        exact ⟨y :: g, List.mem_map.mpr ⟨y, (hC2 y).mpr ⟨s, hs2⟩, rfl⟩, hy⟩
  · intro c hc p' hs
    have hnf := hcg hc hs
    have hsg := (fr_sfx_ne hs).1
    have hpg := (fr_sfx_ne hs).2
    obtain ⟨w1, w2⟩ := h.2.2.2.2 g List.mem_cons_self p' hsg
    have e1 : A2 r p' = A r p' := by rw [a2 _ _ (fun h => hnf h.2), p6 _ hnf]
    rw [e1]
    refine ⟨fun t' e => ?_, w2⟩
    refine fr_RT_congr rfl (hst r p' t' e (by rw [p6 _ hnf]; exact e) (fun h => hpg h.2)) (fun x => ?_) (w1 t' e)
    have hnf2 : ¬ (f :: g) <:+ (x :: p') := by
      intro s
      rcases List.suffix_cons_iff.mp s with e2 | s
      · exact hpg (List.cons.inj e2).2.symm
      · exact hnf s
    rw [a2 _ _ (fun h => hnf2 h.2), p6 _ hnf2]
end
end
section
def fr_sz (z : fr_ZR) (a b : fr_FN) : fr_ZR := (b, a, fr_zb z, fr_zm z, fr_zo z, fr_zn z, fr_zf z)
section
variable {S : fr_SR} {D : fr_DR} {hx : Int32} {o : fr_FN} {A0 : fr_AT} {q0 : fr_QR} {lv : List Nat} {M : Nat → List Nat → Bool} {r f k : Nat} {g : List Nat} {G : List (List Nat)} {b : Bool}
theorem fr_x_m176 {post : SX → Prop} {J : Int32 → Int32 → Int32 → Int32 → Int32 → Int32 → Int32 → Int32 → Int32 → fr_FN → fr_FN → fr_FN → fr_FN → fr_FN → fr_FN → fr_FN → fr_FN → fr_FN → fr_FN → fr_FN → fr_FN → fr_FN → fr_FN → fr_FN → fr_FN → fr_FN → fr_FN → fr_FN → fr_FN → fr_FN → fr_FN → fr_FN → fr_FN → fr_FN → fr_FN → fr_FN → fr_FN → fr_FN → fr_FN → fr_FN → fr_FN → fr_FN → fr_FN → fr_FN → fr_FN → fr_FN → Prop} {x3 : Int32} {q : fr_QR} {A : fr_AT} (hA : fr_PA A) :
    ∀ (l : List Nat) (n : Nat) (C : List Nat) (x : Int32) (z : fr_ZR), fr_Ch (fr_nx q) A r g x l → l.length < n → fr_Sk (fr_zs z) A r (C.map (fun f => f :: g) ++ G) → C.length + G.length + l.length < 600 →
    (∀ (n' : Nat) (c : fr_FN), fr_Sk c A r ((l.reverse ++ C).map (fun f => f :: g) ++ G) → wX_mend_176 post J (nI r) (nI f) x3 (nI k) (nI g.length) (nI (fr_ru S)) (fr_bX S) (nI (fr_lv D).length) (nI (fr_md D)) (fr_fr q) (fr_pk q) (fr_pr D) hx (n' + 1) (nI (l.length + C.length + G.length)) (-1) (fr_sa S) (fr_co S) (fr_po S) (fr_te S) (fr_ac S) (fr_cK S) (fr_cT S) (fr_cL S) (fr_cN S) (fr_tF S) (fr_tH S) (fr_tO S) (fr_vL S) (fr_vF S) (fr_aW S) (fr_aK S) (fr_aX S) (fr_aY S) (fr_aZ S) (fr_nu D) (fr_fd D) (fr_kd D) o (fr_pa q) (fr_ch q) (fr_nx q) (fr_fa q) (fr_st q) (fr_rt q) (fr_zs (fr_sz z (fr_zg z) c)) (fr_zg (fr_sz z (fr_zg z) c)) (fr_zb (fr_sz z (fr_zg z) c)) (fr_zm (fr_sz z (fr_zg z) c)) (fr_zo (fr_sz z (fr_zg z) c)) (fr_zn (fr_sz z (fr_zg z) c)) (fr_zf (fr_sz z (fr_zg z) c)) (fr_ou D)) →
    wX_mend_176 post J (nI r) (nI f) x3 (nI k) (nI g.length) (nI (fr_ru S)) (fr_bX S) (nI (fr_lv D).length) (nI (fr_md D)) (fr_fr q) (fr_pk q) (fr_pr D) hx n (nI (C.length + G.length)) x (fr_sa S) (fr_co S) (fr_po S) (fr_te S) (fr_ac S) (fr_cK S) (fr_cT S) (fr_cL S) (fr_cN S) (fr_tF S) (fr_tH S) (fr_tO S) (fr_vL S) (fr_vF S) (fr_aW S) (fr_aK S) (fr_aX S) (fr_aY S) (fr_aZ S) (fr_nu D) (fr_fd D) (fr_kd D) o (fr_pa q) (fr_ch q) (fr_nx q) (fr_fa q) (fr_st q) (fr_rt q) (fr_zs z) (fr_zg z) (fr_zb z) (fr_zm z) (fr_zo z) (fr_zn z) (fr_zf z) (fr_ou D) := by
  intro l
  induction l with
  | nil =>
    intro n C x z hc hn hS hG hJ
    obtain ⟨n, rfl⟩ : ∃ m, n = m + 1 := ⟨n - 1, by omega⟩
    have hx : x = -1 := hc
    subst hx
    have := hJ n (fr_zs z) hS
    rw [List.length_nil, Nat.zero_add] at this
    exact this
  | cons f l ih =>
    intro n C x z hc hn hS hG hJ
    obtain ⟨n, rfl⟩ : ∃ m, n = m + 1 := ⟨n - 1, by omega⟩
    obtain ⟨s, s1, s2, s3⟩ := hc
    subst s2
    have hsl := (hA.1 _ _ _ s1).2.2.2
    rw [List.length_cons] at hG hn
    have hcl : (nI (C.length + G.length)).toNatClampNeg = C.length + G.length := nI_clamp (by omega)
    refine br_f (nI_pos (by omega)) (nm_r (e' := nI ((f :: C).length + G.length)) (by rw [nI_1, List.length_cons]; exact congrArg nI (by omega)) ⟨vp_in_nI (by omega) (by omega), nm_r (e' := upd (fr_zs z) (C.length + G.length) (nI s)) (by rw [hcl, fr_s1616 (by omega)]) ⟨vp_in_nI hsl (by omega), nm_r (e' := fr_nx q s) (by rw [nI_clamp (by omega)]) ?_⟩⟩)
    refine ih n (f :: C) (fr_nx q s) (fr_sz z (fr_zg z) (upd (fr_zs z) (C.length + G.length) (nI s))) s3 (by omega) ?_ (by rw [List.length_cons]; omega) ?_
    · have := fr_Sk_push hS s1
      rw [List.length_append, List.length_map] at this
      exact this
    · intro n' a ha
      have := hJ n' a (by rw [List.reverse_cons, List.append_assoc]; exact ha)
      rw [show (f :: l).length + C.length + G.length = l.length + (f :: C).length + G.length by simp; omega] at this
      exact this
variable (hW : fr_WR S r) (hlv : fr_LV (fr_lv D)) (hO : fr_OK o (fr_lv D)) (hf : f < 6)
theorem fr_x_m123 {post : SX → Prop} {J : Int32 → Int32 → Int32 → Int32 → Int32 → Int32 → Int32 → Int32 → Int32 → fr_FN → fr_FN → fr_FN → fr_FN → fr_FN → fr_FN → fr_FN → fr_FN → fr_FN → fr_FN → fr_FN → fr_FN → fr_FN → fr_FN → fr_FN → fr_FN → fr_FN → fr_FN → fr_FN → fr_FN → fr_FN → fr_FN → fr_FN → fr_FN → fr_FN → fr_FN → fr_FN → fr_FN → fr_FN → fr_FN → fr_FN → fr_FN → fr_FN → fr_FN → fr_FN → fr_FN → fr_FN → Prop} {q q1 : fr_QR} {A A1 : fr_AT} {z : fr_ZR} (hW : fr_WR S r) (hlv : fr_LV (fr_lv D)) (hO : fr_OK o (fr_lv D)) (hf : f < 6)
    (h : fr_MI S (fr_kd D) (fr_fd D) lv (fr_lv D) M r q0 A0 q A (g :: G)) (hk : A r g = some k) (hD : fr_Dl b S (fr_kd D) (fr_fd D) lv (fr_lv D) r f) (hP : fr_Pop S (fr_kd D) (fr_fd D) lv (fr_lv D) M r f q A g k q1 A1)
    (hS : fr_Sk (fr_zs z) A1 r G) (hG : fr_wt (g :: G) ≤ 259)
    (hJ : ∀ (q' : fr_QR) (A' : fr_AT) (G' : List (List Nat)) (a c : fr_FN), fr_MI S (fr_kd D) (fr_fd D) lv (fr_lv D) M r q0 A0 q' A' G' → fr_Sk c A' r G' → fr_wt G' + 1 ≤ fr_wt (g :: G) → J (nI G'.length) (nI (fr_ru S)) (fr_bX S) (nI (fr_lv D).length) (nI (fr_md D)) (fr_fr q') (fr_pk q') (fr_pr D) hx (fr_sa S) (fr_co S) (fr_po S) (fr_te S) (fr_ac S) (fr_cK S) (fr_cT S) (fr_cL S) (fr_cN S) (fr_tF S) (fr_tH S) (fr_tO S) (fr_vL S) (fr_vF S) (fr_aW S) (fr_aK S) (fr_aX S) (fr_aY S) (fr_aZ S) (fr_nu D) (fr_fd D) (fr_kd D) o (fr_pa q') (fr_ch q') (fr_nx q') (fr_fa q') (fr_st q') (fr_rt q') (fr_zs (fr_sz z a c)) (fr_zg (fr_sz z a c)) (fr_zb (fr_sz z a c)) (fr_zm (fr_sz z a c)) (fr_zo (fr_sz z a c)) (fr_zn (fr_sz z a c)) (fr_zf (fr_sz z a c)) (fr_ou D)) :
    wX_mend_123 post J (nI r) (nI f) (fr_i b) (nI G.length) (nI k) (nI g.length) (nI (fr_ct S (fr_kd D) (fr_fd D) (fr_lv D) r g)) (if fr_ct S (fr_kd D) (fr_fd D) lv r g = 0 then 1 else 0) (nI (fr_ru S)) (fr_bX S) (nI (fr_lv D).length) (nI (fr_md D)) (fr_fr q1) (fr_pk q1) (fr_pr D) hx (fr_sa S) (fr_co S) (fr_po S) (fr_te S) (fr_ac S) (fr_cK S) (fr_cT S) (fr_cL S) (fr_cN S) (fr_tF S) (fr_tH S) (fr_tO S) (fr_vL S) (fr_vF S) (fr_aW S) (fr_aK S) (fr_aX S) (fr_aY S) (fr_aZ S) (fr_nu D) (fr_fd D) (fr_kd D) o (fr_pa q1) (fr_ch q1) (fr_nx q1) (fr_fa q1) (fr_st q1) (fr_rt q1) (fr_zs z) (fr_zg z) (fr_zb z) (fr_zm z) (fr_zo z) (fr_zn z) (fr_zf z) (fr_ou D) := by
  have hP' := hP
  obtain ⟨p1, p2, p3, p4, p5, p6, p7, p8⟩ := hP'
  have hkv := p1.1.1 _ _ _ p2
  have hlen := fr_LV_len hlv
  have hct := fr_ct_le (kd := fr_kd D) (fd := fr_fd D) (lv := fr_lv D) (p := g) hW hlen
  have hws := fr_w_step hkv.2.1
  have hwg : fr_wt (g :: G) = fr_w g.length + fr_wt G := rfl
  have hnb : ∀ g', g' ∈ G → ¬ g <:+ g' := fun g' hg' => ((List.pairwise_cons.mp h.2.1).1 g' hg').1
  have hG3 : ∀ g', g' ∈ G → g'.length ≤ 3 := by
    intro g' hg'
    obtain ⟨x, hx'⟩ := h.2.2.1 g' (List.mem_cons_of_mem _ hg')
    exact (h.1.1.1.1 _ _ _ hx').2.1
  have hGl := fr_wt_len G hG3
  by_cases hc0 : fr_ct S (fr_kd D) (fr_fd D) lv r g = 0
  · rw [if_pos hc0]
    refine br_f (by decide) ?_
    by_cases hc1 : fr_ct S (fr_kd D) (fr_fd D) (fr_lv D) r g = 0
    · rw [hc1]
      refine br_t (by decide) (br_f (by decide) (br_f (by decide) ⟨vp_in_nI hkv.2.2.2 (by omega), nm_r (e' := fr_ch q1 k) (by rw [nI_clamp (by omega)]) ?_⟩))
      obtain ⟨l, l1, l2, l3⟩ := p1.2.2.2.1 _ _ _ p2
      have hmem := fr_Ch_mem l2
      have hl6 : l.length ≤ 6 := by
        refine fr_nd6 l1 (fun x hx' => ?_)
        obtain ⟨s, hs⟩ := hmem x hx'
        exact (p1.1.1 _ _ _ hs).2.2.1 x List.mem_cons_self
      have e4 : l.length * fr_w (g.length + 1) ≤ 6 * fr_w (g.length + 1) := Nat.mul_le_mul_right _ hl6
      have hwt := fr_wt_step g G l.reverse
      rw [List.length_reverse] at hwt
      have hC2 : ∀ x, x ∈ l.reverse ↔ ∃ s, A1 r (x :: g) = some s := fun x => ⟨fun hm => hmem x (List.mem_reverse.mp hm), fun ⟨s, hs⟩ => List.mem_reverse.mpr (l3 x s hs)⟩
      have hfC : f ∉ l.reverse := fun hm => by
        obtain ⟨s, hs⟩ := (hC2 f).mp hm
        rw [p5 _ List.suffix_rfl] at hs
        cases hs
      refine ⟨l.length + 1, ?_⟩
      have hstep := fr_x_m176 (S := S) (D := D) (hx := hx) (o := o) (post := post) (J := J) (k := k) (f := f) (x3 := fr_i b) (G := G) p1.1 l (l.length + 1) [] (fr_ch q1 k) z l2 (Nat.lt_succ_self _) hS (by rw [List.length_nil]; omega) ?_
      · rw [List.length_nil, Nat.zero_add] at hstep
        exact hstep
      · intro n' c hSc
        rw [List.append_nil] at hSc
        have elen : l.length + ([] : List Nat).length + G.length = (l.reverse.map (fun f => f :: g) ++ G).length := by simp
        rw [elen]
        have hnone : A1 r (f :: g) = none := p5 _ List.suffix_rfl
        have hplain : (b = true → fr_ex S (fr_kd D) (fr_fd D) r g f = false) → J (nI (l.reverse.map (fun f => f :: g) ++ G).length) (nI (fr_ru S)) (fr_bX S) (nI (fr_lv D).length) (nI (fr_md D)) (fr_fr q1) (fr_pk q1) (fr_pr D) hx (fr_sa S) (fr_co S) (fr_po S) (fr_te S) (fr_ac S) (fr_cK S) (fr_cT S) (fr_cL S) (fr_cN S) (fr_tF S) (fr_tH S) (fr_tO S) (fr_vL S) (fr_vF S) (fr_aW S) (fr_aK S) (fr_aX S) (fr_aY S) (fr_aZ S) (fr_nu D) (fr_fd D) (fr_kd D) o (fr_pa q1) (fr_ch q1) (fr_nx q1) (fr_fa q1) (fr_st q1) (fr_rt q1) (fr_zs (fr_sz z (fr_zg z) c)) (fr_zg (fr_sz z (fr_zg z) c)) (fr_zb (fr_sz z (fr_zg z) c)) (fr_zm (fr_sz z (fr_zg z) c)) (fr_zo (fr_sz z (fr_zg z) c)) (fr_zn (fr_sz z (fr_zg z) c)) (fr_zf (fr_sz z (fr_zg z) c)) (fr_ou D) := by
          intro hb
          refine hJ q1 A1 _ (fr_zg z) c (fr_MI_open h hk hD hP hc0 hc1 (fr_ndrev l1) hC2 p1 (fun _ _ _ => rfl) (fun _ _ _ _ => rfl) ?_ ?_) hSc (by omega)
          · rw [hnone]
            constructor
            · rintro ⟨s, e⟩; cases e
            · rintro ⟨e1, e2⟩
              rw [hb e1] at e2
              cases e2
          · intro p' t' hs e
            rw [p5 _ hs] at e
            cases e
        cases b with
        | false => exact br_t (by decide) (br_t rfl (hplain (fun e => by cases e)))
        | true =>
          refine br_t (by decide) (br_f (by decide) ?_)
          refine fr_x_attach (D := D) (z := fr_sz z (fr_zg z) c) p1 p2 hW hf hnone ?_ ?_
          · intro he
            exact br_t (by decide) (hplain (fun _ => he))
          · intro he q2 s hQ2 hs2 hs3 hs4 hs5 hl3
            refine br_f (nI_pos (by omega)) ?_
            have hno : ∀ x, fr_ins A1 r (f :: g) s r (x :: f :: g) = none := by
              intro x
              rw [fr_ins_n (by rintro ⟨_, e⟩; exact absurd (congrArg List.length e) (by simp))]
              exact p5 _ (List.suffix_cons _ _)
            refine fr_x_extend hQ2 (fr_ins_s (A := A1) (r := r) (p := f :: g) (s := s)) hno hW hlv hO ?_
            rintro q3 A3 a ⟨x1, x2, x3, x4⟩
            have hA31 : ∀ r' p', ¬ (r' = r ∧ (f :: g) <:+ p') → A3 r' p' = A1 r' p' := by
              intro r' p' hn
              rw [x2 r' p' (fun h => hn ⟨h.1, h.2.1⟩), fr_ins_n]
              rintro ⟨e1, e2⟩
              exact hn ⟨e1, by rw [e2]; exact List.suffix_rfl⟩
            refine hJ q3 A3 _ a c (fr_MI_open h hk hD hP hc0 hc1 (fr_ndrev l1) hC2 x1 hA31 ?_ ?_ ?_) ?_ (by omega)
            · intro r' p' t' e
              have hns : t' ≠ s := fun e2 => hs3 r' p' (e2 ▸ e)
              have hnk : ¬ (r' = r ∧ (f :: g) <:+ p') := by
                rintro ⟨rfl, s⟩
                rw [p5 _ s] at e
                cases e
              rw [x3 r' p' t' (by rw [fr_ins_n]; exact e; rintro ⟨e1, e2⟩; exact hnk ⟨e1, by rw [e2]; exact List.suffix_rfl⟩) hnk]
              exact hs5 _ hns
            · constructor
              · intro _; exact ⟨rfl, he⟩
              · intro _
                refine ⟨s, ?_⟩
                rw [x2 _ _ (fun h => h.2.2 rfl)]
                exact fr_ins_s
            · intro p' t' hs e
              exact ⟨rfl, x4 p' t' hs e⟩
            · refine fr_Sk_congr (fun _ _ => rfl) (fun g' hg' => ?_) hSc
              refine hA31 _ _ ?_
              rintro ⟨_, s1⟩
              rcases List.mem_append.mp hg' with hg' | hg'
              · obtain ⟨y, hy, rfl⟩ := List.mem_map.mp hg'
                have := (List.cons.inj (s1.eq_of_length (by simp))).1
                exact hfC (this ▸ hy)
              · exact hnb g' hg' (fr_sfx_ne s1).1
    · refine br_f (nI_nle (by omega) (by omega)) (fr_x_prune p1 p2 ?_)
      intro q2 A2 a a1 a2 a3 a4 a5 a6
      refine hJ q2 A2 G a (fr_zs z) (fr_MI_prune h hk hP hc1 a1 a2 a3 a4) ?_ (by omega)
      exact fr_Sk_congr (fun _ _ => rfl) (fun g' hg' => a3 _ _ (fun h => hnb g' hg' h.2.1)) hS
  · rw [if_neg hc0]
    refine br_t rfl (br_t rfl ?_)
    by_cases hc1 : fr_ct S (fr_kd D) (fr_fd D) (fr_lv D) r g = 0
    · rw [hc1]
      refine br_t rfl (fr_x_extend p1 p2 (fun x => ?_) hW hlv hO ?_)
      · cases e : A1 r (x :: g) with
        | none => rfl
        | some s => exact absurd ((p8 x).mp ⟨s, e⟩).1 hc0
      · intro q2 A2 a hE
        refine hJ q2 A2 G a (fr_zs z) (fr_MI_ext h hk hP hc0 hE) ?_ (by omega)
        exact fr_Sk_congr (fun _ _ => rfl) (fun g' hg' => hE.2.1 _ _ (fun h => hnb g' hg' h.2.1)) hS
    · exact br_f (nI_ne0 (by omega) (by omega)) (br_t rfl (hJ q1 A1 G (fr_zg z) (fr_zs z) (fr_MI_stay h hk hP hc0 hc1) hS (by omega)))
theorem fr_addneg {a c : Nat} (h : c ≤ a) : nI a + -(nI c) = nI (a - c) := by
  rw [← Int32.sub_eq_add_neg]
  exact pk_sub h
theorem fr_x_m79 {post : SX → Prop} {J : Int32 → Int32 → Int32 → Int32 → Int32 → Int32 → Int32 → Int32 → Int32 → fr_FN → fr_FN → fr_FN → fr_FN → fr_FN → fr_FN → fr_FN → fr_FN → fr_FN → fr_FN → fr_FN → fr_FN → fr_FN → fr_FN → fr_FN → fr_FN → fr_FN → fr_FN → fr_FN → fr_FN → fr_FN → fr_FN → fr_FN → fr_FN → fr_FN → fr_FN → fr_FN → fr_FN → fr_FN → fr_FN → fr_FN → fr_FN → fr_FN → fr_FN → fr_FN → fr_FN → fr_FN → Prop} {q q1 : fr_QR} {A A1 : fr_AT} {z : fr_ZR} (hW : fr_WR S r) (hlv : fr_LV (fr_lv D)) (hO : fr_OK o (fr_lv D)) (hf : f < 6) (hlo : lv.length ≤ 6)
    (h : fr_MI S (fr_kd D) (fr_fd D) lv (fr_lv D) M r q0 A0 q A (g :: G)) (hk : A r g = some k) (hD : fr_Dl b S (fr_kd D) (fr_fd D) lv (fr_lv D) r f) (hP : fr_DP r g f q A q1 A1)
    (hS : fr_Sk (fr_zs z) A1 r G) (hG : fr_wt (g :: G) ≤ 259)
    (hJ : ∀ (q' : fr_QR) (A' : fr_AT) (G' : List (List Nat)) (a c : fr_FN), fr_MI S (fr_kd D) (fr_fd D) lv (fr_lv D) M r q0 A0 q' A' G' → fr_Sk c A' r G' → fr_wt G' + 1 ≤ fr_wt (g :: G) → J (nI G'.length) (nI (fr_ru S)) (fr_bX S) (nI (fr_lv D).length) (nI (fr_md D)) (fr_fr q') (fr_pk q') (fr_pr D) hx (fr_sa S) (fr_co S) (fr_po S) (fr_te S) (fr_ac S) (fr_cK S) (fr_cT S) (fr_cL S) (fr_cN S) (fr_tF S) (fr_tH S) (fr_tO S) (fr_vL S) (fr_vF S) (fr_aW S) (fr_aK S) (fr_aX S) (fr_aY S) (fr_aZ S) (fr_nu D) (fr_fd D) (fr_kd D) o (fr_pa q') (fr_ch q') (fr_nx q') (fr_fa q') (fr_st q') (fr_rt q') (fr_zs (fr_sz z a c)) (fr_zg (fr_sz z a c)) (fr_zb (fr_sz z a c)) (fr_zm (fr_sz z a c)) (fr_zo (fr_sz z a c)) (fr_zn (fr_sz z a c)) (fr_zf (fr_sz z a c)) (fr_ou D)) :
    wX_mend_79 post J (nI r) (nI f) (fr_i b) (nI G.length) (nI k) (nI g.length) (nI (fr_bl S (fr_kd D) (fr_fd D) r f g)) (nI (fr_ct S (fr_kd D) (fr_fd D) lv r g)) (nI (fr_ru S)) (fr_bX S) (nI (fr_lv D).length) (nI (fr_md D)) (fr_fr q1) (fr_pk q1) (fr_pr D) hx (fr_sa S) (fr_co S) (fr_po S) (fr_te S) (fr_ac S) (fr_cK S) (fr_cT S) (fr_cL S) (fr_cN S) (fr_tF S) (fr_tH S) (fr_tO S) (fr_vL S) (fr_vF S) (fr_aW S) (fr_aK S) (fr_aX S) (fr_aY S) (fr_aZ S) (fr_nu D) (fr_fd D) (fr_kd D) o (fr_pa q1) (fr_ch q1) (fr_nx q1) (fr_fa q1) (fr_st q1) (fr_rt q1) (fr_zs z) (fr_zg z) (fr_zb z) (fr_zm z) (fr_zo z) (fr_zn z) (fr_zf z) (fr_ou D) := by
  have hct1 := fr_ct_le (kd := fr_kd D) (fd := fr_fd D) (lv := fr_lv D) (p := g) hW (fr_LV_len hlv)
  have hct0 := fr_ct_le (kd := fr_kd D) (fd := fr_fd D) (lv := lv) (p := g) hW hlo
  have hbl := fr_bl_le (kd := fr_kd D) (fd := fr_fd D) (f := f) (p := g) hW
  have hkv := h.1.1.1.1 _ _ _ hk
  have hkcl : (nI k).toNatClampNeg = k := nI_clamp (by omega)
  have h89 : wX_mend_89 post J (nI r) (nI f) (fr_i b) (nI G.length) (nI k) (nI g.length) (nI (fr_bl S (fr_kd D) (fr_fd D) r f g)) (nI (fr_ct S (fr_kd D) (fr_fd D) lv r g)) (if fr_ct S (fr_kd D) (fr_fd D) lv r g = 0 then 1 else 0) (nI (fr_ru S)) (fr_bX S) (nI (fr_lv D).length) (nI (fr_md D)) (fr_fr q1) (fr_pk q1) (fr_pr D) hx (fr_sa S) (fr_co S) (fr_po S) (fr_te S) (fr_ac S) (fr_cK S) (fr_cT S) (fr_cL S) (fr_cN S) (fr_tF S) (fr_tH S) (fr_tO S) (fr_vL S) (fr_vF S) (fr_aW S) (fr_aK S) (fr_aX S) (fr_aY S) (fr_aZ S) (fr_nu D) (fr_fd D) (fr_kd D) o (fr_pa q1) (fr_ch q1) (fr_nx q1) (fr_fa q1) (fr_st q1) (fr_rt q1) (fr_zs z) (fr_zg z) (fr_zb z) (fr_zm z) (fr_zo z) (fr_zn z) (fr_zf z) (fr_ou D) := by
    have h105 : ∀ z0 : Int32, nI (fr_ct S (fr_kd D) (fr_fd D) lv r g) + z0 = nI (fr_ct S (fr_kd D) (fr_fd D) (fr_lv D) r g) → wX_mend_105 post J (nI r) (nI f) (fr_i b) (nI G.length) (nI k) (nI g.length) (nI (fr_bl S (fr_kd D) (fr_fd D) r f g)) (if fr_ct S (fr_kd D) (fr_fd D) lv r g = 0 then 1 else 0) z0 (nI (fr_ct S (fr_kd D) (fr_fd D) lv r g)) (nI (fr_ru S)) (fr_bX S) (nI (fr_lv D).length) (nI (fr_md D)) (fr_fr q1) (fr_pk q1) (fr_pr D) hx (fr_sa S) (fr_co S) (fr_po S) (fr_te S) (fr_ac S) (fr_cK S) (fr_cT S) (fr_cL S) (fr_cN S) (fr_tF S) (fr_tH S) (fr_tO S) (fr_vL S) (fr_vF S) (fr_aW S) (fr_aK S) (fr_aX S) (fr_aY S) (fr_aZ S) (fr_nu D) (fr_fd D) (fr_kd D) o (fr_pa q1) (fr_ch q1) (fr_nx q1) (fr_fa q1) (fr_st q1) (fr_rt q1) (fr_zs z) (fr_zg z) (fr_zb z) (fr_zm z) (fr_zo z) (fr_zn z) (fr_zf z) (fr_ou D) := by
      intro z0 ez
      refine nm_r ez ?_
      by_cases hb0 : fr_bl S (fr_kd D) (fr_fd D) r f g = 0
      · rw [hb0]
        exact br_t (by decide) (fr_x_m123 hW hlv hO hf h hk hD (fr_Pop_of h hk hD hP hP.1 (Or.inl ⟨hb0, rfl⟩)) hS hG hJ)
      · refine br_f (nI_nle (by omega) (by omega)) ⟨vp_in_nI hkv.2.2.2 (by omega), nm_r (e' := upd (fr_st q1) k (nI (fr_ct S (fr_kd D) (fr_fd D) (fr_lv D) r g))) (by rw [hkcl, fr_b88 (by omega)]) ?_⟩
        exact fr_x_m123 (q1 := fr_sq q1 (upd (fr_st q1) k (nI (fr_ct S (fr_kd D) (fr_fd D) (fr_lv D) r g)))) hW hlv hO hf h hk hD (fr_Pop_of h hk hD hP hP.1 (Or.inr ⟨hb0, rfl⟩)) hS hG hJ
    cases hb : b with
    | false =>
      subst hb
      have := (hD.2 rfl).2.2 g
      exact br_t rfl (h105 _ (by rw [fr_addneg (by omega)]; exact congrArg nI (by omega)))
    | true =>
      subst hb
      have := (hD.1 rfl).2.2 g
      exact br_f (by decide) (h105 _ (by rw [nI_add]; exact congrArg nI (by omega)))
  refine br_c (fun e => ?_) (fun e => ?_)
  · have e0 : fr_ct S (fr_kd D) (fr_fd D) lv r g = 0 := by
      rw [← nI_0, nI_eq (by omega) (by omega)] at e
      exact e
    rw [if_pos e0] at h89
    exact h89
  · have e0 : ¬ fr_ct S (fr_kd D) (fr_fd D) lv r g = 0 := fun e2 => e (by rw [e2]; rfl)
    rw [if_neg e0] at h89
    exact h89
theorem fr_x_mend19 {post : SX → Prop} (hW : fr_WR S r) (hlv : fr_LV (fr_lv D)) (hO : fr_OK o (fr_lv D)) (hf : f < 6) (hlo : lv.length ≤ 6) (hD : fr_Dl b S (fr_kd D) (fr_fd D) lv (fr_lv D) r f) :
    ∀ (w n : Nat) (G : List (List Nat)) (q : fr_QR) (A : fr_AT) (z : fr_ZR), fr_wt G ≤ w → w < n → fr_MI S (fr_kd D) (fr_fd D) lv (fr_lv D) M r q0 A0 q A G → fr_Sk (fr_zs z) A r G → fr_wt G ≤ 259 →
    (∀ (q' : fr_QR) (A' : fr_AT) (a c : fr_FN), fr_MI S (fr_kd D) (fr_fd D) lv (fr_lv D) M r q0 A0 q' A' [] → post (fr_mX S D hx o q' (fr_sz z a c))) →
    wX_mend_19 post (nI r) (nI f) (fr_i b) n (nI G.length) (nI (fr_ru S)) (fr_bX S) (nI (fr_lv D).length) (nI (fr_md D)) (fr_fr q) (fr_pk q) (fr_pr D) hx (fr_sa S) (fr_co S) (fr_po S) (fr_te S) (fr_ac S) (fr_cK S) (fr_cT S) (fr_cL S) (fr_cN S) (fr_tF S) (fr_tH S) (fr_tO S) (fr_vL S) (fr_vF S) (fr_aW S) (fr_aK S) (fr_aX S) (fr_aY S) (fr_aZ S) (fr_nu D) (fr_fd D) (fr_kd D) o (fr_pa q) (fr_ch q) (fr_nx q) (fr_fa q) (fr_st q) (fr_rt q) (fr_zs z) (fr_zg z) (fr_zb z) (fr_zm z) (fr_zo z) (fr_zn z) (fr_zf z) (fr_ou D) := by
  intro w
  induction w with
  | zero =>
    intro n G q A z hw hn hE hS hG hJ
    obtain ⟨n, rfl⟩ : ∃ m, n = m + 1 := ⟨n - 1, by omega⟩
    match G, hw, hE, hS with
    | [], _, hE, hS => exact br_t (by decide) (hJ q A (fr_zg z) (fr_zs z) hE)
    | g :: G, hw, hE, hS =>
      exfalso
      obtain ⟨x, hx'⟩ := hE.2.2.1 g List.mem_cons_self
      have := fr_w_pos (hE.1.1.1.1 _ _ _ hx').2.1
      rw [fr_wt] at hw
      omega
  | succ w ih =>
    intro n G q A z hw hn hE hS hG hJ
    obtain ⟨n, rfl⟩ : ∃ m, n = m + 1 := ⟨n - 1, by omega⟩
    match G, hw, hE, hS, hG with
    | [], _, hE, hS, _ => exact br_t (by decide) (hJ q A (fr_zg z) (fr_zs z) hE)
    | g :: G, hw, hE, hS, hG =>
      obtain ⟨⟨k, hk, hk2⟩, hS2⟩ := hS
      have hQ := hE.1.1
      have hkv := hQ.1.1 _ _ _ hk
      have hlen3 : ∀ g', g' ∈ g :: G → g'.length ≤ 3 := by
        intro g' hg'
        obtain ⟨x, hx'⟩ := hE.2.2.1 g' hg'
        exact (hQ.1.1 _ _ _ hx').2.1
      have hGl := fr_wt_len _ hlen3
      rw [List.length_cons] at hGl
      have hnb : ∀ g', g' ∈ G → ¬ g <:+ g' := fun g' hg' => ((List.pairwise_cons.mp hE.2.1).1 g' hg').1
      have hct0 := fr_ct_le (kd := fr_kd D) (fd := fr_fd D) (lv := lv) (p := g) hW hlo
      have hkcl : (nI k).toNatClampNeg = k := nI_clamp (by omega)
      have hRT := (hE.2.2.2.2 g List.mem_cons_self g List.suffix_rfl).1 k hk
      have h15 : fr_st q k &&& 15 = nI (fr_ct S (fr_kd D) (fr_fd D) lv r g) := by
        rw [hRT.1]
        by_cases e : M r g = true ∧ fr_ct S (fr_kd D) (fr_fd D) lv r g = 0
        · rw [if_pos e, e.2]
          decide
        · rw [if_neg e, pk_andN (by omega) (m := 15) 4 (by decide), Nat.mod_eq_of_lt (by omega)]
      refine br_f (nI_nle (by rw [List.length_cons]; omega) (by rw [List.length_cons]; omega)) (nm_r (e' := nI G.length) (fr_m1p (by rw [List.length_cons]; omega)) ⟨vp_in_nI (by omega) (by omega), nm_r (e' := nI k) (by rw [nI_clamp (by omega)]; exact hk2) ?_⟩)
      refine fr_x_depth hQ hk ?_
      refine fr_x_blocks hQ hk hW hf ⟨vp_in_nI hkv.2.2.2 (by omega), nm_r (e' := nI (fr_ct S (fr_kd D) (fr_fd D) lv r g)) (by rw [hkcl]; exact h15) ?_⟩
      have hgo : ∀ (q1 : fr_QR) (A1 : fr_AT) (a : fr_FN), fr_DP r g f q A q1 A1 → wX_mend_79 post (wX_mend_19 post (nI r) (nI f) (fr_i b) n) (nI r) (nI f) (fr_i b) (nI G.length) (nI k) (nI g.length) (nI (fr_bl S (fr_kd D) (fr_fd D) r f g)) (nI (fr_ct S (fr_kd D) (fr_fd D) lv r g)) (nI (fr_ru S)) (fr_bX S) (nI (fr_lv D).length) (nI (fr_md D)) (fr_fr q1) (fr_pk q1) (fr_pr D) hx (fr_sa S) (fr_co S) (fr_po S) (fr_te S) (fr_ac S) (fr_cK S) (fr_cT S) (fr_cL S) (fr_cN S) (fr_tF S) (fr_tH S) (fr_tO S) (fr_vL S) (fr_vF S) (fr_aW S) (fr_aK S) (fr_aX S) (fr_aY S) (fr_aZ S) (fr_nu D) (fr_fd D) (fr_kd D) o (fr_pa q1) (fr_ch q1) (fr_nx q1) (fr_fa q1) (fr_st q1) (fr_rt q1) (fr_zs (fr_sg z a)) (fr_zg (fr_sg z a)) (fr_zb (fr_sg z a)) (fr_zm (fr_sg z a)) (fr_zo (fr_sg z a)) (fr_zn (fr_sg z a)) (fr_zf (fr_sg z a)) (fr_ou D) := by
        intro q1 A1 a hP
        refine fr_x_m79 (z := fr_sg z a) hW hlv hO hf hlo hE hk hD hP ?_ hG ?_
        · refine fr_Sk_congr (fun _ _ => rfl) (fun g' hg' => hP.2.2.1 _ _ ?_) hS2
          rintro ⟨_, s⟩
          exact hnb g' hg' (fr_sfx_ne s).1
        · intro q' A' G' a' c h1 h2 h3
          exact ih n G' q' A' (fr_sz z a' c) (by omega) (by omega) h1 h2 (by omega) hJ
      cases hb : b with
      | false =>
        subst hb
        exact br_t rfl (fr_x_detach hQ hk hf hgo)
      | true =>
        subst hb
        refine br_f (by decide) (hgo q A (fr_zg z) ⟨hQ, ?_, fun _ _ _ => rfl, rfl⟩)
        rintro r' p' rfl hs
        cases e : A r' p' with
        | none => rfl
        | some t =>
          obtain ⟨s, hs2⟩ := fr_up hQ.2.1 hs ⟨t, e⟩
          exact absurd ((hRT.2 f).mp ⟨s, hs2⟩).2.1 (hD.1 rfl).1
theorem fr_x_mend {post : SX → Prop} {q : fr_QR} {A : fr_AT} {z : fr_ZR} (hW : fr_WR S r) (hlv : fr_LV (fr_lv D)) (hO : fr_OK o (fr_lv D)) (hf : f < 6) (hlo : lv.length ≤ 6) (hD : fr_Dl b S (fr_kd D) (fr_fd D) lv (fr_lv D) r f)
    (hQ : fr_PQ q A) (hr : ∃ x, A r [] = some x) (hRT : ∀ p t, A r p = some t → fr_RT S (fr_kd D) (fr_fd D) lv M A (fr_st q) r p t) (hM : ∀ p, M r p = true → (∃ x, A r p = some x) ∧ fr_ct S (fr_kd D) (fr_fd D) lv r p = 0)
    (hp : ∀ (q' : fr_QR) (A' : fr_AT) (a c : fr_FN), fr_PQ q' A' → (∀ r' p', r' ≠ r → A' r' p' = A r' p') → (∀ r' p' t', r' ≠ r → A r' p' = some t' → fr_st q' t' = fr_st q t') → (∃ x, A' r [] = some x) → (∀ p t, A' r p = some t → fr_RT S (fr_kd D) (fr_fd D) (fr_lv D) M A' (fr_st q') r p t) → post (fr_mX S D hx o q' (fr_sz z a c))) :
    wpX_mend post (fr_mX S D hx o q z) (nI r) (nI f) (fr_i b) := by
  obtain ⟨x, hx'⟩ := hr
  have hxv := hQ.1.1 _ _ _ hx'
  refine nm_r (e' := nI 1) rfl ⟨vp_in_nI hxv.1 (by omega), nm_r (e' := upd (fr_zs z) 0 (nI x)) (by rw [nI_clamp (by omega), hQ.2.2.1 _ _ hx', fr_s16 (by omega)]) ⟨260, ?_⟩⟩
  refine fr_x_mend19 (q0 := q) (A0 := A) (M := M) hW hlv hO hf hlo hD 259 260 [[]] q A (fr_sz z (fr_zg z) (upd (fr_zs z) 0 (nI x))) (by decide) (by omega) ⟨⟨hQ, fun _ _ _ => rfl, fun _ _ _ _ _ => rfl, ⟨x, hx'⟩⟩, ?_, ?_, ?_, ?_⟩ ⟨⟨x, hx', (pk_us : upd (fr_zs z) 0 (nI x) 0 = nI x)⟩, trivial⟩ (by decide) ?_
  · exact List.pairwise_cons.mpr ⟨fun _ h => (by cases h), List.Pairwise.nil⟩
  · intro g hg
    rw [List.mem_singleton.mp hg]
    exact ⟨x, hx'⟩
  · intro p' t' _
    exact Or.inr ⟨[], List.mem_singleton.mpr rfl, List.nil_suffix⟩
  · intro g hg p' _
    exact ⟨fun t' e => hRT p' t' e, hM p'⟩
  · intro q' A' a c hE
    refine hp q' A' a c hE.1.1 hE.1.2.1 hE.1.2.2.1 hE.1.2.2.2 (fun p t e => ?_)
    rcases hE.2.2.2.1 p t e with h | ⟨g, h, _⟩
    · exact h
    · cases h
end
end
section
theorem fr_ts_congr {S : fr_SR} {fd fd' : fr_FN} {r c d f i : Nat} {g g' : Nat → Nat} (hW : fr_WR S r) (h1 : 5 * r ≤ c) (h2 : c < 5 * r + fr_cn S r) (hd : fr_cL S c = nI d) (hd2 : d < 2 ^ 31) (h3 : 4 * c ≤ i) (h4 : i < 4 * c + fr_tn S c)
    (a1 : ∀ j, j < 3 → fd' (3 * f + j) = fd (3 * f + j)) (a2 : ∀ l, l ≤ d → (l = d → fr_cN S c = 0) → ∀ j, j < 3 → fd' (3 * g' l + j) = fd (3 * g l + j)) : fr_ts S fd' r g' f i = fr_ts S fd r g f i := by
  unfold fr_ts
  by_cases h5 : fr_tH S i = 3
  · rw [if_pos h5, if_pos h5]
  · rw [if_neg h5, if_neg h5]
    obtain ⟨⟨fl, hh, k1, k2, _, _⟩, _, _⟩ := (hW.2 c h1 h2).2.2.2.2 i h3 h4
    have e1 : (fr_tF S i).toNatClampNeg = fl := by rw [k1]; exact nI_clamp (by omega)
    rw [e1, a1 fl k2]
    congr 1
    unfold fr_ov
    by_cases h6 : fr_tO S i &&& 1 = 0
    · rw [if_pos h6, if_pos h6]
    · rw [if_neg h6, if_neg h6]
      obtain ⟨x, l, fl2, v1, v2, v3, v4, v5, v6, v7, v8⟩ := fr_WT_var hW h1 h2 hd hd2 h3 h4 h5 h6
      have e7 : fr_vx (fr_tO S i) = x := by unfold fr_vx; rw [v2]; exact nI_clamp (by omega)
      have hdd := fr_WR_d hW h1 h2 hd hd2
      have hpn := hW.1.2.2.2.1
      have e8 : fr_vl S (4 * r + x) = l := by unfold fr_vl; rw [v4]; exact nI_clamp (by omega)
      have e9 : fr_vf S (4 * r + x) = fl2 := by unfold fr_vf; rw [v5]; exact nI_clamp (by omega)
      rw [e7, e8, e9]
      exact a2 l v7 v8 fl2 v6
theorem fr_ps_congr {S : fr_SR} {kd fd kd' fd' : fr_FN} {r c d f : Nat} {g g' : Nat → Nat} (hW : fr_WR S r) (h1 : 5 * r ≤ c) (h2 : c < 5 * r + fr_cn S r) (hd : fr_cL S c = nI d) (hd2 : d < 2 ^ 31)
    (a0 : kd' f = kd f) (a1 : ∀ j, j < 3 → fd' (3 * f + j) = fd (3 * f + j)) (a2 : ∀ l, l ≤ d → (l = d → fr_cN S c = 0) → ∀ j, j < 3 → fd' (3 * g' l + j) = fd (3 * g l + j)) : fr_ps S kd' fd' r c f g' = fr_ps S kd fd r c f g := by
  unfold fr_ps
  rw [a0, fr_al_congr (fr_tn S c) (4 * c) (fun j h3 h4 => fr_ts_congr hW h1 h2 hd hd2 h3 h4 a1 a2)]
theorem fr_gv_mem {p : List Nat} {l : Nat} (h : l < p.length) : fr_gv p l ∈ p := by
  induction p with
  | nil => exact absurd h (Nat.not_lt_zero _)
  | cons f p ih =>
    rw [fr_gv]
    split
    · exact List.mem_cons_self
    · rename_i hn
      rw [List.length_cons] at h
      exact List.mem_cons_of_mem _ (ih (by omega))
/-- two tables of facts that agree on the live ones -/
def fr_Ag (kd fd kd' fd' : fr_FN) (lv : List Nat) : Prop := ∀ x, x ∈ lv → kd' x = kd x ∧ ∀ j, j < 3 → fd' (3 * x + j) = fd (3 * x + j)
section
variable {S : fr_SR} {kd fd kd' fd' : fr_FN} {lv : List Nat} {r : Nat}
theorem fr_bl_congr {f : Nat} {p : List Nat} (hW : fr_WR S r) (hA : fr_Ag kd fd kd' fd' lv) (hf : f ∈ lv) (hp : ∀ x, x ∈ p → x ∈ lv) (hl : p.length < 2 ^ 31) : fr_bl S kd' fd' r f p = fr_bl S kd fd r f p := by
  unfold fr_bl
  refine fr_cc_congr _ _ (fun c h1 h2 => ?_)
  unfold fr_bq
  by_cases hn : fr_cN S c = 0
  · have e1 : fr_ng S c = false := by unfold fr_ng; rw [decide_eq_true hn]; rfl
    rw [e1, Bool.false_and, Bool.false_and]
  · by_cases hd : fr_cL S c = nI p.length
    · rw [fr_ps_congr hW h1 h2 hd hl (hA f hf).1 (hA f hf).2]
      intro l h3 h4 j hj
      have hlt : l < p.length := by
        rcases Nat.lt_or_ge l p.length with h | h
        · exact h
        · exact absurd (h4 (by omega)) hn
      exact (hA _ (hp _ (fr_gv_mem hlt))).2 j hj
    · rw [decide_eq_false hd, Bool.false_and, Bool.false_and]
theorem fr_sum_congr {f g : Nat → Nat} : ∀ {l : List Nat}, (∀ x, x ∈ l → f x = g x) → (l.map f).sum = (l.map g).sum := by
  intro l
  induction l with
  | nil => intro _; rfl
  | cons a l ih =>
    intro h
    rw [List.map_cons, List.map_cons, List.sum_cons, List.sum_cons, h a List.mem_cons_self, ih (fun x hx => h x (List.mem_cons_of_mem _ hx))]
theorem fr_ct_congr {p : List Nat} (hW : fr_WR S r) (hA : fr_Ag kd fd kd' fd' lv) (hp : ∀ x, x ∈ p → x ∈ lv) (hl : p.length < 2 ^ 31) : fr_ct S kd' fd' lv r p = fr_ct S kd fd lv r p :=
  fr_sum_congr (fun x hx => fr_bl_congr hW hA hx hp hl)
theorem fr_ex_congr {f : Nat} {p : List Nat} (hW : fr_WR S r) (hA : fr_Ag kd fd kd' fd' lv) (hf : f ∈ lv) (hp : ∀ x, x ∈ p → x ∈ lv) (hl : p.length < 2 ^ 31) : fr_ex S kd' fd' r p f = fr_ex S kd fd r p f := by
  unfold fr_ex
  cases e : fr_pA S r p.length with
  | none => rfl
  | some c =>
    obtain ⟨c1, c2, c3, c4, c5⟩ := fr_pA_some hW e hl
    refine fr_ps_congr hW c1 c2 c4 hl (hA f hf).1 (hA f hf).2 (fun l h3 _ j hj => ?_)
    have hm : fr_gv (f :: p) l ∈ lv := by
      have := fr_gv_mem (p := f :: p) (l := l) (by rw [List.length_cons]; omega)
      rcases List.mem_cons.mp this with e | h
      · rw [e]; exact hf
      · exact hp _ h
    exact (hA _ hm).2 j hj
theorem fr_RT_facts {M : Nat → List Nat → Bool} {A : fr_AT} {st : fr_FN} {p : List Nat} {t : Nat} (hW : fr_WR S r) (hA : fr_Ag kd fd kd' fd' lv) (hp : ∀ x, x ∈ p → x ∈ lv) (hl : p.length < 2 ^ 31) (h : fr_RT S kd fd lv M A st r p t) : fr_RT S kd' fd' lv M A st r p t := by
  unfold fr_RT at h ⊢
  rw [fr_ct_congr hW hA hp hl]
  refine ⟨h.1, fun x => ?_⟩
  rw [h.2 x]
  constructor
  · rintro ⟨a, b, c⟩; exact ⟨a, b, by rw [fr_ex_congr hW hA b hp hl]; exact c⟩
  · rintro ⟨a, b, c⟩; exact ⟨a, b, by rw [fr_ex_congr hW hA b hp hl] at c; exact c⟩
theorem fr_sm_mem : ∀ {p : List Nat}, fr_sm S kd fd lv r p = true → ∀ x, x ∈ p → x ∈ lv := by
  intro p
  induction p with
  | nil => intro _ x hx; cases hx
  | cons f p ih =>
    intro h x hx
    rw [fr_sm, Bool.and_eq_true, Bool.and_eq_true, Bool.and_eq_true] at h
    rcases List.mem_cons.mp hx with e | hx
    · rw [e]; exact of_decide_eq_true h.2.2.1
    · exact ih h.1 x hx
theorem fr_sm_len (hW : fr_WR S r) : ∀ {p : List Nat}, fr_sm S kd fd lv r p = true → p.length < 2 ^ 31 → p.length ≤ fr_pn S r := by
  intro p
  match p with
  | [] => intro _ _; exact Nat.zero_le _
  | f :: p =>
    intro h hl
    rw [fr_sm, Bool.and_eq_true, Bool.and_eq_true, Bool.and_eq_true] at h
    have hex := h.2.2.2
    rw [List.length_cons] at hl ⊢
    unfold fr_ex at hex
    cases e : fr_pA S r p.length with
    | none => rw [e] at hex; cases hex
    | some c => exact (fr_pA_some hW e (by omega)).2.2.2.2
theorem fr_alive {M : Nat → List Nat → Bool} {A : fr_AT} {fa pa st : fr_FN} (hF : fr_PF fa pa A) (hr : ∃ t, A r [] = some t) (hRT : ∀ p t, A r p = some t → fr_RT S kd fd lv M A st r p t) : ∀ p : List Nat, (∃ t, A r p = some t) ↔ fr_sm S kd fd lv r p = true := by
  intro p
  induction p with
  | nil => exact ⟨fun _ => rfl, fun _ => hr⟩
  | cons f p ih =>
    rw [fr_sm, Bool.and_eq_true, Bool.and_eq_true, Bool.and_eq_true, ← ih, decide_eq_true_iff, decide_eq_true_iff]
    constructor
    · intro h
      obtain ⟨t, ht⟩ := h
      obtain ⟨_, s, hs, _⟩ := hF.2 _ _ _ _ ht
      exact ⟨⟨s, hs⟩, ((hRT p s hs).2 f).mp ⟨t, ht⟩⟩
    · rintro ⟨⟨s, hs⟩, h⟩
      exact ((hRT p s hs).2 f).mpr h
end
/-! choices -/
def fr_R (S : fr_SR) : Nat := if fr_bd S = true then fr_ru S - 1 else fr_ru S
def fr_cho (r : Nat) (p : List Nat) : Nat := 216 * r + (36 * fr_gv p 0 + (6 * fr_gv p 1 + fr_gv p 2))
def fr_pl (c j : Nat) : Nat := if j = 0 then c / 36 % 6 else if j = 1 then c / 6 % 6 else c % 6
def fr_pth (c : Nat) : Nat → List Nat
  | 0 => []
  | n + 1 => fr_pl c n :: fr_pth c n
def fr_zz (n c : Nat) : Bool := fr_al (fun j => decide (fr_pl c j = 0)) n (3 - n)
def fr_hd (S : fr_SR) (kd fd : fr_FN) (lv : List Nat) (c : Nat) : Bool :=
  decide (c / 216 < fr_R S) && (fr_zz (fr_pn S (c / 216)) c && (fr_sm S kd fd lv (c / 216) (fr_pth c (fr_pn S (c / 216))) && decide (fr_ct S kd fd lv (c / 216) (fr_pth c (fr_pn S (c / 216))) = 0)))
def fr_Mk (S : fr_SR) (mk : fr_FN) (r : Nat) (p : List Nat) : Bool :=
  decide (p.length = fr_pn S r) && (p.all (fun x => decide (x < 6)) && !decide (mk (fr_cho r p) = 0))
theorem fr_pl_lt (c j : Nat) : fr_pl c j < 6 := by
  unfold fr_pl
  split
  · omega
  · split <;> omega
theorem fr_pth_len (c n : Nat) : (fr_pth c n).length = n := by
  induction n with
  | zero => rfl
  | succ n ih => rw [fr_pth, List.length_cons, ih]
theorem fr_pth_gv (c : Nat) : ∀ (n j : Nat), j < n → fr_gv (fr_pth c n) j = fr_pl c j := by
  intro n
  induction n with
  | zero => intro j h; omega
  | succ n ih =>
    intro j h
    rw [fr_pth, fr_gv, fr_pth_len]
    split
    · rename_i e; rw [e]
    · exact ih j (by omega)
theorem fr_pth_lt (c n : Nat) : ∀ x, x ∈ fr_pth c n → x < 6 := by
  induction n with
  | zero => intro x hx; cases hx
  | succ n ih =>
    intro x hx
    rcases List.mem_cons.mp hx with e | hx
    · rw [e]; exact fr_pl_lt c n
    · exact ih x hx
theorem fr_gv_ge {p : List Nat} {j : Nat} (h : p.length ≤ j) : fr_gv p j = 0 := by
  induction p with
  | nil => rfl
  | cons f p ih =>
    rw [List.length_cons] at h
    rw [fr_gv, if_neg (by omega)]
    exact ih (by omega)
theorem fr_cho_pl {r : Nat} {p : List Nat} (he : ∀ x, x ∈ p → x < 6) : fr_cho r p / 216 = r ∧ fr_pl (fr_cho r p) 0 = fr_gv p 0 ∧ fr_pl (fr_cho r p) 1 = fr_gv p 1 ∧ ∀ j, 2 ≤ j → fr_pl (fr_cho r p) j = fr_gv p 2 := by
  have h0 := fr_gv_lt he 0
  have h1 := fr_gv_lt he 1
  have h2 := fr_gv_lt he 2
  unfold fr_cho
  generalize fr_gv p 0 = a at *
  generalize fr_gv p 1 = b at *
  generalize fr_gv p 2 = c at *
  refine ⟨by omega, ?_, ?_, ?_⟩
  · show (216 * r + (36 * a + (6 * b + c))) / 36 % 6 = a
    omega
  · show (216 * r + (36 * a + (6 * b + c))) / 6 % 6 = b
    omega
  · intro j hj
    unfold fr_pl
    rw [if_neg (by omega), if_neg (by omega)]
    omega
theorem fr_cho_plj {r j : Nat} {p : List Nat} (he : ∀ x, x ∈ p → x < 6) (hj : j < 3) : fr_pl (fr_cho r p) j = fr_gv p j := by
  obtain ⟨_, h0, h1, h2⟩ := fr_cho_pl (r := r) he
  match j, hj with
  | 0, _ => exact h0
  | 1, _ => exact h1
  | 2, _ => exact h2 2 (Nat.le_refl _)
theorem fr_cho_lt {r : Nat} {p : List Nat} (he : ∀ x, x ∈ p → x < 6) : fr_cho r p < 216 * (r + 1) := by
  have h0 := fr_gv_lt he 0
  have h1 := fr_gv_lt he 1
  have h2 := fr_gv_lt he 2
  unfold fr_cho
  omega
theorem fr_gv_ext : ∀ {p p' : List Nat}, p.length = p'.length → (∀ j, j < p.length → fr_gv p j = fr_gv p' j) → p = p' := by
  intro p
  induction p with
  | nil =>
    intro p' h _
    match p', h with
    | [], _ => rfl
  | cons f p ih =>
    intro p' h hj
    match p', h, hj with
    | f' :: p', h, hj =>
      rw [List.length_cons, List.length_cons] at h
      have h' : p.length = p'.length := by omega
      have e1 := hj p.length (by rw [List.length_cons]; omega)
      rw [fr_gv_e, fr_gv, if_pos h'] at e1
      rw [e1, ih h' (fun j h2 => by
        have := hj j (by rw [List.length_cons]; omega)
        rw [fr_gv_c h2, fr_gv_c (by omega)] at this
        exact this)]
theorem fr_cho_pth {r : Nat} {p : List Nat} (he : ∀ x, x ∈ p → x < 6) (hl : p.length ≤ 3) : fr_pth (fr_cho r p) p.length = p := by
  refine fr_gv_ext (fr_pth_len _ _) (fun j hj => ?_)
  rw [fr_pth_len] at hj
  rw [fr_pth_gv _ _ _ hj, fr_cho_plj he (by omega)]
theorem fr_pth_cho {c n : Nat} (hn : n ≤ 3) (hz : fr_zz n c = true) : fr_cho (c / 216) (fr_pth c n) = c := by
  have hz' := (fr_al_iff (3 - n) n).mp hz
  have hg : ∀ j, j < 3 → fr_gv (fr_pth c n) j = fr_pl c j := by
    intro j hj
    rcases Nat.lt_or_ge j n with h | h
    · exact fr_pth_gv c n j h
    · rw [fr_gv_ge (by rw [fr_pth_len]; exact h)]
      exact (of_decide_eq_true (hz' j h (by omega))).symm
  unfold fr_cho
  rw [hg 0 (by omega), hg 1 (by omega), hg 2 (by omega)]
  show 216 * (c / 216) + (36 * (c / 36 % 6) + (6 * (c / 6 % 6) + c % 6)) = c
  omega
theorem fr_zz_cho {r : Nat} {p : List Nat} (he : ∀ x, x ∈ p → x < 6) : fr_zz p.length (fr_cho r p) = true := by
  refine (fr_al_iff _ _).mpr (fun j h1 h2 => decide_eq_true ?_)
  rw [fr_cho_plj he (by omega)]
  exact fr_gv_ge h1
section
variable {S : fr_SR} {kd fd : fr_FN} {lv : List Nat}
theorem fr_hd_cho {r : Nat} {p : List Nat} (hr : r < fr_R S) (hn : fr_pn S r ≤ 3) (he : ∀ x, x ∈ p → x < 6) (hl : p.length = fr_pn S r) : fr_hd S kd fd lv (fr_cho r p) = true ↔ (fr_sm S kd fd lv r p = true ∧ fr_ct S kd fd lv r p = 0) := by
  have e1 := (fr_cho_pl (r := r) he).1
  unfold fr_hd
  rw [e1, ← hl, fr_zz_cho he, fr_cho_pth he (by omega), decide_eq_true hr, Bool.true_and, Bool.true_and, Bool.and_eq_true, decide_eq_true_iff]
theorem fr_hd_c {c : Nat} (h : fr_hd S kd fd lv c = true) : c / 216 < fr_R S ∧ fr_zz (fr_pn S (c / 216)) c = true ∧ fr_sm S kd fd lv (c / 216) (fr_pth c (fr_pn S (c / 216))) = true ∧ fr_ct S kd fd lv (c / 216) (fr_pth c (fr_pn S (c / 216))) = 0 := by
  unfold fr_hd at h
  rw [Bool.and_eq_true, Bool.and_eq_true, Bool.and_eq_true, decide_eq_true_iff, decide_eq_true_iff] at h
  exact h
end
theorem fr_Mk_iff {S : fr_SR} {mk : fr_FN} {r : Nat} {p : List Nat} : fr_Mk S mk r p = true ↔ (p.length = fr_pn S r ∧ (∀ x, x ∈ p → x < 6) ∧ mk (fr_cho r p) ≠ 0) := by
  unfold fr_Mk
  rw [Bool.and_eq_true, Bool.and_eq_true, decide_eq_true_iff, List.all_eq_true]
  simp only [decide_eq_true_iff, Bool.not_eq_true', decide_eq_false_iff_not]
end
section
def fr_W1 (S : fr_SR) : Prop := fr_ru S ≤ 4 ∧ (fr_bd S = true → 0 < fr_ru S) ∧ (∀ r, r < fr_ru S → fr_WR S r) ∧ (∀ r, r < fr_R S → 0 < fr_pn S r)
def fr_nv (D : fr_DR) (f : Nat) : Nat := (fr_nu D f).toNatClampNeg
def fr_FW (D : fr_DR) : Prop :=
  fr_LV (fr_lv D) ∧ (∀ f, f < 6 → f ∉ fr_lv D → fr_nu D f = 0) ∧ (∀ f, f ∈ fr_lv D → fr_nu D f = nI (fr_nv D f) ∧ 0 < fr_nv D f ∧ fr_nv D f ≤ fr_md D) ∧
  (fr_lv D).Pairwise (fun a b => fr_nv D a < fr_nv D b) ∧ fr_md D < 2 ^ 27
def fr_MW (S : fr_SR) (D : fr_DR) : Prop := ∀ c, c < 864 → fr_mk D c ≠ 0 → fr_hd S (fr_kd D) (fr_fd D) (fr_lv D) c = true
def fr_XI (S : fr_SR) (D : fr_DR) (q : fr_QR) (A : fr_AT) : Prop :=
  fr_PQ q A ∧ (∀ r, (∃ s, A r [] = some s) ↔ r < fr_R S) ∧ (∀ r p t, A r p = some t → fr_RT S (fr_kd D) (fr_fd D) (fr_lv D) (fr_Mk S (fr_mk D)) A (fr_st q) r p t)
def fr_nm (S : fr_SR) (kd fd : fr_FN) (lv : List Nat) (mk : fr_FN) : fr_FN := fun c => if c < 216 * fr_R S ∧ fr_hd S kd fd lv c = false then 0 else mk c
def fr_f3 (fd : fr_FN) (f : Nat) (x y w : Int32) : fr_FN := upd (upd (upd fd (3 * f) x) (3 * f + 1) y) (3 * f + 2) w
def fr_ad (S : fr_SR) (D : fr_DR) (f : Nat) (k x y w : Int32) : fr_DR :=
  (upd (fr_nu D) f (nI (fr_md D + 1)), fr_f3 (fr_fd D) f x y w, upd (fr_kd D) f k, fr_lv D ++ [f], fr_md D + 1, fr_nm S (upd (fr_kd D) f k) (fr_f3 (fr_fd D) f x y w) (fr_lv D ++ [f]) (fr_mk D), fr_pr D, fr_ou D)
def fr_sl (D : fr_DR) : Nat := (fr_fs (fun f => decide (fr_nu D f = 0)) 0 6).getD 0
def fr_addD (S : fr_SR) (D : fr_DR) (k x y w : Int32) : fr_DR × Int32 := if k < 0 ∨ 3 < k ∨ (fr_lv D).length = 6 then (D, 0) else (fr_ad S D (fr_sl D) k x y w, nI (fr_md D + 1))
def fr_le (lv : List Nat) (i : Nat) : List Nat := lv.take i ++ lv.drop (i + 1)
def fr_rm (S : fr_SR) (D : fr_DR) (i : Nat) : fr_DR :=
  (upd (fr_nu D) ((fr_lv D).getD i 0) 0, fr_fd D, fr_kd D, fr_le (fr_lv D) i, fr_md D, fr_nm S (fr_kd D) (fr_fd D) (fr_le (fr_lv D) i) (fr_mk D), fr_pr D, fr_ou D)
def fr_ri (D : fr_DR) (v : Int32) : Option Nat := fr_fs (fun i => decide (fr_nu D ((fr_lv D).getD i 0) = v)) 0 (fr_lv D).length
def fr_remD (S : fr_SR) (D : fr_DR) (v : Int32) : fr_DR × Int32 := match fr_ri D v with
  | none => (D, 0)
  | some i => (fr_rm S D i, 1)
theorem fr_R_le {S : fr_SR} : fr_R S ≤ fr_ru S := by
  unfold fr_R
  split <;> omega
theorem fr_slot {D : fr_DR} (h : fr_FW D) (hl : (fr_lv D).length ≠ 6) : fr_fs (fun f => decide (fr_nu D f = 0)) 0 6 = some (fr_sl D) ∧ fr_sl D < 6 ∧ fr_sl D ∉ fr_lv D ∧ fr_nu D (fr_sl D) = 0 ∧ ∀ j, j < fr_sl D → j ∈ fr_lv D := by
  obtain ⟨hLV, h1, h2, h3, h4⟩ := h
  cases e : fr_fs (fun f => decide (fr_nu D f = 0)) 0 6 with
  | none =>
    exfalso
    have hn := fr_fs_none _ _ e
    have hsub : List.range 6 ⊆ fr_lv D := by
      intro x hx
      have hx6 := List.mem_range.mp hx
      apply Classical.byContradiction
      intro hno
      have := hn x (by omega) (by omega)
      rw [h1 x hx6 hno] at this
      exact absurd this (by decide)
    have := List.Nodup.length_le_of_subset List.nodup_range hsub
    rw [List.length_range] at this
    have := fr_LV_len hLV
    omega
  | some f =>
    obtain ⟨s1, s2, s3, s4⟩ := fr_fs_some _ _ _ e
    have es : fr_sl D = f := by unfold fr_sl; rw [e]; rfl
    rw [es]
    have s3' := of_decide_eq_true s3
    refine ⟨rfl, by omega, fun hm => ?_, s3', fun j hj => ?_⟩
    · obtain ⟨a, b, c⟩ := h2 f hm
      rw [a] at s3'
      exact nI_ne0 b (by omega) s3'
    · apply Classical.byContradiction
      intro hno
      have := s4 j (by omega) hj
      rw [h1 j (by omega) hno] at this
      exact absurd this (by decide)
theorem fr_f3_at {fd : fr_FN} {f : Nat} {x y w : Int32} {g j : Nat} (hj : j < 3) (h : g ≠ f) : fr_f3 fd f x y w (3 * g + j) = fd (3 * g + j) := by
  unfold fr_f3
  rw [pk_un (by omega), pk_un (by omega), pk_un (by omega)]
theorem fr_ad_Ag {D : fr_DR} {f : Nat} {k x y w : Int32} (hf : f ∉ fr_lv D) : fr_Ag (fr_kd D) (fr_fd D) (upd (fr_kd D) f k) (fr_f3 (fr_fd D) f x y w) (fr_lv D) := by
  intro g hg
  have hne : g ≠ f := fun e => hf (e ▸ hg)
  exact ⟨pk_un hne, fun j hj => fr_f3_at hj hne⟩
theorem fr_ct_app {S : fr_SR} {kd fd : fr_FN} {lv : List Nat} {r f : Nat} {p : List Nat} : fr_ct S kd fd (lv ++ [f]) r p = fr_ct S kd fd lv r p + fr_bl S kd fd r f p := by
  unfold fr_ct
  rw [List.map_append, List.sum_append, List.map_singleton, List.sum_singleton]
theorem fr_le_split {lv : List Nat} {i : Nat} (h : i < lv.length) : lv = lv.take i ++ (lv.getD i 0 :: lv.drop (i + 1)) := by
  rw [← fr_drop h, List.take_append_drop]
theorem fr_ct_le' {S : fr_SR} {kd fd : fr_FN} {lv : List Nat} {r i : Nat} {p : List Nat} (h : i < lv.length) : fr_ct S kd fd lv r p = fr_ct S kd fd (fr_le lv i) r p + fr_bl S kd fd r (lv.getD i 0) p := by
  have e := fr_le_split h
  have e2 : fr_ct S kd fd lv r p = fr_ct S kd fd (lv.take i ++ (lv.getD i 0 :: lv.drop (i + 1))) r p := by rw [← e]
  rw [e2]
  unfold fr_ct fr_le
  rw [List.map_append, List.sum_append, List.map_append, List.sum_append, List.map_cons, List.sum_cons]
  omega
theorem fr_le_mem {lv : List Nat} {i : Nat} (hn : lv.Nodup) (h : i < lv.length) (x : Nat) : x ∈ lv ↔ x ∈ fr_le lv i ∨ x = lv.getD i 0 := by
  have e := fr_le_split h
  have e2 : x ∈ lv ↔ x ∈ lv.take i ++ (lv.getD i 0 :: lv.drop (i + 1)) := by rw [← e]
  rw [e2]
  unfold fr_le
  simp only [List.mem_append, List.mem_cons]
  constructor
  · rintro (h | h | h)
    · exact Or.inl (Or.inl h)
    · exact Or.inr h
    · exact Or.inl (Or.inr h)
  · rintro ((h | h) | h)
    · exact Or.inl h
    · exact Or.inr (Or.inr h)
    · exact Or.inr (Or.inl h)
theorem fr_le_no {lv : List Nat} {i : Nat} (hn : lv.Nodup) (h : i < lv.length) : lv.getD i 0 ∉ fr_le lv i := by
  have e := fr_le_split h
  rw [e] at hn
  have h1 := List.nodup_append.mp hn
  have h2 := List.nodup_cons.mp h1.2.1
  intro hm
  rcases List.mem_append.mp hm with hm | hm
  · exact h1.2.2 _ hm _ List.mem_cons_self rfl
  · exact h2.1 hm
theorem fr_le_sub (lv : List Nat) (i : Nat) : (fr_le lv i).Sublist lv := by
  unfold fr_le
  have : (lv.take i ++ lv.drop (i + 1)).Sublist (lv.take i ++ lv.drop i) := List.Sublist.append_left (List.drop_sublist_drop_left lv (by omega)) _
  rw [List.take_append_drop] at this
  exact this
theorem fr_ad_FW {S : fr_SR} {D : fr_DR} {f : Nat} {k x y w : Int32} (h : fr_FW D) (hf : f < 6) (hn : f ∉ fr_lv D) (hm : fr_md D + 1 < 2 ^ 27) : fr_FW (fr_ad S D f k x y w) := by
  obtain ⟨hLV, h1, h2, h3, h4⟩ := h
  have hnu : ∀ g, g ≠ f → fr_nv (fr_ad S D f k x y w) g = fr_nv D g := by
    intro g hg
    show (upd (fr_nu D) f _ g).toNatClampNeg = _
    rw [pk_un hg]
    rfl
  have hnf : fr_nv (fr_ad S D f k x y w) f = fr_md D + 1 := by
    show (upd (fr_nu D) f _ f).toNatClampNeg = _
    rw [pk_us]
    exact nI_clamp (by omega)
  have hlv : fr_lv (fr_ad S D f k x y w) = fr_lv D ++ [f] := rfl
  have hne : ∀ g, g ∈ fr_lv D → g ≠ f := fun g hg e => hn (e ▸ hg)
  refine ⟨⟨?_, ?_⟩, ?_, ?_, ?_, hm⟩
  · rw [hlv]
    refine List.nodup_append.mpr ⟨hLV.1, List.nodup_cons.mpr ⟨fun h => (by cases h), List.nodup_nil⟩, ?_⟩
    intro a ha b hb e
    rw [List.mem_singleton.mp hb] at e
    exact hne a ha e
  · rw [hlv]
    intro g hg
    rcases List.mem_append.mp hg with hg | hg
    · exact hLV.2 g hg
    · rw [List.mem_singleton.mp hg]; exact hf
  · rw [hlv]
    intro g hg hno
    rw [List.mem_append, List.mem_singleton] at hno
    show upd (fr_nu D) f _ g = 0
    rw [pk_un (fun e => hno (Or.inr e))]
    exact h1 g hg (fun hm => hno (Or.inl hm))
  · rw [hlv]
    intro g hg
    rcases List.mem_append.mp hg with hg | hg
    · obtain ⟨a, b, c⟩ := h2 g hg
      rw [hnu g (hne g hg)]
      refine ⟨?_, b, Nat.le_succ_of_le c⟩
      show upd (fr_nu D) f _ g = _
      rw [pk_un (hne g hg)]
      exact a
    · rw [List.mem_singleton.mp hg, hnf]
      refine ⟨?_, by omega, Nat.le_refl _⟩
      show upd (fr_nu D) f _ f = _
      rw [pk_us]
  · rw [hlv]
    refine List.pairwise_append.mpr ⟨?_, List.pairwise_cons.mpr ⟨fun _ h => (by cases h), List.Pairwise.nil⟩, ?_⟩
    · refine List.Pairwise.imp_of_mem ?_ h3
      intro a b ha hb hab
      rw [hnu a (hne a ha), hnu b (hne b hb)]
      exact hab
    · intro a ha b hb
      rw [List.mem_singleton.mp hb, hnf, hnu a (hne a ha)]
      have := (h2 a ha).2.2
      omega
theorem fr_rm_FW {S : fr_SR} {D : fr_DR} {i : Nat} (h : fr_FW D) (hi : i < (fr_lv D).length) : fr_FW (fr_rm S D i) := by
  obtain ⟨hLV, h1, h2, h3, h4⟩ := h
  have hlv : fr_lv (fr_rm S D i) = fr_le (fr_lv D) i := rfl
  have hno := fr_le_no hLV.1 hi
  have hsub := fr_le_sub (fr_lv D) i
  have hne : ∀ g, g ∈ fr_le (fr_lv D) i → g ≠ (fr_lv D).getD i 0 := fun g hg e => hno (e ▸ hg)
  have hnu : ∀ g, g ≠ (fr_lv D).getD i 0 → fr_nv (fr_rm S D i) g = fr_nv D g := by
    intro g hg
    show (upd (fr_nu D) _ _ g).toNatClampNeg = _
    rw [pk_un hg]
    rfl
  refine ⟨⟨?_, ?_⟩, ?_, ?_, ?_, h4⟩
  · rw [hlv]; exact List.Nodup.sublist hsub hLV.1
  · rw [hlv]; intro g hg; exact hLV.2 g (hsub.subset hg)
  · rw [hlv]
    intro g hg hn
    show upd (fr_nu D) _ _ g = 0
    by_cases e : g = (fr_lv D).getD i 0
    · rw [e, pk_us]
    · rw [pk_un e]
      exact h1 g hg (fun hm => by
        rcases (fr_le_mem hLV.1 hi g).mp hm with h | h
        · exact hn h
        · exact e h)
  · rw [hlv]
    intro g hg
    obtain ⟨a, b, c⟩ := h2 g (hsub.subset hg)
    rw [hnu g (hne g hg)]
    refine ⟨?_, b, c⟩
    show upd (fr_nu D) _ _ g = _
    rw [pk_un (hne g hg)]
    exact a
  · rw [hlv]
    refine List.Pairwise.imp_of_mem ?_ (List.Pairwise.sublist hsub h3)
    intro a b ha hb hab
    rw [hnu a (hne a ha), hnu b (hne b hb)]
    exact hab
theorem fr_nm_MW {S : fr_SR} {kd fd kd' fd' : fr_FN} {lv lv' : List Nat} {mk : fr_FN} (h : ∀ c, c < 864 → mk c ≠ 0 → fr_hd S kd fd lv c = true) : ∀ c, c < 864 → fr_nm S kd' fd' lv' mk c ≠ 0 → fr_hd S kd' fd' lv' c = true := by
  intro c hc hne
  unfold fr_nm at hne
  by_cases e : c < 216 * fr_R S ∧ fr_hd S kd' fd' lv' c = false
  · rw [if_pos e] at hne; exact absurd rfl hne
  · rw [if_neg e] at hne
    have h1 := (fr_hd_c (h c hc hne)).1
    cases e2 : fr_hd S kd' fd' lv' c with
    | true => rfl
    | false => exact absurd ⟨by omega, e2⟩ e
theorem fr_RT_nm {S : fr_SR} {kd fd : fr_FN} {lv : List Nat} {mk st : fr_FN} {A : fr_AT} {r : Nat} {p : List Nat} {t : Nat} (hr : r < fr_R S) (hn : fr_pn S r ≤ 3) (hs : fr_sm S kd fd lv r p = true) (h : fr_RT S kd fd lv (fr_Mk S mk) A st r p t) : fr_RT S kd fd lv (fr_Mk S (fr_nm S kd fd lv mk)) A st r p t := by
  unfold fr_RT at h ⊢
  refine ⟨?_, h.2⟩
  rw [h.1]
  by_cases hc : fr_ct S kd fd lv r p = 0
  · have hiff : fr_Mk S mk r p = true ↔ fr_Mk S (fr_nm S kd fd lv mk) r p = true := by
      rw [fr_Mk_iff, fr_Mk_iff]
      constructor
      · rintro ⟨a, b, c⟩
        refine ⟨a, b, ?_⟩
        unfold fr_nm
        rw [if_neg]
        · exact c
        · rintro ⟨_, d⟩
          rw [(fr_hd_cho hr hn b a).mpr ⟨hs, hc⟩] at d
          cases d
      · rintro ⟨a, b, c⟩
        refine ⟨a, b, ?_⟩
        unfold fr_nm at c
        rw [if_neg] at c
        · exact c
        · rintro ⟨_, d⟩
          rw [(fr_hd_cho hr hn b a).mpr ⟨hs, hc⟩] at d
          cases d
    by_cases hm : fr_Mk S mk r p = true
    · rw [if_pos ⟨hm, hc⟩, if_pos ⟨hiff.mp hm, hc⟩]
    · rw [if_neg (fun h => hm h.1), if_neg (fun h => hm (hiff.mpr h.1))]
  · rw [if_neg (fun h => hc h.2), if_neg (fun h => hc h.2)]
end
section
section
variable {S : fr_SR} {D : fr_DR} {hx : Int32} {o : fr_FN} {lv : List Nat} {M : Nat → List Nat → Bool} {f : Nat} {b : Bool}
theorem fr_bX_cmp (hS : fr_W1 S) {i : Nat} (hi : i < fr_ru S) : (nI i = fr_bX S ∧ i = fr_R S) ∨ (¬ nI i = fr_bX S ∧ i < fr_R S) := by
  have h4 := hS.1
  unfold fr_bX fr_R
  by_cases h : fr_bd S = true
  · rw [if_pos h, if_pos h]
    by_cases e : i = fr_ru S - 1
    · exact Or.inl ⟨by rw [e], e⟩
    · exact Or.inr ⟨by rw [nI_eq (by omega) (by omega)]; exact e, by omega⟩
  · rw [if_neg h, if_neg h]
    exact Or.inr ⟨fun e => fr_m1ne (by omega) e.symm, hi⟩
theorem fr_x_chg2 {post : SX → Prop} (hS : fr_W1 S) (hlv : fr_LV (fr_lv D)) (hO : fr_OK o (fr_lv D)) (hf : f < 6) (hlo : lv.length ≤ 6) (hD : ∀ r, r < fr_R S → fr_Dl b S (fr_kd D) (fr_fd D) lv (fr_lv D) r f) :
    ∀ (m n i : Nat) (q : fr_QR) (A : fr_AT) (z : fr_ZR), i + m = fr_ru S → m < n → fr_PQ q A → (∀ r, (∃ s, A r [] = some s) ↔ r < fr_R S) →
    (∀ r p t, A r p = some t → (r < i → fr_RT S (fr_kd D) (fr_fd D) (fr_lv D) M A (fr_st q) r p t) ∧ (i ≤ r → fr_RT S (fr_kd D) (fr_fd D) lv M A (fr_st q) r p t)) →
    (∀ r p, i ≤ r → r < fr_R S → M r p = true → (∃ x, A r p = some x) ∧ fr_ct S (fr_kd D) (fr_fd D) lv r p = 0) →
    (∀ (q' : fr_QR) (A' : fr_AT) (a c : fr_FN), fr_PQ q' A' → (∀ r, (∃ s, A' r [] = some s) ↔ r < fr_R S) → (∀ r p t, A' r p = some t → fr_RT S (fr_kd D) (fr_fd D) (fr_lv D) M A' (fr_st q') r p t) → post (fr_mX S D hx o q' (fr_sz z a c))) →
    wX_changed_2 post (nI f) (fr_i b) n (nI i) (nI (fr_ru S)) (fr_bX S) (nI (fr_lv D).length) (nI (fr_md D)) (fr_fr q) (fr_pk q) (fr_pr D) hx (fr_sa S) (fr_co S) (fr_po S) (fr_te S) (fr_ac S) (fr_cK S) (fr_cT S) (fr_cL S) (fr_cN S) (fr_tF S) (fr_tH S) (fr_tO S) (fr_vL S) (fr_vF S) (fr_aW S) (fr_aK S) (fr_aX S) (fr_aY S) (fr_aZ S) (fr_nu D) (fr_fd D) (fr_kd D) o (fr_pa q) (fr_ch q) (fr_nx q) (fr_fa q) (fr_st q) (fr_rt q) (fr_zs z) (fr_zg z) (fr_zb z) (fr_zm z) (fr_zo z) (fr_zn z) (fr_zf z) (fr_ou D) := by
  have h4 := hS.1
  have hR := fr_R_le (S := S)
  intro m
  induction m with
  | zero =>
    intro n i q A z hi hn hQ hr hRT hM hp
    obtain ⟨n, rfl⟩ : ∃ m, n = m + 1 := ⟨n - 1, by omega⟩
    refine br_t (nI_le (by omega) (by omega)) (hp q A (fr_zg z) (fr_zs z) hQ hr (fun r p t e => (hRT r p t e).1 ?_))
    obtain ⟨s, hs⟩ := fr_up hQ.2.1 List.nil_suffix ⟨t, e⟩
    have := (hr r).mp ⟨s, hs⟩
    omega
  | succ m ih =>
    intro n i q A z hi hn hQ hr hRT hM hp
    obtain ⟨n, rfl⟩ : ∃ m, n = m + 1 := ⟨n - 1, by omega⟩
    refine br_f (nI_ge (by omega) (by omega)) ?_
    rcases fr_bX_cmp hS (i := i) (by omega) with ⟨e1, e2⟩ | ⟨e1, e2⟩
    · refine br_t e1 (nm_r (nI_1 i) (ih n (i + 1) q A z (by omega) (by omega) hQ hr ?_ ?_ hp))
      · intro r p t e
        have h1 := hRT r p t e
        refine ⟨fun h => h1.1 ?_, fun h => h1.2 (by omega)⟩
        obtain ⟨s, hs⟩ := fr_up hQ.2.1 List.nil_suffix ⟨t, e⟩
        have := (hr r).mp ⟨s, hs⟩
        omega
      · intro r p h1 h2 h3
        omega
    · refine br_f e1 ?_
      refine fr_x_mend (M := M) (lv := lv) (hS.2.2.1 i (by omega)) hlv hO hf hlo (hD i e2) hQ ((hr i).mpr e2) (fun p t e => (hRT i p t e).2 (Nat.le_refl _)) (fun p hm => hM i p (Nat.le_refl _) e2 hm) ?_
      intro q' A' a c hQ' k1 k2 k3 k4
      refine nm_r (nI_1 i) (ih n (i + 1) q' A' (fr_sz z a c) (by omega) (by omega) hQ' ?_ ?_ ?_ hp)
      · intro r
        by_cases e : r = i
        · rw [e]; exact ⟨fun _ => e2, fun _ => k3⟩
        · rw [k1 r [] e]; exact hr r
      · intro r p t e
        by_cases er : r = i
        · subst er
          exact ⟨fun _ => k4 p t e, fun h => absurd h (by omega)⟩
        · rw [k1 r p er] at e
          have h1 := hRT r p t e
          have hst := k2 r p t er e
          exact ⟨fun h => fr_RT_congr rfl hst (fun x => k1 r _ er) (h1.1 (by omega)), fun h => fr_RT_congr rfl hst (fun x => k1 r _ er) (h1.2 (by omega))⟩
      · intro r p h1 h2 h3
        rw [k1 r p (by omega)]
        exact hM r p (by omega) h2 h3
theorem fr_x_changed {post : SX → Prop} {q : fr_QR} {A : fr_AT} {z : fr_ZR} (hS : fr_W1 S) (hlv : fr_LV (fr_lv D)) (hO : fr_OK o (fr_lv D)) (hf : f < 6) (hlo : lv.length ≤ 6) (hD : ∀ r, r < fr_R S → fr_Dl b S (fr_kd D) (fr_fd D) lv (fr_lv D) r f)
    (hQ : fr_PQ q A) (hr : ∀ r, (∃ s, A r [] = some s) ↔ r < fr_R S) (hRT : ∀ r p t, A r p = some t → fr_RT S (fr_kd D) (fr_fd D) lv M A (fr_st q) r p t)
    (hM : ∀ r p, r < fr_R S → M r p = true → (∃ x, A r p = some x) ∧ fr_ct S (fr_kd D) (fr_fd D) lv r p = 0)
    (hp : ∀ (q' : fr_QR) (A' : fr_AT) (a c : fr_FN), fr_PQ q' A' → (∀ r, (∃ s, A' r [] = some s) ↔ r < fr_R S) → (∀ r p t, A' r p = some t → fr_RT S (fr_kd D) (fr_fd D) (fr_lv D) M A' (fr_st q') r p t) → post (fr_mX S D hx o q' (fr_sz z a c))) :
    wpX_changed post (fr_mX S D hx o q z) (nI f) (fr_i b) :=
  ⟨_, fr_x_chg2 hS hlv hO hf hlo hD (fr_ru S) _ 0 q A z (by omega) (Nat.lt_succ_self _) hQ hr (fun r p t e => ⟨fun h => absurd h (Nat.not_lt_zero _), fun _ => hRT r p t e⟩) (fun r p _ h1 h2 => hM r p h1 h2) hp⟩
theorem fr_XI_M {q : fr_QR} {A : fr_AT} (hS : fr_W1 S) (hX : fr_XI S D q A) (hMW : fr_MW S D) {r : Nat} {p : List Nat} (hr : r < fr_R S) (hm : fr_Mk S (fr_mk D) r p = true) : (∃ x, A r p = some x) ∧ fr_sm S (fr_kd D) (fr_fd D) (fr_lv D) r p = true ∧ fr_ct S (fr_kd D) (fr_fd D) (fr_lv D) r p = 0 := by
  obtain ⟨a, b, c⟩ := fr_Mk_iff.mp hm
  have hR := fr_R_le (S := S)
  have h4 := hS.1
  have hn := (hS.2.2.1 r (by omega)).1.2.2.2.1
  have hlt := fr_cho_lt (r := r) b
  have := (fr_hd_cho hr hn b a).mp (hMW _ (by omega) c)
  exact ⟨(fr_alive hX.1.2.1 ((hX.2.1 r).mpr hr) (fun p t e => hX.2.2 r p t e) p).mpr this.1, this⟩
theorem fr_XI_sm {q : fr_QR} {A : fr_AT} (hX : fr_XI S D q A) {r t : Nat} {p : List Nat} (h : A r p = some t) : r < fr_R S ∧ fr_sm S (fr_kd D) (fr_fd D) (fr_lv D) r p = true := by
  obtain ⟨s, hs⟩ := fr_up hX.1.2.1 (List.nil_suffix) ⟨t, h⟩
  have hr := (hX.2.1 r).mp ⟨s, hs⟩
  exact ⟨hr, (fr_alive hX.1.2.1 ⟨s, hs⟩ (fun p t e => hX.2.2 r p t e) p).mp ⟨t, h⟩⟩
theorem fr_XI_new {q : fr_QR} {A : fr_AT} {D' : fr_DR} {mk : fr_FN} (hS : fr_W1 S) (hQ : fr_PQ q A) (hr : ∀ r, (∃ s, A r [] = some s) ↔ r < fr_R S) (hRT : ∀ r p t, A r p = some t → fr_RT S (fr_kd D') (fr_fd D') (fr_lv D') (fr_Mk S mk) A (fr_st q) r p t)
    (hm : fr_mk D' = fr_nm S (fr_kd D') (fr_fd D') (fr_lv D') mk) : fr_XI S D' q A := by
  refine ⟨hQ, hr, fun r p t e => ?_⟩
  obtain ⟨s, hs⟩ := fr_up hQ.2.1 (List.nil_suffix) ⟨t, e⟩
  have hrR := (hr r).mp ⟨s, hs⟩
  have hR := fr_R_le (S := S)
  have hsm := (fr_alive hQ.2.1 ⟨s, hs⟩ (fun p t e => hRT r p t e) p).mp ⟨t, e⟩
  rw [hm]
  exact fr_RT_nm hrR (hS.2.2.1 r (by omega)).1.2.2.2.1 hsm (hRT r p t e)
theorem fr_x_add23 {post : Int32 → SX → Prop} {q : fr_QR} {A : fr_AT} {z : fr_ZR} {k x y w : Int32} (hS : fr_W1 S) (hF : fr_FW D) (hMW : fr_MW S D) (hX : fr_XI S D q A) (hO : fr_OK o (fr_lv D)) (hm1 : fr_md D + 1 < 2 ^ 27) (hl : (fr_lv D).length ≠ 6) (hk : ∃ j, j ≤ 3 ∧ k = nI j)
    (hp : ∀ (o' : fr_FN) (q' : fr_QR) (A' : fr_AT) (a c : fr_FN), fr_XI S (fr_ad S D (fr_sl D) k x y w) q' A' → fr_OK o' (fr_lv D ++ [fr_sl D]) → post (nI (fr_md D + 1)) (fr_mX S (fr_ad S D (fr_sl D) k x y w) hx o' q' (fr_sz z a c))) :
    ∀ (m n i : Nat), i + m = fr_sl D → m < n → wX_add_23 post k x y w (nI (fr_ru S)) (fr_bX S) (nI (fr_lv D).length) (nI (fr_md D)) (fr_fr q) (fr_pk q) (fr_pr D) hx (fr_sa S) (fr_co S) (fr_po S) (fr_te S) (fr_ac S) (fr_cK S) (fr_cT S) (fr_cL S) (fr_cN S) (fr_tF S) (fr_tH S) (fr_tO S) (fr_vL S) (fr_vF S) (fr_aW S) (fr_aK S) (fr_aX S) (fr_aY S) (fr_aZ S) (fr_nu D) (fr_fd D) (fr_kd D) o (fr_pa q) (fr_ch q) (fr_nx q) (fr_fa q) (fr_st q) (fr_rt q) (fr_zs z) (fr_zg z) (fr_zb z) (fr_zm z) (fr_zo z) (fr_zn z) (fr_zf z) (fr_ou D) n (nI i) := by
  obtain ⟨j, hj, rfl⟩ := hk
  obtain ⟨s1, s2, s3, s4, s5⟩ := fr_slot hF hl
  have hLV := hF.1
  have hlen := fr_LV_len hLV
  have hmd := hF.2.2.2.2
  intro m
  induction m with
  | zero =>
    intro n i hi hn
    obtain ⟨n, rfl⟩ : ∃ m, n = m + 1 := ⟨n - 1, by omega⟩
    have ei : i = fr_sl D := by omega
    subst ei
    generalize hfs : fr_sl D = f at *
    have hcl : (nI f).toNatClampNeg = f := nI_clamp (by omega)
    have hin : vp_in (nI f) 6 := vp_in_nI s2 (by omega)
    have e0 : nI f * 3 = nI (3 * f) := fr_n3 f
    have e1 : nI f * 3 + 1 = nI (3 * f + 1) := by rw [e0]; exact nI_1 _
    have e2 : nI f * 3 + 2 = nI (3 * f + 2) := by rw [e0]; exact nI_add (3 * f) 2
    have elen : (fr_lv D ++ [f]).length = (fr_lv D).length + 1 := by simp
    refine ⟨hin, br_t (by rw [hcl, s4]; decide) (nm_r (e' := nI (fr_md D + 1)) (nI_1 _) ⟨hin, nm_r (e' := upd (fr_nu D) f (nI (fr_md D + 1))) (by rw [hcl, nI_1]) ⟨hin, nm_r (e' := upd (fr_kd D) f (nI j)) (by rw [hcl, fr_b88 (by omega)]) ?_⟩⟩)⟩
    rw [e1, e2, e0]
    refine ⟨vp_in_nI (by omega) (by omega), nm_r (e' := upd (fr_fd D) (3 * f) x) (by rw [nI_clamp (by omega)]) ⟨vp_in_nI (by omega) (by omega), nm_r (e' := upd (upd (fr_fd D) (3 * f) x) (3 * f + 1) y) (by rw [nI_clamp (by omega)]) ⟨vp_in_nI (by omega) (by omega), nm_r (e' := fr_f3 (fr_fd D) f x y w) (by rw [nI_clamp (by omega)]; rfl) (nm_r (e' := nI (fr_lv D ++ [f]).length) (by rw [elen]; exact nI_1 _) ⟨vp_in_nI (by omega) (by omega), nm_r (e' := upd o (fr_lv D).length (nI f)) (by rw [nI_clamp (by omega), fr_b88 (by omega)]) ?_⟩)⟩⟩⟩
    have hFW' := fr_ad_FW (S := S) (k := nI j) (x := x) (y := y) (w := w) hF s2 s3 hm1
    have hO' : fr_OK (upd o (fr_lv D).length (nI f)) (fr_lv D ++ [f]) := by
      intro m hm
      rw [elen] at hm
      by_cases e : m = (fr_lv D).length
      · rw [e, pk_us, List.getD_eq_getElem?_getD, List.getElem?_append_right (Nat.le_refl _)]
        simp
      · rw [pk_un e, hO m (by omega), List.getD_eq_getElem?_getD, List.getD_eq_getElem?_getD, List.getElem?_append_left (by omega)]
    have hAg := fr_ad_Ag (k := nI j) (x := x) (y := y) (w := w) s3
    have hmem : ∀ r p t, A r p = some t → (∀ x, x ∈ p → x ∈ fr_lv D) ∧ p.length < 2 ^ 31 := fun r p t e => ⟨fr_sm_mem (fr_XI_sm hX e).2, by have := (hX.1.1.1 _ _ _ e).2.1; omega⟩
    have hR := fr_R_le (S := S)
    refine fr_x_changed (D := fr_ad S D f (nI j) x y w) (b := true) (lv := fr_lv D) (M := fr_Mk S (fr_mk D)) hS hFW'.1 hO' s2 hlen ?_ hX.1 hX.2.1 ?_ ?_ ?_
    · intro r hr
      exact ⟨fun _ => ⟨s3, fun x => by show x ∈ fr_lv D ++ [f] ↔ _; rw [List.mem_append, List.mem_singleton], fun p => fr_ct_app⟩, fun h => by cases h⟩
    · intro r p t e
      have hrR := (fr_XI_sm hX e).1
      exact fr_RT_facts (hS.2.2.1 r (by omega)) hAg (hmem r p t e).1 (hmem r p t e).2 (hX.2.2 r p t e)
    · intro r p hr hm
      obtain ⟨⟨t, w1⟩, w2, w3⟩ := fr_XI_M hS hX hMW hr hm
      refine ⟨⟨t, w1⟩, ?_⟩
      have := fr_ct_congr (hS.2.2.1 r (by omega)) hAg (hmem r p t w1).1 (hmem r p t w1).2
      exact this.trans w3
    · intro q' A' a c k1 k2 k3
      exact hp (upd o (fr_lv D).length (nI f)) q' A' a c (fr_XI_new hS k1 k2 k3 rfl) hO'
  | succ m ih =>
    intro n i hi hn
    obtain ⟨n, rfl⟩ : ∃ m, n = m + 1 := ⟨n - 1, by omega⟩
    obtain ⟨a, b, c⟩ := hF.2.2.1 i (s5 i (by omega))
    refine ⟨vp_in_nI (by omega) (by omega), br_f ?_ (nm_r (nI_1 i) (ih n (i + 1) (by omega) (by omega)))⟩
    rw [nI_clamp (by omega), a]
    exact nI_nle b (by omega)
theorem fr_x_add {post : Int32 → SX → Prop} {q : fr_QR} {A : fr_AT} {z : fr_ZR} {k x y w : Int32} (hS : fr_W1 S) (hF : fr_FW D) (hMW : fr_MW S D) (hX : fr_XI S D q A) (hO : fr_OK o (fr_lv D)) (hm1 : fr_md D + 1 < 2 ^ 27)
    (hp : ∀ (o' : fr_FN) (q' : fr_QR) (A' : fr_AT) (a c : fr_FN), fr_XI S (fr_addD S D k x y w).1 q' A' → fr_OK o' (fr_lv (fr_addD S D k x y w).1) → post (fr_addD S D k x y w).2 (fr_mX S (fr_addD S D k x y w).1 hx o' q' (fr_sz z a c))) :
    wpX_add post (fr_mX S D hx o q z) k x y w := by
  have hlen := fr_LV_len hF.1
  unfold fr_addD at hp
  by_cases h1 : k < 0
  · rw [if_pos (Or.inl h1)] at hp
    exact br_t h1 (hp o q A (fr_zg z) (fr_zs z) hX hO)
  · refine br_f h1 ?_
    by_cases h2 : 3 < k
    · rw [if_pos (Or.inr (Or.inl h2))] at hp
      exact br_t h2 (hp o q A (fr_zg z) (fr_zs z) hX hO)
    · refine br_f h2 ?_
      by_cases h3 : (fr_lv D).length = 6
      · rw [if_pos (Or.inr (Or.inr h3))] at hp
        exact br_t (by rw [h3]; rfl) (hp o q A (fr_zg z) (fr_zs z) hX hO)
      · rw [if_neg (by rintro (h | h | h); exact h1 h; exact h2 h; exact h3 h)] at hp
        refine br_f (fun e => h3 ((nI_eq (b := 6) (by omega) (by omega)).mp e)) ⟨7, ?_⟩
        have hs := fr_slot hF h3
        exact fr_x_add23 hS hF hMW hX hO hm1 h3 (nI_of2 (M := 3) (n := 3) (by decide) h1 (Int32.not_lt.mp h2)) hp (fr_sl D) 7 0 (by omega) (by omega)
theorem fr_le_len {lv : List Nat} {i : Nat} (h : i < lv.length) : (fr_le lv i).length = lv.length - 1 := by
  unfold fr_le
  rw [List.length_append, List.length_take, List.length_drop]
  omega
theorem fr_le_getD {lv : List Nat} {i m : Nat} (h : i < lv.length) : (fr_le lv i).getD m 0 = if m < i then lv.getD m 0 else lv.getD (m + 1) 0 := by
  unfold fr_le
  by_cases e : m < i
  · rw [if_pos e, List.getD_eq_getElem?_getD, List.getD_eq_getElem?_getD, List.getElem?_append_left (by rw [List.length_take]; omega), List.getElem?_take_of_lt e]
  · rw [if_neg e, List.getD_eq_getElem?_getD, List.getD_eq_getElem?_getD, List.getElem?_append_right (by rw [List.length_take]; omega), List.getElem?_drop, List.length_take]
    congr 2
    omega
def fr_D1 (S : fr_SR) (D : fr_DR) (i : Nat) : fr_DR :=
  (fr_nu D, fr_fd D, fr_kd D, fr_le (fr_lv D) i, fr_md D, fr_nm S (fr_kd D) (fr_fd D) (fr_le (fr_lv D) i) (fr_mk D), fr_pr D, fr_ou D)
theorem fr_x_rem58 {post : Int32 → SX → Prop} {q : fr_QR} {A : fr_AT} {z : fr_ZR} {i : Nat} (hS : fr_W1 S) (hF : fr_FW D) (hMW : fr_MW S D) (hX : fr_XI S D q A) (hO : fr_OK o (fr_lv D)) (hi : i < (fr_lv D).length)
    (hp : ∀ (o' : fr_FN) (q' : fr_QR) (A' : fr_AT) (a c : fr_FN), fr_XI S (fr_rm S D i) q' A' → fr_OK o' (fr_le (fr_lv D) i) → post 1 (fr_mX S (fr_rm S D i) hx o' q' (fr_sz z a c))) :
    ∀ (m n j : Nat) (o' : fr_FN), i ≤ j → j + m + 1 = (fr_lv D).length → m < n → (∀ k, k < (fr_lv D).length → o' k = if k < i then o k else if k < j then o (k + 1) else o k) →
    wX_remove_58 post (nI ((fr_lv D).getD i 0)) (nI (fr_ru S)) (fr_bX S) (nI (fr_lv (fr_D1 S D i)).length) (nI (fr_md (fr_D1 S D i))) (fr_fr q) (fr_pk q) (fr_pr (fr_D1 S D i)) hx n (nI j) (fr_sa S) (fr_co S) (fr_po S) (fr_te S) (fr_ac S) (fr_cK S) (fr_cT S) (fr_cL S) (fr_cN S) (fr_tF S) (fr_tH S) (fr_tO S) (fr_vL S) (fr_vF S) (fr_aW S) (fr_aK S) (fr_aX S) (fr_aY S) (fr_aZ S) (fr_nu (fr_D1 S D i)) (fr_fd (fr_D1 S D i)) (fr_kd (fr_D1 S D i)) o' (fr_pa q) (fr_ch q) (fr_nx q) (fr_fa q) (fr_st q) (fr_rt q) (fr_zs z) (fr_zg z) (fr_zb z) (fr_zm z) (fr_zo z) (fr_zn z) (fr_zf z) (fr_ou (fr_D1 S D i)) := by
  have hLV := hF.1
  have hlen := fr_LV_len hLV
  have hll : (fr_lv (fr_D1 S D i)).length = (fr_lv D).length - 1 := fr_le_len hi
  have hfm := fr_getD_mem hi
  have hf6 := hLV.2 _ hfm
  intro m
  induction m with
  | zero =>
    intro n j o' h1 h2 hn ho
    obtain ⟨n, rfl⟩ : ∃ m, n = m + 1 := ⟨n - 1, by omega⟩
    refine br_t (by rw [hll]; exact nI_le (by omega) (by omega)) ⟨vp_in_nI hf6 (by omega), nm_r (e' := upd (fr_nu D) ((fr_lv D).getD i 0) 0) (by rw [nI_clamp (by omega)]; rfl) ?_⟩
    have hFW' := fr_rm_FW (S := S) hF hi
    have hO' : fr_OK o' (fr_le (fr_lv D) i) := by
      intro k hk
      rw [fr_le_len hi] at hk
      rw [ho k (by omega), fr_le_getD hi]
      by_cases e : k < i
      · rw [if_pos e, if_pos e]; exact hO k (by omega)
      · rw [if_neg e, if_neg e, if_pos (by omega)]; exact hO (k + 1) (by omega)
    have hR := fr_R_le (S := S)
    refine fr_x_changed (D := fr_rm S D i) (b := false) (lv := fr_lv D) (M := fr_Mk S (fr_mk D)) hS hFW'.1 hO' hf6 hlen ?_ hX.1 hX.2.1 hX.2.2 ?_ ?_
    · intro r hr
      exact ⟨(fun h => by cases h), fun _ => ⟨fr_le_no hLV.1 hi, fr_le_mem hLV.1 hi, fun p => fr_ct_le' hi⟩⟩
    · intro r p hr hm
      obtain ⟨w1, w2, w3⟩ := fr_XI_M hS hX hMW hr hm
      exact ⟨w1, w3⟩
    · intro q' A' a c k1 k2 k3
      exact hp o' q' A' a c (fr_XI_new hS k1 k2 k3 rfl) hO'
  | succ m ih =>
    intro n j o' h1 h2 hn ho
    obtain ⟨n, rfl⟩ : ∃ m, n = m + 1 := ⟨n - 1, by omega⟩
    have hg := hLV.2 _ (fr_getD_mem (lv := fr_lv D) (i := j + 1) (by omega))
    have ej : o' (j + 1) = nI ((fr_lv D).getD (j + 1) 0) := by
      rw [ho (j + 1) (by omega), if_neg (by omega), if_neg (by omega)]
      exact hO (j + 1) (by omega)
    refine br_f (by rw [hll]; exact nI_ge (by omega) (by omega)) (nm_r (nI_1 j) ⟨vp_in_nI (by omega) (by omega), vp_in_nI (by omega) (by omega), nm_r (e' := upd o' j (o' (j + 1))) (by rw [nI_clamp (by omega), nI_clamp (by omega), ej, fr_b8 (by omega)]) ?_⟩)
    refine ih n (j + 1) (upd o' j (o' (j + 1))) (by omega) (by omega) (by omega) ?_
    intro k hk
    by_cases e : k = j
    · subst e
      rw [pk_us, if_neg (by omega), if_pos (by omega), ho (k + 1) (by omega), if_neg (by omega), if_neg (by omega)]
    · rw [pk_un e, ho k hk]
      by_cases e1 : k < i
      · rw [if_pos e1, if_pos e1]
      · rw [if_neg e1, if_neg e1]
        by_cases e2 : k < j
        · rw [if_pos e2, if_pos (by omega)]
        · rw [if_neg e2, if_neg (by omega)]
theorem fr_x_rem31 {post : Int32 → SX → Prop} {q : fr_QR} {A : fr_AT} {z : fr_ZR} {i : Nat} (hS : fr_W1 S) (hF : fr_FW D) (hMW : fr_MW S D) (hX : fr_XI S D q A) (hO : fr_OK o (fr_lv D)) (hi : i < (fr_lv D).length)
    (hp : ∀ (o' : fr_FN) (q' : fr_QR) (A' : fr_AT) (a c : fr_FN), fr_XI S (fr_rm S D i) q' A' → fr_OK o' (fr_le (fr_lv D) i) → post 1 (fr_mX S (fr_rm S D i) hx o' q' (fr_sz z a c))) :
    wX_remove_31 post (nI i) (nI (fr_ru S)) (fr_bX S) (nI (fr_lv D).length) (nI (fr_md D)) (fr_fr q) (fr_pk q) (fr_pr D) hx (fr_sa S) (fr_co S) (fr_po S) (fr_te S) (fr_ac S) (fr_cK S) (fr_cT S) (fr_cL S) (fr_cN S) (fr_tF S) (fr_tH S) (fr_tO S) (fr_vL S) (fr_vF S) (fr_aW S) (fr_aK S) (fr_aX S) (fr_aY S) (fr_aZ S) (fr_nu D) (fr_fd D) (fr_kd D) o (fr_pa q) (fr_ch q) (fr_nx q) (fr_fa q) (fr_st q) (fr_rt q) (fr_zs z) (fr_zg z) (fr_zb z) (fr_zm z) (fr_zo z) (fr_zn z) (fr_zf z) (fr_ou D) := by
  have hlen := fr_LV_len hF.1
  refine br_f (by rw [nI_eq (by omega) (by omega)]; omega) ⟨vp_in_nI (by omega) (by omega), nm_r (e' := nI ((fr_lv D).getD i 0)) (by rw [nI_clamp (by omega)]; exact hO i hi) (nm_r (e' := nI (fr_le (fr_lv D) i).length) ?_ ⟨(fr_lv D).length, ?_⟩)⟩
  · rw [fr_le_len hi]
    exact pk_sub (b := 1) (by omega)
  · exact fr_x_rem58 hS hF hMW hX hO hi hp ((fr_lv D).length - i - 1) (fr_lv D).length i o (Nat.le_refl _) (by omega) (by omega) (fun k hk => by
      by_cases e : k < i
      · rw [if_pos e]
      · rw [if_neg e, if_neg e])
theorem fr_x_rem2 {post : Int32 → SX → Prop} {q : fr_QR} {A : fr_AT} {z : fr_ZR} {v : Int32} (hS : fr_W1 S) (hF : fr_FW D) (hMW : fr_MW S D) (hX : fr_XI S D q A) (hO : fr_OK o (fr_lv D))
    (h0 : fr_ri D v = none → post 0 (fr_mX S D hx o q z))
    (hp : ∀ i, fr_ri D v = some i → ∀ (o' : fr_FN) (q' : fr_QR) (A' : fr_AT) (a c : fr_FN), fr_XI S (fr_rm S D i) q' A' → fr_OK o' (fr_le (fr_lv D) i) → post 1 (fr_mX S (fr_rm S D i) hx o' q' (fr_sz z a c))) :
    ∀ (m n i : Nat), i + m = (fr_lv D).length → m < n → fr_fs (fun i => decide (fr_nu D ((fr_lv D).getD i 0) = v)) i m = fr_ri D v → wX_remove_2 post v (nI (fr_ru S)) (fr_bX S) (nI (fr_lv D).length) (nI (fr_md D)) (fr_fr q) (fr_pk q) (fr_pr D) hx (fr_sa S) (fr_co S) (fr_po S) (fr_te S) (fr_ac S) (fr_cK S) (fr_cT S) (fr_cL S) (fr_cN S) (fr_tF S) (fr_tH S) (fr_tO S) (fr_vL S) (fr_vF S) (fr_aW S) (fr_aK S) (fr_aX S) (fr_aY S) (fr_aZ S) (fr_nu D) (fr_fd D) (fr_kd D) o (fr_pa q) (fr_ch q) (fr_nx q) (fr_fa q) (fr_st q) (fr_rt q) (fr_zs z) (fr_zg z) (fr_zb z) (fr_zm z) (fr_zo z) (fr_zn z) (fr_zf z) (fr_ou D) n (nI i) := by
  have hlen := fr_LV_len hF.1
  intro m
  induction m with
  | zero =>
    intro n i hi hn hfs
    obtain ⟨n, rfl⟩ : ∃ m, n = m + 1 := ⟨n - 1, by omega⟩
    exact br_t (nI_le (by omega) (by omega)) (br_t (congrArg nI (by omega)) (h0 hfs.symm))
  | succ m ih =>
    intro n i hi hn hfs
    obtain ⟨n, rfl⟩ : ∃ m, n = m + 1 := ⟨n - 1, by omega⟩
    have hil : i < (fr_lv D).length := by omega
    have hf6 := hF.1.2 _ (fr_getD_mem hil)
    refine br_f (nI_ge (by omega) (by omega)) ⟨vp_in_nI (by omega) (by omega), ?_⟩
    rw [nI_clamp (by omega), hO i hil]
    refine ⟨vp_in_nI hf6 (by omega), ?_⟩
    rw [nI_clamp (by omega)]
    rw [fr_fs] at hfs
    refine br_c (fun e => ?_) (fun e => ?_)
    · rw [if_pos (decide_eq_true e)] at hfs
      exact fr_x_rem31 hS hF hMW hX hO hil (hp i hfs.symm)
    · rw [if_neg (by rw [decide_eq_false e]; decide)] at hfs
      exact nm_r (nI_1 i) (ih n (i + 1) (by omega) (by omega) hfs)
theorem fr_x_remove {post : Int32 → SX → Prop} {q : fr_QR} {A : fr_AT} {z : fr_ZR} {v : Int32} (hS : fr_W1 S) (hF : fr_FW D) (hMW : fr_MW S D) (hX : fr_XI S D q A) (hO : fr_OK o (fr_lv D))
    (hp : ∀ (o' : fr_FN) (q' : fr_QR) (A' : fr_AT) (a c : fr_FN), fr_XI S (fr_remD S D v).1 q' A' → fr_OK o' (fr_lv (fr_remD S D v).1) → post (fr_remD S D v).2 (fr_mX S (fr_remD S D v).1 hx o' q' (fr_sz z a c))) :
    wpX_remove post (fr_mX S D hx o q z) v := by
  unfold fr_remD at hp
  refine ⟨_, fr_x_rem2 hS hF hMW hX hO ?_ ?_ (fr_lv D).length _ 0 (by omega) (Nat.lt_succ_self _) rfl⟩
  · intro e
    rw [e] at hp
    exact hp o q A (fr_zg z) (fr_zs z) hX hO
  · intro i e
    rw [e] at hp
    exact hp
end
end
section
theorem fr_l3 (a b : Nat) : 3 * nI a + nI b = nI (3 * a + b) := by
  show nI 3 * nI a + nI b = _
  rw [pk_mul, nI_add]
theorem fr_l4 (a b : Nat) : 4 * nI a + nI b = nI (4 * a + b) := by
  show nI 4 * nI a + nI b = _
  rw [pk_mul, nI_add]
theorem fr_l5 (a b : Nat) : 5 * nI a + nI b = nI (5 * a + b) := by
  show nI 5 * nI a + nI b = _
  rw [pk_mul, nI_add]
theorem fr_k3 (a : Nat) : 3 * nI a = nI (3 * a) := pk_mul 3 a
theorem fr_k4 (a : Nat) : 4 * nI a = nI (4 * a) := pk_mul 4 a
theorem fr_k5 (a : Nat) : 5 * nI a = nI (5 * a) := pk_mul 5 a
def fr_VB (S : fr_SR) (fd : fr_FN) (r c i : Nat) (g : Nat → Nat) (vr : fr_FN) : Prop :=
  ∀ x, x < 4 → fr_Bd S r c i x → vr x = fd (3 * g (fr_vl S (4 * r + x)) + fr_vf S (4 * r + x))
section
variable {S : fr_SR} {D : fr_DR} {hy : Int32} {bd ds hl : fr_FN}
theorem fr_y_value {post : Int32 → Prop} {vr : fr_FN} {r : Nat} {g : Nat → Nat} {x : Int32} (hv : x &&& 1 ≠ 0 → ∃ y, y < 4 ∧ x >>> ((1 : Int32) &&& 31) = nI y ∧ vr y = fr_fd D (3 * g (fr_vl S (4 * r + y)) + fr_vf S (4 * r + y)))
    (hp : post (fr_ov S (fr_fd D) r g x)) : wpY_value post (fr_mY S D hy bd ds hl vr) x := by
  by_cases hx0 : x &&& 1 = 0
  · refine br_t hx0 ?_
    rw [fr_ov, if_pos hx0] at hp
    exact hp
  · obtain ⟨y, h1, h2, h3⟩ := hv hx0
    refine br_f hx0 ?_
    rw [h2]
    refine ⟨vp_in_nI h1 (by omega), ?_⟩
    rw [nI_clamp (by omega)]
    rw [fr_ov, if_neg hx0] at hp
    have e2 : fr_vx x = y := by unfold fr_vx; rw [h2]; exact nI_clamp (by omega)
    rw [e2, ← h3] at hp
    exact hp
theorem fr_y_f21 {post : Int32 → SY → Prop} {r c f d : Nat} {g : Nat → Nat} (hr : r < 4) (hW : fr_WR S r) (hc1 : 5 * r ≤ c) (hc2 : c < 5 * r + fr_cn S r) (hd : fr_cL S c = nI d) (hd2 : d ≤ 3) (hf : f < 6) (hg2 : fr_cN S c = 0 → g d = f) :
    ∀ (k n i : Nat) (vr : fr_FN), i + k = 4 * c + fr_tn S c → 4 * c ≤ i → k < n → fr_VB S (fr_fd D) r c i g vr →
    (∀ vr', (fr_cN S c ≠ 0 → vr' = vr) → (fr_al (fr_ts S (fr_fd D) r g f) i k = true → fr_VB S (fr_fd D) r c (4 * c + fr_tn S c) g vr') → post (fr_i (fr_al (fr_ts S (fr_fd D) r g f) i k)) (fr_mY S D hy bd ds hl vr')) →
    wY_fits_21 post (nI c) (nI f) (nI (fr_ru S)) (fr_bY S) (nI (fr_md D)) (fr_pr D) hy n (nI i) (fr_sa S) (fr_co S) (fr_po S) (fr_ac S) bd (fr_cK S) (fr_cN S) (fr_cT S) (fr_tF S) (fr_tH S) (fr_tO S) ds (fr_aX S) (fr_aY S) (fr_aZ S) (fr_nu D) (fr_kd D) (fr_fd D) hl (fr_mk D) vr (fr_ou D) := by
  have hcn := hW.1.2.1
  have hWC := hW.2 c hc1 hc2
  have htn := hWC.2.1
  have hcin : vp_in (nI c) 20 := vp_in_nI (by omega) (by omega)
  have hccl : (nI c).toNatClampNeg = c := nI_clamp (by omega)
  have e0 : 4 * nI c + fr_cT S (nI c).toNatClampNeg = nI (4 * c + fr_tn S c) := by rw [hccl, hWC.1, fr_l4]
  intro k
  induction k with
  | zero =>
    intro n i vr hi h4 hn hV hp
    obtain ⟨n, rfl⟩ : ∃ m, n = m + 1 := ⟨n - 1, by omega⟩
    have ei : i = 4 * c + fr_tn S c := by omega
    refine ⟨hcin, br_t ?_ (hp vr (fun _ => rfl) (fun _ => by rw [← ei]; exact hV))⟩
    rw [e0]
    exact nI_le (by omega) (by omega)
  | succ k ih =>
    intro n i vr hi h4 hn hV hp
    obtain ⟨n, rfl⟩ : ∃ m, n = m + 1 := ⟨n - 1, by omega⟩
    have hin : vp_in (nI i) 80 := vp_in_nI (by omega) (by omega)
    have hcl : (nI i).toNatClampNeg = i := nI_clamp (by omega)
    have hWT := hWC.2.2.2.2 i h4 (by omega)
    obtain ⟨⟨fl, hh, k1, k2, k3, k4⟩, hT3, hTn⟩ := hWT
    have e1 : 3 * nI f + fr_tF S (nI i).toNatClampNeg = nI (3 * f + fl) := by rw [hcl, k1, fr_l3]
    have e2 : (fr_tF S i).toNatClampNeg = fl := by rw [k1]; exact nI_clamp (by omega)
    refine ⟨hcin, br_f ?_ ⟨hin, ?_⟩⟩
    · rw [e0]
      exact nI_ge (by omega) (by omega)
    rw [e1]
    refine ⟨vp_in_nI (by omega) (by omega), nm_r (e' := fr_fd D (3 * f + fl)) (by rw [nI_clamp (by omega)]) ⟨hin, ?_⟩⟩
    rw [hcl]
    rw [fr_al] at hp
    have hnext : ∀ vr', (fr_cN S c ≠ 0 → vr' = vr) → fr_VB S (fr_fd D) r c (i + 1) g vr' → fr_ts S (fr_fd D) r g f i = true → wY_fits_21 post (nI c) (nI f) (nI (fr_ru S)) (fr_bY S) (nI (fr_md D)) (fr_pr D) hy n (nI (i + 1)) (fr_sa S) (fr_co S) (fr_po S) (fr_ac S) bd (fr_cK S) (fr_cN S) (fr_cT S) (fr_tF S) (fr_tH S) (fr_tO S) ds (fr_aX S) (fr_aY S) (fr_aZ S) (fr_nu D) (fr_kd D) (fr_fd D) hl (fr_mk D) vr' (fr_ou D) := by
      intro vr' hv1 hv2 hts
      refine ih n (i + 1) vr' (by omega) (by omega) (by omega) hv2 (fun vr'' w1 w2 => ?_)
      rw [hts, Bool.true_and] at hp
      exact hp vr'' (fun hne => (w1 hne).trans (hv1 hne)) w2
    by_cases h3 : fr_tH S i = 3
    · have hts : fr_ts S (fr_fd D) r g f i = true := by rw [fr_ts, if_pos h3]
      obtain ⟨n0, x, x1, x2, x3, x4⟩ := hT3 h3
      refine br_t h3 ⟨hin, ?_⟩
      rw [x2]
      refine ⟨vp_in_nI x1 (by omega), nm_r (e' := upd vr x (fr_fd D (3 * f + fl))) (by rw [nI_clamp (by omega)]) (nm_r (nI_1 i) (hnext _ (fun hne => absurd n0 hne) ?_ hts))⟩
      intro y hy4 hb
      by_cases exy : y = x
      · subst exy
        rw [pk_us]
        have ev : fr_vl S (4 * r + y) = d := by unfold fr_vl; rw [x3, hd]; exact nI_clamp (by omega)
        have ef : fr_vf S (4 * r + y) = fl := by unfold fr_vf; rw [x4, k1]; exact nI_clamp (by omega)
        rw [ev, ef, hg2 n0]
      · rw [pk_un exy]
        refine hV y hy4 ?_
        obtain ⟨c', i', b1, b2, b3, b4, b5, b6, b7⟩ := hb
        refine ⟨c', i', b1, b2, b3, b4, ?_, b6, b7⟩
        rcases Nat.lt_or_ge i' i with h | h
        · exact h
        · exfalso
          have : i' = i := by omega
          rw [this, x2] at b7
          exact exy ((nI_eq (by omega) (by omega)).mp b7).symm
    · have hV1 : fr_VB S (fr_fd D) r c (i + 1) g vr := by
        intro y hy4 hb
        refine hV y hy4 ?_
        obtain ⟨c', i', b1, b2, b3, b4, b5, b6, b7⟩ := hb
        refine ⟨c', i', b1, b2, b3, b4, ?_, b6, b7⟩
        rcases Nat.lt_or_ge i' i with h | h
        · exact h
        · exfalso
          have : i' = i := by omega
          rw [this] at b6
          exact h3 b6
      refine br_f h3 ⟨hin, ?_⟩
      refine fr_y_value (r := r) (g := g) ?_ ?_
      · intro hodd
        obtain ⟨x, x1, x2, x3⟩ := hTn h3 hodd
        exact ⟨x, x1, x2, hV x x1 x3⟩
      have hts : fr_ts S (fr_fd D) r g f i = fr_t3 (fr_tH S i) (fr_fd D (3 * f + fl)) (fr_ov S (fr_fd D) r g (fr_tO S i)) := by rw [fr_ts, if_neg h3, e2]
      have hyes : fr_t3 (fr_tH S i) (fr_fd D (3 * f + fl)) (fr_ov S (fr_fd D) r g (fr_tO S i)) = true → wY_fits_21 post (nI c) (nI f) (nI (fr_ru S)) (fr_bY S) (nI (fr_md D)) (fr_pr D) hy n (nI (i + 1)) (fr_sa S) (fr_co S) (fr_po S) (fr_ac S) bd (fr_cK S) (fr_cN S) (fr_cT S) (fr_tF S) (fr_tH S) (fr_tO S) ds (fr_aX S) (fr_aY S) (fr_aZ S) (fr_nu D) (fr_kd D) (fr_fd D) hl (fr_mk D) vr (fr_ou D) := fun e => hnext vr (fun _ => rfl) hV1 (hts.trans e)
      have hno : fr_t3 (fr_tH S i) (fr_fd D (3 * f + fl)) (fr_ov S (fr_fd D) r g (fr_tO S i)) = false → post 0 (fr_mY S D hy bd ds hl vr) := by
        intro e
        rw [hts, e, Bool.false_and] at hp
        exact hp vr (fun _ => rfl) (fun h => by cases h)
      unfold fr_t3 at hyes hno
      have ei : nI i + 1 = nI (i + 1) := nI_1 i
      refine ⟨hin, br_c (fun c0 => ?_) (fun c0 => ⟨hin, br_c (fun c1 => ?_) (fun c1 => ?_)⟩)⟩
      · rw [if_pos c0] at hyes hno
        exact br_c (fun c2 => nm_r ei (hyes (decide_eq_true c2))) (fun c2 => hno (decide_eq_false c2))
      · rw [if_neg c0, if_pos c1] at hyes hno
        exact br_c (fun c2 => hno (by rw [decide_eq_true c2]; rfl)) (fun c2 => nm_r ei (hyes (by rw [decide_eq_false c2]; rfl)))
      · rw [if_neg c0, if_neg c1] at hyes hno
        exact br_c (fun c2 => nm_r ei (hyes (decide_eq_true c2))) (fun c2 => hno (decide_eq_false c2))
theorem fr_y_fits {post : Int32 → SY → Prop} {r c f d : Nat} {g : Nat → Nat} {vr : fr_FN} (hr : r < 4) (hW : fr_WR S r) (hc1 : 5 * r ≤ c) (hc2 : c < 5 * r + fr_cn S r) (hd : fr_cL S c = nI d) (hd2 : d ≤ 3) (hf : f < 6) (hg2 : fr_cN S c = 0 → g d = f)
    (hV : fr_VB S (fr_fd D) r c (4 * c) g vr)
    (hp : ∀ vr', (fr_cN S c ≠ 0 → vr' = vr) → (fr_ps S (fr_kd D) (fr_fd D) r c f g = true → fr_VB S (fr_fd D) r c (4 * c + fr_tn S c) g vr') → post (fr_i (fr_ps S (fr_kd D) (fr_fd D) r c f g)) (fr_mY S D hy bd ds hl vr')) :
    wpY_fits post (fr_mY S D hy bd ds hl vr) (nI c) (nI f) := by
  have hcn := hW.1.2.1
  have hcl : (nI f).toNatClampNeg = f := nI_clamp (by omega)
  have hccl : (nI c).toNatClampNeg = c := nI_clamp (by omega)
  refine ⟨vp_in_nI hf (by omega), vp_in_nI (by omega) (by omega), ?_⟩
  rw [hcl, hccl]
  unfold fr_ps at hp
  refine br_c (fun e => ?_) (fun e => ?_)
  · rw [decide_eq_true e, Bool.true_and] at hp
    exact nm_r (fr_k4 c) ⟨_, fr_y_f21 hr hW hc1 hc2 hd hd2 hf hg2 (fr_tn S c) _ (4 * c) vr rfl (Nat.le_refl _) (Nat.lt_succ_self _) hV hp⟩
  · rw [decide_eq_false e, Bool.false_and] at hp
    exact hp vr (fun _ => rfl) (fun h => by cases h)
def fr_so (S : fr_SR) (D : fr_DR) (r c : Nat) (g : Nat → Nat) (f : Nat) : Bool := decide (fr_nu D f = 0) || !fr_ps S (fr_kd D) (fr_fd D) r c f g
theorem fr_y_some2 {post : Int32 → SY → Prop} {r c d : Nat} {g : Nat → Nat} {vr : fr_FN} (hr : r < 4) (hW : fr_WR S r) (hc1 : 5 * r ≤ c) (hc2 : c < 5 * r + fr_cn S r) (hd : fr_cL S c = nI d) (hd2 : d ≤ 3) (hneg : fr_cN S c ≠ 0)
    (hV : fr_VB S (fr_fd D) r c (4 * c) g vr) (hp : post (fr_i (!fr_al (fr_so S D r c g) 0 6)) (fr_mY S D hy bd ds hl vr)) :
    ∀ (k n i : Nat), i + k = 6 → k < n → fr_al (fr_so S D r c g) i k = fr_al (fr_so S D r c g) 0 6 → wY_some_2 post (nI c) n (nI i) (nI (fr_ru S)) (fr_bY S) (nI (fr_md D)) (fr_pr D) hy (fr_sa S) (fr_co S) (fr_po S) (fr_ac S) bd (fr_cK S) (fr_cN S) (fr_cT S) (fr_tF S) (fr_tH S) (fr_tO S) ds (fr_aX S) (fr_aY S) (fr_aZ S) (fr_nu D) (fr_kd D) (fr_fd D) hl (fr_mk D) vr (fr_ou D) := by
  intro k
  induction k with
  | zero =>
    intro n i hi hn ha
    obtain ⟨n, rfl⟩ : ∃ m, n = m + 1 := ⟨n - 1, by omega⟩
    rw [← ha] at hp
    exact br_t (nI_le (a := 6) (by omega) (by omega)) hp
  | succ k ih =>
    intro n i hi hn ha
    obtain ⟨n, rfl⟩ : ∃ m, n = m + 1 := ⟨n - 1, by omega⟩
    have hcl : (nI i).toNatClampNeg = i := nI_clamp (by omega)
    refine br_f (nI_ge (b := 6) (by omega) (by omega)) ⟨vp_in_nI (by omega) (by omega), ?_⟩
    rw [hcl]
    rw [fr_al] at ha
    by_cases h0 : fr_nu D i = 0
    · have e1 : fr_so S D r c g i = true := by unfold fr_so; rw [decide_eq_true h0]; rfl
      rw [e1, Bool.true_and] at ha
      exact br_t h0 (nm_r (nI_1 i) (ih n (i + 1) (by omega) (by omega) ha))
    · refine br_f h0 (fr_y_fits hr hW hc1 hc2 hd hd2 (by omega) (fun h => absurd h hneg) hV ?_)
      intro vr' w1 _
      rw [w1 hneg]
      cases e : fr_ps S (fr_kd D) (fr_fd D) r c i g with
      | false =>
        have e1 : fr_so S D r c g i = true := by unfold fr_so; rw [e]; exact Bool.or_true _
        rw [e1, Bool.true_and] at ha
        exact br_t rfl (nm_r (nI_1 i) (ih n (i + 1) (by omega) (by omega) ha))
      | true =>
        have e1 : fr_so S D r c g i = false := by unfold fr_so; rw [e, decide_eq_false h0]; rfl
        rw [e1, Bool.false_and] at ha
        rw [← ha] at hp
        exact br_f (by decide) hp
theorem fr_y_some {post : Int32 → SY → Prop} {r c d : Nat} {g : Nat → Nat} {vr : fr_FN} (hr : r < 4) (hW : fr_WR S r) (hc1 : 5 * r ≤ c) (hc2 : c < 5 * r + fr_cn S r) (hd : fr_cL S c = nI d) (hd2 : d ≤ 3) (hneg : fr_cN S c ≠ 0)
    (hV : fr_VB S (fr_fd D) r c (4 * c) g vr) (hp : post (fr_i (!fr_al (fr_so S D r c g) 0 6)) (fr_mY S D hy bd ds hl vr)) : wpY_some post (fr_mY S D hy bd ds hl vr) (nI c) :=
  ⟨7, fr_y_some2 hr hW hc1 hc2 hd hd2 hneg hV hp 6 7 0 (by omega) (by omega) rfl⟩
theorem fr_VB_next {fd : fr_FN} {r c : Nat} {g : Nat → Nat} {vr : fr_FN} (hW : fr_WR S r) (hc1 : 5 * r ≤ c) (hc2 : c < 5 * r + fr_cn S r) (h : fr_VB S fd r c (4 * c + fr_tn S c) g vr) : fr_VB S fd r (c + 1) (4 * (c + 1)) g vr := by
  intro x hx hb
  refine h x hx ?_
  obtain ⟨c', i', b1, b2, b3, b4, b5, b6, b7⟩ := hb
  refine ⟨c', i', b1, by omega, b3, b4, ?_, b6, b7⟩
  by_cases e : c' = c
  · rw [e] at b4; exact b4
  · have := (hW.2 c' b1 (by omega)).2.1
    omega
theorem fr_VB_skip {fd : fr_FN} {r c : Nat} {g : Nat → Nat} {vr : fr_FN} (hW : fr_WR S r) (hc1 : 5 * r ≤ c) (hc2 : c < 5 * r + fr_cn S r) (hneg : fr_cN S c ≠ 0) (h : fr_VB S fd r c (4 * c) g vr) : fr_VB S fd r c (4 * c + fr_tn S c) g vr := by
  intro x hx hb
  refine h x hx ?_
  obtain ⟨c', i', b1, b2, b3, b4, b5, b6, b7⟩ := hb
  refine ⟨c', i', b1, b2, b3, b4, ?_, b6, b7⟩
  by_cases e : c' = c
  · subst e
    exact absurd (((hW.2 c' b1 hc2).2.2.2.2 i' b3 b4).2.1 b6).1 hneg
  · have := (hW.2 c' b1 (by omega)).2.1
    omega
end
end
section
def fr_Q1 (S : fr_SR) (D : fr_DR) (ch c : Nat) : Bool :=
  fr_ng S c || (!decide (fr_nu D (fr_pl ch (fr_pc S (ch / 216) (c - 5 * (ch / 216)))) = 0) && fr_ps S (fr_kd D) (fr_fd D) (ch / 216) c (fr_pl ch (fr_pc S (ch / 216) (c - 5 * (ch / 216)))) (fr_pl ch))
def fr_Q3 (S : fr_SR) (D : fr_DR) (ch c : Nat) : Bool := !fr_ng S c || fr_al (fr_so S D (ch / 216) c (fr_pl ch)) 0 6
def fr_mt (S : fr_SR) (D : fr_DR) (ch : Nat) : Bool :=
  fr_al (fr_Q1 S D ch) (5 * (ch / 216)) (fr_cn S (ch / 216)) && (fr_zz (fr_pn S (ch / 216)) ch && fr_al (fr_Q3 S D ch) (5 * (ch / 216)) (fr_cn S (ch / 216)))
theorem fr_y_place {post : Int32 → Prop} {ch j : Nat} (hc : ch < 2 ^ 31) (hj : j < 3) (hp : post (nI (fr_pl ch j))) : wpY_place post (nI ch) (nI j) := by
  have e36 : nI ch / 36 = nI (ch / 36) := pk_div (d := 36) hc (by omega) (by omega)
  have e6 : nI ch / 6 = nI (ch / 6) := pk_div (d := 6) hc (by omega) (by omega)
  unfold fr_pl at hp
  match j, hj, hp with
  | 0, _, hp =>
    refine br_t rfl ⟨by decide, by decide, ?_⟩
    rw [e36]
    exact (pk_rem (a := ch / 36) (d := 6) (by omega) (by omega) (by omega)).symm ▸ hp
  | 1, _, hp =>
    refine br_f (by decide) (br_t rfl ⟨by decide, by decide, ?_⟩)
    rw [e6]
    exact (pk_rem (a := ch / 6) (d := 6) (by omega) (by omega) (by omega)).symm ▸ hp
  | 2, _, hp =>
    refine br_f (by decide) (br_f (by decide) ⟨by decide, ?_⟩)
    exact (pk_rem (a := ch) (d := 6) (by omega) (by omega) (by omega)).symm ▸ hp
theorem fr_VB_mono {S : fr_SR} {fd : fr_FN} {r c i c' i' : Nat} {g : Nat → Nat} {vr : fr_FN} (h1 : c ≤ c') (h2 : i ≤ i') (h : fr_VB S fd r c' i' g vr) : fr_VB S fd r c i g vr := by
  intro x hx hb
  obtain ⟨c2, i2, b1, b2, b3, b4, b5, b6, b7⟩ := hb
  exact h x hx ⟨c2, i2, b1, by omega, b3, b4, by omega, b6, b7⟩
theorem fr_pc_s {S : fr_SR} {r c : Nat} (h : 5 * r ≤ c) : fr_pc S r (c + 1 - 5 * r) = fr_pc S r (c - 5 * r) + if fr_ng S c = true then 0 else 1 := by
  rw [show c + 1 - 5 * r = (c - 5 * r) + 1 by omega]
  unfold fr_pc
  rw [fr_cc_add]
  show _ + ((if (!fr_ng S (5 * r + (c - 5 * r))) = true then 1 else 0) + 0) = _
  rw [show 5 * r + (c - 5 * r) = c by omega]
  cases fr_ng S c <;> rfl
section
variable {S : fr_SR} {D : fr_DR} {hy : Int32} {bd ds hl : fr_FN}
theorem fr_y_m106 {post : Int32 → SY → Prop} {ch : Nat} {vr : fr_FN} (hr : ch / 216 < 4) (hW : fr_WR S (ch / 216)) (hV : fr_VB S (fr_fd D) (ch / 216) (5 * (ch / 216) + fr_cn S (ch / 216)) (4 * (5 * (ch / 216) + fr_cn S (ch / 216))) (fr_pl ch) vr)
    (hp : post (fr_i (fr_al (fr_Q3 S D ch) (5 * (ch / 216)) (fr_cn S (ch / 216)))) (fr_mY S D hy bd ds hl vr)) :
    ∀ (k n c : Nat), c + k = 5 * (ch / 216) + fr_cn S (ch / 216) → 5 * (ch / 216) ≤ c → k < n → fr_al (fr_Q3 S D ch) c k = fr_al (fr_Q3 S D ch) (5 * (ch / 216)) (fr_cn S (ch / 216)) → wY_match_106 post (nI (ch / 216)) n (nI c) (nI (fr_ru S)) (fr_bY S) (nI (fr_md D)) (fr_pr D) hy (fr_sa S) (fr_co S) (fr_po S) (fr_ac S) bd (fr_cK S) (fr_cN S) (fr_cT S) (fr_tF S) (fr_tH S) (fr_tO S) ds (fr_aX S) (fr_aY S) (fr_aZ S) (fr_nu D) (fr_kd D) (fr_fd D) hl (fr_mk D) vr (fr_ou D) := by
  generalize hrr : ch / 216 = r at *
  have hcn := hW.1.2.1
  have hpn := hW.1.2.2.2.1
  have hrcl : (nI r).toNatClampNeg = r := nI_clamp (by omega)
  have e0 : 5 * nI r + fr_co S (nI r).toNatClampNeg = nI (5 * r + fr_cn S r) := by rw [hrcl, hW.1.1, fr_l5]
  have hrin : vp_in (nI r) 4 := vp_in_nI hr (by omega)
  intro k
  induction k with
  | zero =>
    intro n c hi h4 hn ha
    obtain ⟨n, rfl⟩ : ∃ m, n = m + 1 := ⟨n - 1, by omega⟩
    rw [← ha] at hp
    exact ⟨hrin, br_t (by rw [e0]; exact nI_le (by omega) (by omega)) hp⟩
  | succ k ih =>
    intro n c hi h4 hn ha
    obtain ⟨n, rfl⟩ : ∃ m, n = m + 1 := ⟨n - 1, by omega⟩
    have hcl : (nI c).toNatClampNeg = c := nI_clamp (by omega)
    have hWC := hW.2 c h4 (by omega)
    rw [fr_al] at ha
    refine ⟨hrin, br_f (by rw [e0]; exact nI_ge (by omega) (by omega)) ⟨vp_in_nI (by omega) (by omega), ?_⟩⟩
    rw [hcl]
    by_cases hn0 : fr_cN S c = 0
    · have e1 : fr_Q3 S D ch c = true := by unfold fr_Q3 fr_ng; rw [decide_eq_true hn0]; rfl
      rw [e1, Bool.true_and] at ha
      exact br_t hn0 (nm_r (nI_1 c) (ih n (c + 1) (by omega) (by omega) (by omega) ha))
    · have e1 : fr_Q3 S D ch c = fr_al (fr_so S D r c (fr_pl ch)) 0 6 := by unfold fr_Q3 fr_ng; rw [decide_eq_false hn0, hrr]; rfl
      have hd := (fr_WR_d (d := fr_pc S r (c - 5 * r)) hW h4 (by omega) hWC.2.2.2.1 (by
        have := fr_pc_mono (S := S) (r := r) (a := c - 5 * r) (b := fr_cn S r) (by omega)
        have := hW.1.2.2.2.2.1
        omega)).2
      refine br_f hn0 (fr_y_some hr hW h4 (by omega) hWC.2.2.2.1 (by omega) hn0 (fr_VB_mono (by omega) (by omega) hV) ?_)
      cases e2 : fr_al (fr_so S D r c (fr_pl ch)) 0 6 with
      | true =>
        rw [e1, e2, Bool.true_and] at ha
        exact br_t rfl (nm_r (nI_1 c) (ih n (c + 1) (by omega) (by omega) (by omega) ha))
      | false =>
        rw [e1, e2, Bool.false_and] at ha
        rw [← ha] at hp
        exact br_f (by decide) hp
theorem fr_y_m80 {post : Int32 → SY → Prop} {ch : Nat} {vr : fr_FN} (hc : ch < 2 ^ 31)
    (h0 : fr_zz (fr_pn S (ch / 216)) ch = false → post 0 (fr_mY S D hy bd ds hl vr))
    (h1 : fr_zz (fr_pn S (ch / 216)) ch = true → ∃ n106, wY_match_106 post (nI (ch / 216)) n106 (nI (5 * (ch / 216))) (nI (fr_ru S)) (fr_bY S) (nI (fr_md D)) (fr_pr D) hy (fr_sa S) (fr_co S) (fr_po S) (fr_ac S) bd (fr_cK S) (fr_cN S) (fr_cT S) (fr_tF S) (fr_tH S) (fr_tO S) ds (fr_aX S) (fr_aY S) (fr_aZ S) (fr_nu D) (fr_kd D) (fr_fd D) hl (fr_mk D) vr (fr_ou D)) :
    ∀ (k n j : Nat), j + k = 3 → k < n → fr_al (fun j => decide (fr_pl ch j = 0)) j k = fr_zz (fr_pn S (ch / 216)) ch → wY_match_80 post (nI ch) (nI (ch / 216)) (nI (fr_ru S)) (fr_bY S) (nI (fr_md D)) (fr_pr D) hy (fr_sa S) (fr_co S) (fr_po S) (fr_ac S) bd (fr_cK S) (fr_cN S) (fr_cT S) (fr_tF S) (fr_tH S) (fr_tO S) ds (fr_aX S) (fr_aY S) (fr_aZ S) (fr_nu D) (fr_kd D) (fr_fd D) hl (fr_mk D) vr (fr_ou D) n (nI j) := by
  intro k
  induction k with
  | zero =>
    intro n j hi hn ha
    obtain ⟨n, rfl⟩ : ∃ m, n = m + 1 := ⟨n - 1, by omega⟩
    exact br_t (nI_le (a := 3) (by omega) (by omega)) (nm_r (fr_k5 _) (h1 ha.symm))
  | succ k ih =>
    intro n j hi hn ha
    obtain ⟨n, rfl⟩ : ∃ m, n = m + 1 := ⟨n - 1, by omega⟩
    have hpl := fr_pl_lt ch j
    rw [fr_al] at ha
    refine br_f (nI_ge (b := 3) (by omega) (by omega)) (fr_y_place hc (by omega) ?_)
    by_cases e : fr_pl ch j = 0
    · rw [decide_eq_true e, Bool.true_and] at ha
      rw [e]
      exact br_t rfl (nm_r (nI_1 j) (ih n (j + 1) (by omega) (by omega) ha))
    · rw [decide_eq_false e, Bool.false_and] at ha
      exact br_f (nI_ne0 (by omega) (by omega)) (h0 ha.symm)
theorem fr_y_m13 {post : Int32 → SY → Prop} {ch : Nat} (hc : ch < 2 ^ 31) (hr : ch / 216 < 4) (hW : fr_WR S (ch / 216)) :
    ∀ (k n c : Nat) (vr : fr_FN), c + k = 5 * (ch / 216) + fr_cn S (ch / 216) → 5 * (ch / 216) ≤ c → k < n → fr_VB S (fr_fd D) (ch / 216) c (4 * c) (fr_pl ch) vr →
    (fr_al (fr_Q1 S D ch) c k = false → ∀ vr', post 0 (fr_mY S D hy bd ds hl vr')) →
    (fr_al (fr_Q1 S D ch) c k = true → ∀ vr', fr_VB S (fr_fd D) (ch / 216) (5 * (ch / 216) + fr_cn S (ch / 216)) (4 * (5 * (ch / 216) + fr_cn S (ch / 216))) (fr_pl ch) vr' → ∃ n80, wY_match_80 post (nI ch) (nI (ch / 216)) (nI (fr_ru S)) (fr_bY S) (nI (fr_md D)) (fr_pr D) hy (fr_sa S) (fr_co S) (fr_po S) (fr_ac S) bd (fr_cK S) (fr_cN S) (fr_cT S) (fr_tF S) (fr_tH S) (fr_tO S) ds (fr_aX S) (fr_aY S) (fr_aZ S) (fr_nu D) (fr_kd D) (fr_fd D) hl (fr_mk D) vr' (fr_ou D) n80 (nI (fr_pn S (ch / 216)))) →
    wY_match_13 post (nI ch) (nI (ch / 216)) n (nI (fr_pc S (ch / 216) (c - 5 * (ch / 216)))) (nI c) (nI (fr_ru S)) (fr_bY S) (nI (fr_md D)) (fr_pr D) hy (fr_sa S) (fr_co S) (fr_po S) (fr_ac S) bd (fr_cK S) (fr_cN S) (fr_cT S) (fr_tF S) (fr_tH S) (fr_tO S) ds (fr_aX S) (fr_aY S) (fr_aZ S) (fr_nu D) (fr_kd D) (fr_fd D) hl (fr_mk D) vr (fr_ou D) := by
  have hQ1 : ∀ c, fr_Q1 S D ch c = (fr_ng S c || (!decide (fr_nu D (fr_pl ch (fr_pc S (ch / 216) (c - 5 * (ch / 216)))) = 0) && fr_ps S (fr_kd D) (fr_fd D) (ch / 216) c (fr_pl ch (fr_pc S (ch / 216) (c - 5 * (ch / 216)))) (fr_pl ch))) := fun _ => rfl
  generalize hrr : ch / 216 = r at *
  have hcn := hW.1.2.1
  have hpn := hW.1.2.2.2.1
  have hpp := hW.1.2.2.2.2.1
  have hrcl : (nI r).toNatClampNeg = r := nI_clamp (by omega)
  have e0 : 5 * nI r + fr_co S (nI r).toNatClampNeg = nI (5 * r + fr_cn S r) := by rw [hrcl, hW.1.1, fr_l5]
  have hrin : vp_in (nI r) 4 := vp_in_nI hr (by omega)
  intro k
  induction k with
  | zero =>
    intro n c vr hi h4 hn hV h0 h1
    obtain ⟨n, rfl⟩ : ∃ m, n = m + 1 := ⟨n - 1, by omega⟩
    refine ⟨hrin, br_t (by rw [e0]; exact nI_le (by omega) (by omega)) ?_⟩
    have ec : c = 5 * r + fr_cn S r := by omega
    subst ec
    have := h1 rfl vr hV
    rw [show 5 * r + fr_cn S r - 5 * r = fr_cn S r by omega, hpp]
    exact this
  | succ k ih =>
    intro n c vr hi h4 hn hV h0 h1
    obtain ⟨n, rfl⟩ : ∃ m, n = m + 1 := ⟨n - 1, by omega⟩
    have hcl : (nI c).toNatClampNeg = c := nI_clamp (by omega)
    have hWC := hW.2 c h4 (by omega)
    have hm1 := fr_pc_mono (S := S) (r := r) (a := c - 5 * r) (b := fr_cn S r) (by omega)
    rw [fr_al] at h0 h1
    refine ⟨hrin, br_f (by rw [e0]; exact nI_ge (by omega) (by omega)) ⟨vp_in_nI (by omega) (by omega), ?_⟩⟩
    rw [hcl]
    have hs := fr_pc_s (S := S) (r := r) (c := c) h4
    by_cases hn0 : fr_cN S c = 0
    · have eng : fr_ng S c = false := by unfold fr_ng; rw [decide_eq_true hn0]; rfl
      rw [eng, if_neg (by decide)] at hs
      have hm2 := fr_pc_mono (S := S) (r := r) (a := c + 1 - 5 * r) (b := fr_cn S r) (by omega)
      have hpl := fr_pl_lt ch (fr_pc S r (c - 5 * r))
      refine br_t hn0 (nm_r (e' := nI (fr_pc S r (c + 1 - 5 * r))) (by rw [hs]; exact nI_1 _) (fr_y_place hc (by omega) ⟨vp_in_nI hpl (by omega), ?_⟩))
      rw [nI_clamp (by omega)]
      by_cases h0n : fr_nu D (fr_pl ch (fr_pc S r (c - 5 * r))) = 0
      · refine br_t h0n (h0 ?_ vr)
        rw [hQ1, eng, decide_eq_true h0n]
        rfl
      · refine br_f h0n (fr_y_fits hr hW h4 (by omega) hWC.2.2.2.1 (by omega) hpl (fun _ => rfl) hV ?_)
        intro vr' _ w2
        cases e : fr_ps S (fr_kd D) (fr_fd D) r c (fr_pl ch (fr_pc S r (c - 5 * r))) (fr_pl ch) with
        | false =>
          refine br_t rfl (h0 ?_ vr')
          rw [hQ1, eng, e, Bool.and_false]
          rfl
        | true =>
          have eq1 : fr_Q1 S D ch c = true := by rw [hQ1, eng, e, decide_eq_false h0n]; rfl
          rw [eq1, Bool.true_and] at h0 h1
          exact br_f (by decide) (nm_r (nI_1 c) (ih n (c + 1) vr' (by omega) (by omega) (by omega) (fr_VB_next hW h4 (by omega) (w2 e)) h0 h1))
    · have eng : fr_ng S c = true := by unfold fr_ng; rw [decide_eq_false hn0]; rfl
      have hs' : fr_pc S r (c + 1 - 5 * r) = fr_pc S r (c - 5 * r) := by rw [hs, eng]; rfl
      have eq1 : fr_Q1 S D ch c = true := by rw [hQ1, eng]; rfl
      rw [eq1, Bool.true_and] at h0 h1
      rw [← hs']
      exact br_f hn0 (nm_r (nI_1 c) (ih n (c + 1) vr (by omega) (by omega) (by omega) (fr_VB_next hW h4 (by omega) (fr_VB_skip hW h4 (by omega) hn0 hV)) h0 h1))
theorem fr_y_match {post : Int32 → SY → Prop} {ch : Nat} {vr : fr_FN} (hc : ch < 2 ^ 31) (hr : ch / 216 < 4) (hW : fr_WR S (ch / 216))
    (hp : ∀ vr', (fr_mt S D ch = true → fr_VB S (fr_fd D) (ch / 216) (5 * (ch / 216) + fr_cn S (ch / 216)) (4 * (5 * (ch / 216) + fr_cn S (ch / 216))) (fr_pl ch) vr') → post (fr_i (fr_mt S D ch)) (fr_mY S D hy bd ds hl vr')) :
    wpY_match post (fr_mY S D hy bd ds hl vr) (nI ch) := by
  unfold fr_mt at hp
  have e216 : nI ch / 216 = nI (ch / 216) := pk_div (d := 216) hc (by omega) (by omega)
  refine ⟨by decide, nm_r e216 (nm_r (fr_k5 _) ⟨fr_cn S (ch / 216) + 1, ?_⟩)⟩
  have h13 := fr_y_m13 (S := S) (D := D) (hy := hy) (bd := bd) (ds := ds) (hl := hl) (post := post) hc hr hW (fr_cn S (ch / 216)) (fr_cn S (ch / 216) + 1) (5 * (ch / 216)) vr rfl (Nat.le_refl _) (Nat.lt_succ_self _) ?_ ?_ ?_
  · rw [Nat.sub_self] at h13
    exact h13
  · intro x hx hb
    obtain ⟨c', i', b1, b2, b3, b4, b5, b6, b7⟩ := hb
    omega
  · intro e vr'
    rw [e, Bool.false_and] at hp
    exact hp vr' (fun h => by cases h)
  · intro e vr' hV
    rw [e, Bool.true_and] at hp
    have hpn := hW.1.2.2.2.1
    refine ⟨_, fr_y_m80 hc ?_ ?_ (3 - fr_pn S (ch / 216)) _ (fr_pn S (ch / 216)) (by omega) (Nat.lt_succ_self _) rfl⟩
    · intro e2
      rw [e2, Bool.false_and] at hp
      exact hp vr' (fun h => by cases h)
    · intro e2
      rw [e2, Bool.true_and] at hp
      exact ⟨_, fr_y_m106 hr hW hV (hp vr' (fun _ => hV)) (fr_cn S (ch / 216)) _ (5 * (ch / 216)) rfl (Nat.le_refl _) (Nat.lt_succ_self _) rfl⟩
end
/-! the match of the reference is what the keys say -/
theorem fr_sm_pth {S : fr_SR} {kd fd : fr_FN} {lv : List Nat} {r ch : Nat} : ∀ n : Nat, fr_sm S kd fd lv r (fr_pth ch n) = true ↔ ∀ d, d < n → fr_ct S kd fd lv r (fr_pth ch d) = 0 ∧ fr_pl ch d ∈ lv ∧ fr_ex S kd fd r (fr_pth ch d) (fr_pl ch d) = true := by
  intro n
  induction n with
  | zero => exact ⟨fun _ d h => absurd h (Nat.not_lt_zero _), fun _ => rfl⟩
  | succ n ih =>
    rw [fr_pth, fr_sm, Bool.and_eq_true, Bool.and_eq_true, Bool.and_eq_true, decide_eq_true_iff, decide_eq_true_iff, ih]
    constructor
    · rintro ⟨h1, h2⟩ d hd
      by_cases e : d = n
      · rw [e]; exact h2
      · exact h1 d (by omega)
    · intro h
      exact ⟨fun d hd => h d (by omega), h n (by omega)⟩
theorem fr_pc_ex {S : fr_SR} {r d : Nat} : ∀ m : Nat, d < fr_pc S r m → ∃ j, j < m ∧ fr_cN S (5 * r + j) = 0 ∧ fr_pc S r j = d := by
  intro m
  induction m with
  | zero => intro h; exact absurd h (Nat.not_lt_zero _)
  | succ m ih =>
    intro h
    have hs := fr_pc_s (S := S) (r := r) (c := 5 * r + m) (by omega)
    rw [show 5 * r + m + 1 - 5 * r = m + 1 by omega, show 5 * r + m - 5 * r = m by omega] at hs
    by_cases e : d < fr_pc S r m
    · obtain ⟨j, h1, h2⟩ := ih e
      exact ⟨j, by omega, h2⟩
    · cases hng : fr_ng S (5 * r + m) with
      | true => rw [hng, if_pos rfl] at hs; omega
      | false =>
        rw [hng, if_neg (by decide)] at hs
        refine ⟨m, by omega, ?_, by omega⟩
        unfold fr_ng at hng
        have := (Bool.not_eq_false' .. ▸ hng : decide (fr_cN S (5 * r + m) = 0) = true)
        exact of_decide_eq_true this
theorem fr_pA_ex {S : fr_SR} {r d : Nat} (hW : fr_WR S r) (hd : d < fr_pn S r) : ∃ c, fr_pA S r d = some c := by
  have hpp := hW.1.2.2.2.2.1
  obtain ⟨j, h1, h2, h3⟩ := fr_pc_ex (S := S) (r := r) (d := d) (fr_cn S r) (by omega)
  cases e : fr_pA S r d with
  | some c => exact ⟨c, rfl⟩
  | none =>
    exfalso
    have := fr_fs_none _ _ e (5 * r + j) (by omega) (by omega)
    have hL := (hW.2 (5 * r + j) (by omega) (by omega)).2.2.2.1
    rw [show 5 * r + j - 5 * r = j by omega, h3] at hL
    have eng : fr_ng S (5 * r + j) = false := by unfold fr_ng; rw [decide_eq_true h2]; rfl
    rw [eng, decide_eq_true hL] at this
    cases this
theorem fr_pA_un {S : fr_SR} {r d c c' : Nat} (hW : fr_WR S r) (hd : d < 2 ^ 31) (h : fr_pA S r d = some c) (h1 : 5 * r ≤ c') (h2 : c' < 5 * r + fr_cn S r) (h3 : fr_cN S c' = 0) (h4 : fr_cL S c' = nI d) : c' = c := by
  obtain ⟨c1, c2, c3, c4, c5⟩ := fr_pA_some hW h hd
  have d1 := (fr_WR_d hW c1 c2 c4 hd).1
  have d2 := (fr_WR_d hW h1 h2 h4 hd).1
  rcases Nat.lt_trichotomy c' c with hlt | e | hlt
  · have := fr_pc_lt (S := S) (r := r) (a := c' - 5 * r) (b := c - 5 * r) (by omega) (by rw [show 5 * r + (c' - 5 * r) = c' by omega]; exact h3)
    omega
  · exact e
  · have := fr_pc_lt (S := S) (r := r) (a := c - 5 * r) (b := c' - 5 * r) (by omega) (by rw [show 5 * r + (c - 5 * r) = c by omega]; exact c3)
    omega
theorem fr_sum_0 {f : Nat → Nat} : ∀ l : List Nat, (l.map f).sum = 0 ↔ ∀ x, x ∈ l → f x = 0 := by
  intro l
  induction l with
  | nil => exact ⟨(fun _ x hx => by cases hx), fun _ => rfl⟩
  | cons a l ih =>
    rw [List.map_cons, List.sum_cons]
    constructor
    · intro h x hx
      rcases List.mem_cons.mp hx with e | hx
      · rw [e]; omega
      · exact ih.mp (by omega) x hx
    · intro h
      rw [h a List.mem_cons_self, ih.mpr (fun x hx => h x (List.mem_cons_of_mem _ hx))]
theorem fr_FW_mem {D : fr_DR} (h : fr_FW D) {f : Nat} (hf : f < 6) : fr_nu D f = 0 ↔ f ∉ fr_lv D := by
  obtain ⟨hLV, h1, h2, h3, h4⟩ := h
  constructor
  · intro e hm
    obtain ⟨a, b, c⟩ := h2 f hm
    rw [a] at e
    exact nI_ne0 b (by omega) e
  · exact h1 f hf
theorem fr_mt_hd {S : fr_SR} {D : fr_DR} {ch : Nat} (hW : fr_WR S (ch / 216)) (hF : fr_FW D) (hr : ch / 216 < fr_R S) : fr_mt S D ch = fr_hd S (fr_kd D) (fr_fd D) (fr_lv D) ch := by
  have hmt : fr_mt S D ch = (fr_al (fr_Q1 S D ch) (5 * (ch / 216)) (fr_cn S (ch / 216)) && (fr_zz (fr_pn S (ch / 216)) ch && fr_al (fr_Q3 S D ch) (5 * (ch / 216)) (fr_cn S (ch / 216)))) := rfl
  have hQ1 : ∀ c, fr_Q1 S D ch c = (fr_ng S c || (!decide (fr_nu D (fr_pl ch (fr_pc S (ch / 216) (c - 5 * (ch / 216)))) = 0) && fr_ps S (fr_kd D) (fr_fd D) (ch / 216) c (fr_pl ch (fr_pc S (ch / 216) (c - 5 * (ch / 216)))) (fr_pl ch))) := fun _ => rfl
  have hQ3 : ∀ c, fr_Q3 S D ch c = (!fr_ng S c || fr_al (fr_so S D (ch / 216) c (fr_pl ch)) 0 6) := fun _ => rfl
  rw [Bool.eq_iff_iff, hmt]
  unfold fr_hd
  generalize ch / 216 = r at *
  have hcn := hW.1.2.1
  have hpn := hW.1.2.2.2.1
  have hpp := hW.1.2.2.2.2.1
  rw [decide_eq_true hr, Bool.true_and]
  simp only [Bool.and_eq_true, decide_eq_true_iff]
  have hlen : ∀ d, d ≤ fr_pn S r → (fr_pth ch d).length = d ∧ d < 2 ^ 31 := fun d hd => ⟨fr_pth_len ch d, by omega⟩
  -- positives
  have hpos : (fr_al (fr_Q1 S D ch) (5 * r) (fr_cn S r) = true) ↔ ∀ d, d < fr_pn S r → fr_pl ch d ∈ fr_lv D ∧ fr_ex S (fr_kd D) (fr_fd D) r (fr_pth ch d) (fr_pl ch d) = true := by
    have hexd : ∀ d, d < fr_pn S r → ∀ c, fr_pA S r d = some c → fr_ex S (fr_kd D) (fr_fd D) r (fr_pth ch d) (fr_pl ch d) = fr_ps S (fr_kd D) (fr_fd D) r c (fr_pl ch d) (fr_pl ch) := by
      intro d hd c hc
      obtain ⟨c1, c2, c3, c4, c5⟩ := fr_pA_some hW hc (by omega)
      unfold fr_ex
      rw [fr_pth_len, hc]
      refine (fr_ps_congr hW c1 c2 c4 (by omega) rfl (fun _ _ => rfl) (fun l hl _ j hj => ?_)).symm
      rcases Nat.lt_or_ge l d with h | h
      · rw [fr_gv_c (by rw [fr_pth_len]; exact h), fr_pth_gv _ _ _ h]
      · have : l = d := by omega
        subst this
        rw [fr_gv, if_pos (fr_pth_len ch l).symm]
    rw [fr_al_iff]
    constructor
    · intro h d hd
      obtain ⟨c, hc⟩ := fr_pA_ex hW hd
      obtain ⟨c1, c2, c3, c4, c5⟩ := fr_pA_some hW hc (by omega)
      have h1 := h c c1 c2
      have hdd := (fr_WR_d hW c1 c2 c4 (by omega)).1
      have eng : fr_ng S c = false := by unfold fr_ng; rw [decide_eq_true c3]; rfl
      rw [hQ1, eng, Bool.false_or, ← hdd, Bool.and_eq_true] at h1
      refine ⟨?_, by rw [hexd d hd c hc]; exact h1.2⟩
      apply Classical.byContradiction
      intro hno
      rw [decide_eq_true ((fr_FW_mem hF (fr_pl_lt ch d)).mpr hno)] at h1
      cases h1.1
    · intro h c c1 c2
      rw [hQ1]
      by_cases hn0 : fr_cN S c = 0
      · have eng : fr_ng S c = false := by unfold fr_ng; rw [decide_eq_true hn0]; rfl
        have hlt := fr_pc_lt (S := S) (r := r) (a := c - 5 * r) (b := fr_cn S r) (by omega) (by rw [show 5 * r + (c - 5 * r) = c by omega]; exact hn0)
        obtain ⟨h1, h2⟩ := h (fr_pc S r (c - 5 * r)) (by omega)
        obtain ⟨c', hc'⟩ := fr_pA_ex hW (d := fr_pc S r (c - 5 * r)) (by omega)
        have ecc := fr_pA_un hW (by omega) hc' c1 c2 hn0 (hW.2 c c1 c2).2.2.2.1
        subst ecc
        rw [hexd _ (by omega) c hc'] at h2
        rw [eng, h2, decide_eq_false (fun e => (fr_FW_mem hF (fr_pl_lt ch _)).mp e h1)]
        rfl
      · have eng : fr_ng S c = true := by unfold fr_ng; rw [decide_eq_false hn0]; rfl
        rw [eng]
        rfl
  have hnegs : (fr_al (fr_Q3 S D ch) (5 * r) (fr_cn S r) = true) ↔ ∀ d, d ≤ fr_pn S r → fr_ct S (fr_kd D) (fr_fd D) (fr_lv D) r (fr_pth ch d) = 0 := by
    have hpsd : ∀ c d f, 5 * r ≤ c → c < 5 * r + fr_cn S r → fr_cL S c = nI d → d ≤ fr_pn S r → fr_cN S c ≠ 0 → fr_ps S (fr_kd D) (fr_fd D) r c f (fr_gv (fr_pth ch d)) = fr_ps S (fr_kd D) (fr_fd D) r c f (fr_pl ch) := by
      intro c d f c1 c2 c4 hd hne
      refine fr_ps_congr hW c1 c2 c4 (by omega) rfl (fun _ _ => rfl) (fun l hl h2 j hj => ?_)
      have hlt : l < d := by
        rcases Nat.lt_or_ge l d with h | h
        · exact h
        · exact absurd (h2 (by omega)) hne
      rw [fr_pth_gv _ _ _ hlt]
    rw [fr_al_iff]
    constructor
    · intro h d hd
      unfold fr_ct
      rw [fr_sum_0]
      intro f hf
      unfold fr_bl
      rw [fr_cc_0]
      intro c c1 c2
      unfold fr_bq
      rw [fr_pth_len]
      by_cases hn0 : fr_cN S c = 0
      · have eng : fr_ng S c = false := by unfold fr_ng; rw [decide_eq_true hn0]; rfl
        rw [eng]; rfl
      · have eng : fr_ng S c = true := by unfold fr_ng; rw [decide_eq_false hn0]; rfl
        by_cases hL : fr_cL S c = nI d
        · have h1 := h c c1 c2
          rw [hQ3, eng, Bool.not_true, Bool.false_or, fr_al_iff] at h1
          have h2 := h1 f (by omega) (by have := hF.1.2 f hf; omega)
          unfold fr_so at h2
          rw [decide_eq_false (fun e => (fr_FW_mem hF (hF.1.2 f hf)).mp e hf), Bool.false_or, Bool.not_eq_true'] at h2
          rw [hpsd c d f c1 c2 hL hd hn0, h2, Bool.and_false, Bool.and_false]
        · rw [decide_eq_false hL, Bool.false_and, Bool.and_false]
    · intro h c c1 c2
      rw [hQ3]
      by_cases hn0 : fr_cN S c = 0
      · have eng : fr_ng S c = false := by unfold fr_ng; rw [decide_eq_true hn0]; rfl
        rw [eng]; rfl
      · have eng : fr_ng S c = true := by unfold fr_ng; rw [decide_eq_false hn0]; rfl
        rw [eng, Bool.not_true, Bool.false_or, fr_al_iff]
        intro f _ hf
        have hL := (hW.2 c c1 c2).2.2.2.1
        have hm := fr_pc_mono (S := S) (r := r) (a := c - 5 * r) (b := fr_cn S r) (by omega)
        have h1 := h (fr_pc S r (c - 5 * r)) (by omega)
        unfold fr_so
        by_cases hfl : f ∈ fr_lv D
        · unfold fr_ct at h1
          rw [fr_sum_0] at h1
          have h2 := h1 f hfl
          unfold fr_bl at h2
          rw [fr_cc_0] at h2
          have h3 := h2 c c1 c2
          unfold fr_bq at h3
          rw [fr_pth_len, eng, decide_eq_true hL, hpsd c _ f c1 c2 hL (by omega) hn0, Bool.true_and, Bool.true_and] at h3
          rw [h3]
          exact Bool.or_true _
        · rw [decide_eq_true ((fr_FW_mem hF (by omega)).mpr hfl)]
          rfl
  rw [hpos, hnegs, fr_sm_pth]
  constructor
  · rintro ⟨h1, h2, h3⟩
    exact ⟨h2, fun d hd => ⟨h3 d (by omega), h1 d hd⟩, h3 _ (Nat.le_refl _)⟩
  · rintro ⟨h2, h1, h3⟩
    refine ⟨fun d hd => (h1 d hd).2, h2, fun d hd => ?_⟩
    rcases Nat.lt_or_ge d (fr_pn S r) with h | h
    · exact (h1 d h).1
    · have : d = fr_pn S r := by omega
      rw [this]; exact h3
end
section
def fr_dm (D : fr_DR) (m : fr_FN) : fr_DR := (fr_nu D, fr_fd D, fr_kd D, fr_lv D, fr_md D, m, fr_pr D, fr_ou D)
def fr_HL (S : fr_SR) (D : fr_DR) (hl : fr_FN) : Prop := ∀ c, c < 864 → hl c = fr_i (fr_hd S (fr_kd D) (fr_fd D) (fr_lv D) c)
theorem fr_nb (b : Bool) : vp_nar .boolean (fr_i b) = fr_i b := by cases b <;> rfl
theorem fr_nb0 : vp_nar .boolean 0 = 0 := rfl
theorem fr_nb1 : vp_nar .boolean 1 = 1 := rfl
theorem fr_hd_ge {S : fr_SR} {kd fd : fr_FN} {lv : List Nat} {c : Nat} (h : 216 * fr_R S ≤ c) : fr_hd S kd fd lv c = false := by
  unfold fr_hd
  rw [decide_eq_false (by omega)]
  rfl
theorem fr_HL_ge {S : fr_SR} {D : fr_DR} {hl : fr_FN} (h : fr_HL S D hl) : ∀ c, 216 * fr_R S ≤ c → c < 864 → hl c = 0 := by
  intro c h1 h2
  rw [h c h2, fr_hd_ge h1]
  rfl
theorem fr_pw {R : Nat → Nat → Prop} : ∀ {l : List Nat}, l.Pairwise R → ∀ a, a ∈ l → ∀ b, b ∈ l → a = b ∨ R a b ∨ R b a := by
  intro l
  induction l with
  | nil => intro _ a ha; cases ha
  | cons x l ih =>
    intro h a ha b hb
    have h' := List.pairwise_cons.mp h
    rcases List.mem_cons.mp ha with e1 | ha
    · rcases List.mem_cons.mp hb with e2 | hb
      · exact Or.inl (e1.trans e2.symm)
      · rw [e1]; exact Or.inr (Or.inl (h'.1 b hb))
    · rcases List.mem_cons.mp hb with e2 | hb
      · rw [e2]; exact Or.inr (Or.inr (h'.1 a ha))
      · exact ih h'.2 a ha b hb
theorem fr_nu_inj {D : fr_DR} (h : fr_FW D) {a b : Nat} (ha : a ∈ fr_lv D) (hb : b ∈ fr_lv D) (e : fr_nu D a = fr_nu D b) : a = b := by
  have e2 : fr_nv D a = fr_nv D b := by unfold fr_nv; rw [e]
  rcases fr_pw h.2.2.2.1 a ha b hb with h | h | h
  · exact h
  · omega
  · omega
section
variable {S : fr_SR} {hy : Int32} {bd ds : fr_FN}
theorem fr_y_set23 {post : SY → Prop} {D : fr_DR} {hl : fr_FN} (hS : fr_W1 S) (hF : fr_FW D) (h0 : ∀ c, 216 * fr_R S ≤ c → c < 864 → hl c = 0)
    (hp : ∀ hl' vr', fr_HL S D hl' → post (fr_mY S (fr_dm D (fr_nm S (fr_kd D) (fr_fd D) (fr_lv D) (fr_mk D))) hy bd ds hl' vr')) :
    ∀ (k n i : Nat) (hl' vr : fr_FN), i + k = 216 * fr_R S → k < n → (∀ c, c < i → hl' c = fr_i (fr_hd S (fr_kd D) (fr_fd D) (fr_lv D) c)) → (∀ c, i ≤ c → hl' c = hl c) →
    wY_settle_23 post (nI (fr_R S)) n (nI i) (nI (fr_ru S)) (fr_bY S) (nI (fr_md (fr_dm D (fun c => if c < i ∧ fr_hd S (fr_kd D) (fr_fd D) (fr_lv D) c = false then 0 else fr_mk D c)))) (fr_pr (fr_dm D (fun c => if c < i ∧ fr_hd S (fr_kd D) (fr_fd D) (fr_lv D) c = false then 0 else fr_mk D c))) hy (fr_sa S) (fr_co S) (fr_po S) (fr_ac S) bd (fr_cK S) (fr_cN S) (fr_cT S) (fr_tF S) (fr_tH S) (fr_tO S) ds (fr_aX S) (fr_aY S) (fr_aZ S) (fr_nu (fr_dm D (fun c => if c < i ∧ fr_hd S (fr_kd D) (fr_fd D) (fr_lv D) c = false then 0 else fr_mk D c))) (fr_kd (fr_dm D (fun c => if c < i ∧ fr_hd S (fr_kd D) (fr_fd D) (fr_lv D) c = false then 0 else fr_mk D c))) (fr_fd (fr_dm D (fun c => if c < i ∧ fr_hd S (fr_kd D) (fr_fd D) (fr_lv D) c = false then 0 else fr_mk D c))) hl' (fr_mk (fr_dm D (fun c => if c < i ∧ fr_hd S (fr_kd D) (fr_fd D) (fr_lv D) c = false then 0 else fr_mk D c))) vr (fr_ou (fr_dm D (fun c => if c < i ∧ fr_hd S (fr_kd D) (fr_fd D) (fr_lv D) c = false then 0 else fr_mk D c))) := by
  have hR := fr_R_le (S := S)
  have h4 := hS.1
  have e216 : 216 * nI (fr_R S) = nI (216 * fr_R S) := pk_mul 216 _
  intro k
  induction k with
  | zero =>
    intro n i hl' vr hi hn ha hb
    obtain ⟨n, rfl⟩ : ∃ m, n = m + 1 := ⟨n - 1, by omega⟩
    have ei : i = 216 * fr_R S := by omega
    subst ei
    refine br_t (by rw [e216]; exact nI_le (Nat.le_refl _) (by omega)) (hp hl' vr ?_)
    intro c hc
    rcases Nat.lt_or_ge c (216 * fr_R S) with h | h
    · exact ha c h
    · rw [hb c h, h0 c h hc, fr_hd_ge h]
      rfl
  | succ k ih =>
    intro n i hl' vr hi hn ha hb
    obtain ⟨n, rfl⟩ : ∃ m, n = m + 1 := ⟨n - 1, by omega⟩
    have hcl : (nI i).toNatClampNeg = i := nI_clamp (by omega)
    have hin : vp_in (nI i) 864 := vp_in_nI (by omega) (by omega)
    have hW := hS.2.2.1 (i / 216) (by omega)
    refine br_f (by rw [e216]; exact nI_ge (by omega) (by omega)) (fr_y_match (D := fr_dm D (fun c => if c < i ∧ fr_hd S (fr_kd D) (fr_fd D) (fr_lv D) c = false then 0 else fr_mk D c)) (by omega) (by omega) hW ?_)
    intro vr' _
    have emt : fr_mt S (fr_dm D (fun c => if c < i ∧ fr_hd S (fr_kd D) (fr_fd D) (fr_lv D) c = false then 0 else fr_mk D c)) i = fr_hd S (fr_kd D) (fr_fd D) (fr_lv D) i := fr_mt_hd (D := fr_dm D (fun c => if c < i ∧ fr_hd S (fr_kd D) (fr_fd D) (fr_lv D) c = false then 0 else fr_mk D c)) hW hF (by omega)
    rw [emt]
    have hgo : ∀ m, m = (fun c => if c < i + 1 ∧ fr_hd S (fr_kd D) (fr_fd D) (fr_lv D) c = false then 0 else fr_mk D c) → wY_settle_23 post (nI (fr_R S)) n (nI (i + 1)) (nI (fr_ru S)) (fr_bY S) (nI (fr_md (fr_dm D m))) (fr_pr (fr_dm D m)) hy (fr_sa S) (fr_co S) (fr_po S) (fr_ac S) bd (fr_cK S) (fr_cN S) (fr_cT S) (fr_tF S) (fr_tH S) (fr_tO S) ds (fr_aX S) (fr_aY S) (fr_aZ S) (fr_nu (fr_dm D m)) (fr_kd (fr_dm D m)) (fr_fd (fr_dm D m)) ((upd hl' i (fr_i (fr_hd S (fr_kd D) (fr_fd D) (fr_lv D) i)))) (fr_mk (fr_dm D m)) vr' (fr_ou (fr_dm D m)) := by
      intro m hm
      subst hm
      refine ih n (i + 1) _ vr' (by omega) (by omega) (fun c hc => ?_) (fun c hc => ?_)
      · by_cases e : c = i
        · rw [e, pk_us]
        · rw [pk_un e]; exact ha c (by omega)
      · rw [pk_un (by omega)]; exact hb c (by omega)
    refine ⟨hin, nm_r (e' := upd hl' i (fr_i (fr_hd S (fr_kd D) (fr_fd D) (fr_lv D) i))) (by rw [hcl, fr_nb]) ⟨hin, ?_⟩⟩
    rw [hcl, pk_us]
    cases eh : fr_hd S (fr_kd D) (fr_fd D) (fr_lv D) i with
    | false =>
      rw [eh] at hgo
      refine br_t rfl ⟨hin, nm_r (e' := upd (fun c => if c < i ∧ fr_hd S (fr_kd D) (fr_fd D) (fr_lv D) c = false then 0 else fr_mk D c) i 0) rfl (nm_r (nI_1 i) (hgo (upd (fun c => if c < i ∧ fr_hd S (fr_kd D) (fr_fd D) (fr_lv D) c = false then 0 else fr_mk D c) i 0) ?_))⟩
      funext c
      by_cases e : c = i
      · rw [e, pk_us, if_pos ⟨by omega, eh⟩]
      · rw [pk_un e]
        show (if _ then _ else _) = _
        by_cases e2 : c < i ∧ fr_hd S (fr_kd D) (fr_fd D) (fr_lv D) c = false
        · rw [if_pos e2, if_pos ⟨by omega, e2.2⟩]
        · rw [if_neg e2, if_neg (fun h => e2 ⟨by omega, h.2⟩)]
    | true =>
      rw [eh] at hgo
      refine br_f (by decide) (nm_r (nI_1 i) (hgo _ ?_))
      funext c
      show (if _ then _ else _) = _
      by_cases e : c = i
      · rw [e, if_neg (fun h => by omega), if_neg (fun h => by rw [eh] at h; cases h.2)]
      · by_cases e2 : c < i ∧ fr_hd S (fr_kd D) (fr_fd D) (fr_lv D) c = false
        · rw [if_pos e2, if_pos ⟨by omega, e2.2⟩]
        · rw [if_neg e2, if_neg (fun h => e2 ⟨by omega, h.2⟩)]
theorem fr_y_settle {post : SY → Prop} {D : fr_DR} {hl vr : fr_FN} (hS : fr_W1 S) (hF : fr_FW D) (h0 : ∀ c, 216 * fr_R S ≤ c → c < 864 → hl c = 0)
    (hp : ∀ hl' vr', fr_HL S D hl' → post (fr_mY S (fr_dm D (fr_nm S (fr_kd D) (fr_fd D) (fr_lv D) (fr_mk D))) hy bd ds hl' vr')) : wpY_settle post (fr_mY S D hy bd ds hl vr) := by
  have hgo := fr_y_set23 hS hF h0 hp (216 * fr_R S) (216 * fr_R S + 1) 0 hl vr (by omega) (Nat.lt_succ_self _) (fun c hc => absurd hc (Nat.not_lt_zero _)) (fun _ _ => rfl)
  have em : (fun c => if c < 0 ∧ fr_hd S (fr_kd D) (fr_fd D) (fr_lv D) c = false then 0 else fr_mk D c) = fr_mk D := by
    funext c
    rw [if_neg (fun h => Nat.not_lt_zero _ h.1)]
  rw [em] at hgo
  by_cases hb : fr_bd S = true
  · have e1 : fr_bY S = 1 := by unfold fr_bY; rw [if_pos hb]
    have e2 : fr_R S = fr_ru S - 1 := by unfold fr_R; rw [if_pos hb]
    refine br_f (by rw [e1]; decide) (nm_r (e' := nI (fr_R S)) (by rw [e2]; exact pk_sub (b := 1) (hS.2.1 hb)) ⟨_, hgo⟩)
  · have e1 : fr_bY S = 0 := by unfold fr_bY; rw [if_neg hb]
    have e2 : fr_R S = fr_ru S := by unfold fr_R; rw [if_neg hb]
    rw [e2] at hgo
    exact br_t e1 ⟨_, hgo⟩
theorem fr_y_add26 {post : Int32 → SY → Prop} {D : fr_DR} {hl vr : fr_FN} {k x y w : Int32} (hS : fr_W1 S) (hF : fr_FW D) (hH : fr_HL S D hl) (hm1 : fr_md D + 1 < 2 ^ 27)
    (hp : ∀ hl' vr', fr_HL S (fr_addD S D k x y w).1 hl' → post (fr_addD S D k x y w).2 (fr_mY S (fr_addD S D k x y w).1 hy bd ds hl' vr')) :
    wY_add_26 post k x y w (nI (if (fr_lv D).length = 6 then 6 else fr_sl D)) (nI (fr_ru S)) (fr_bY S) (nI (fr_md D)) (fr_pr D) hy (fr_sa S) (fr_co S) (fr_po S) (fr_ac S) bd (fr_cK S) (fr_cN S) (fr_cT S) (fr_tF S) (fr_tH S) (fr_tO S) ds (fr_aX S) (fr_aY S) (fr_aZ S) (fr_nu D) (fr_kd D) (fr_fd D) hl (fr_mk D) vr (fr_ou D) := by
  unfold fr_addD at hp
  by_cases h1 : k < 0
  · rw [if_pos (Or.inl h1)] at hp
    exact br_t h1 (hp hl vr hH)
  · refine br_f h1 ?_
    by_cases h2 : 3 < k
    · rw [if_pos (Or.inr (Or.inl h2))] at hp
      exact br_t h2 (hp hl vr hH)
    · refine br_f h2 ?_
      by_cases h3 : (fr_lv D).length = 6
      · rw [if_pos (Or.inr (Or.inr h3))] at hp
        rw [if_pos h3]
        exact br_t rfl (hp hl vr hH)
      · rw [if_neg (by rintro (h | h | h); exact h1 h; exact h2 h; exact h3 h)] at hp
        rw [if_neg h3]
        obtain ⟨s1, s2, s3, s4, s5⟩ := fr_slot hF h3
        obtain ⟨j, hj, ek⟩ := nI_of2 (M := 3) (n := 3) (by decide) h1 (Int32.not_lt.mp h2)
        generalize hfs : fr_sl D = f at *
        have hcl : (nI f).toNatClampNeg = f := nI_clamp (by omega)
        have hin : vp_in (nI f) 6 := vp_in_nI s2 (by omega)
        have e0 : 3 * nI f = nI (3 * f) := fr_k3 f
        have e1 : 3 * nI f + 1 = nI (3 * f + 1) := by rw [e0]; exact nI_1 _
        have e2 : 3 * nI f + 2 = nI (3 * f + 2) := by rw [e0]; exact nI_add (3 * f) 2
        refine br_f (fun e => by have := (nI_eq (b := 6) (by omega) (by omega)).mp e; omega) (nm_r (e' := nI (fr_md D + 1)) (nI_1 _) ⟨hin, nm_r (e' := upd (fr_nu D) f (nI (fr_md D + 1))) (by rw [hcl, nI_1]) ⟨hin, nm_r (e' := upd (fr_kd D) f k) (by rw [hcl, ek, fr_b88 (by omega)]) ?_⟩⟩)
        rw [e1, e2, e0]
        refine ⟨vp_in_nI (by omega) (by omega), nm_r (e' := upd (fr_fd D) (3 * f) x) (by rw [nI_clamp (by omega)]) ⟨vp_in_nI (by omega) (by omega), nm_r (e' := upd (upd (fr_fd D) (3 * f) x) (3 * f + 1) y) (by rw [nI_clamp (by omega)]) ⟨vp_in_nI (by omega) (by omega), nm_r (e' := fr_f3 (fr_fd D) f x y w) (by rw [nI_clamp (by omega)]; rfl) ?_⟩⟩⟩
        refine fr_y_settle (D := fr_dm (fr_ad S D f k x y w) (fr_mk D)) hS (fr_ad_FW (S := S) (k := k) (x := x) (y := y) (w := w) hF s2 s3 hm1) (fr_HL_ge hH) ?_
        intro hl' vr' hH'
        exact hp hl' vr' hH'
theorem fr_y_add {post : Int32 → SY → Prop} {D : fr_DR} {hl vr : fr_FN} {k x y w : Int32} (hS : fr_W1 S) (hF : fr_FW D) (hH : fr_HL S D hl) (hm1 : fr_md D + 1 < 2 ^ 27)
    (hp : ∀ hl' vr', fr_HL S (fr_addD S D k x y w).1 hl' → post (fr_addD S D k x y w).2 (fr_mY S (fr_addD S D k x y w).1 hy bd ds hl' vr')) :
    wpY_add post (fr_mY S D hy bd ds hl vr) k x y w := by
  have h26 := fr_y_add26 (vr := vr) hS hF hH hm1 hp
  have hlen := fr_LV_len hF.1
  generalize htg : (if (fr_lv D).length = 6 then 6 else fr_sl D) = tg at h26
  have htg6 : tg ≤ 6 ∧ (tg < 6 → fr_nu D tg = 0) ∧ ∀ j, j < tg → fr_nu D j ≠ 0 := by
    by_cases h3 : (fr_lv D).length = 6
    · rw [if_pos h3] at htg
      refine ⟨by omega, fun h => by omega, fun j hj => ?_⟩
      intro e
      have hno := (fr_FW_mem hF (f := j) (by omega)).mp e
      have hnd : (j :: fr_lv D).Nodup := List.nodup_cons.mpr ⟨hno, hF.1.1⟩
      have := fr_nd6 hnd (fun x hx => by
        rcases List.mem_cons.mp hx with e | hx
        · rw [e]; omega
        · exact hF.1.2 x hx)
      rw [List.length_cons] at this
      omega
    · rw [if_neg h3] at htg
      obtain ⟨s1, s2, s3, s4, s5⟩ := fr_slot hF h3
      rw [htg] at s2 s4 s5
      refine ⟨by omega, fun _ => s4, fun j hj e => ?_⟩
      exact (fr_FW_mem hF (f := j) (by omega)).mp e (s5 j hj)
  have hloop : ∀ (m n i : Nat), i + m = tg → m < n → wY_add_3 post k x y w (nI (fr_ru S)) (fr_bY S) (nI (fr_md D)) (fr_pr D) hy (fr_sa S) (fr_co S) (fr_po S) (fr_ac S) bd (fr_cK S) (fr_cN S) (fr_cT S) (fr_tF S) (fr_tH S) (fr_tO S) ds (fr_aX S) (fr_aY S) (fr_aZ S) (fr_nu D) (fr_kd D) (fr_fd D) hl (fr_mk D) vr (fr_ou D) n (nI i) := by
    intro m
    induction m with
    | zero =>
      intro n i hi hn
      obtain ⟨n, rfl⟩ : ∃ m, n = m + 1 := ⟨n - 1, by omega⟩
      have ei : i = tg := by omega
      subst ei
      by_cases e : i = 6
      · subst e
        exact br_t (by decide) h26
      · refine br_f (nI_ge (b := 6) (by omega) (by omega)) ⟨vp_in_nI (by omega) (by omega), br_t ?_ h26⟩
        rw [nI_clamp (by omega)]
        exact htg6.2.1 (by omega)
    | succ m ih =>
      intro n i hi hn
      obtain ⟨n, rfl⟩ : ∃ m, n = m + 1 := ⟨n - 1, by omega⟩
      refine br_f (nI_ge (b := 6) (by omega) (by omega)) ⟨vp_in_nI (by omega) (by omega), br_f ?_ (nm_r (nI_1 i) (ih n (i + 1) (by omega) (by omega)))⟩
      rw [nI_clamp (by omega)]
      exact htg6.2.2 i (by omega)
  exact ⟨_, hloop tg _ 0 (by omega) (Nat.lt_succ_self _)⟩
theorem fr_ri_none {D : fr_DR} {v : Int32} (h : fr_ri D v = none) : ∀ f, f ∈ fr_lv D → fr_nu D f ≠ v := by
  intro f hf e
  obtain ⟨i, hi, e2⟩ := List.mem_iff_getElem.mp hf
  have := fr_fs_none _ _ h i (by omega) (by omega)
  rw [List.getD_eq_getElem?_getD, List.getElem?_eq_getElem hi] at this
  rw [Option.getD_some, e2, decide_eq_true e] at this
  cases this
theorem fr_ri_some {D : fr_DR} {v : Int32} {i : Nat} (h : fr_ri D v = some i) : i < (fr_lv D).length ∧ fr_nu D ((fr_lv D).getD i 0) = v := by
  obtain ⟨s1, s2, s3, s4⟩ := fr_fs_some _ _ _ h
  exact ⟨by omega, of_decide_eq_true s3⟩
theorem fr_y_rem2 {post : Int32 → SY → Prop} {D : fr_DR} {hl vr : fr_FN} {v : Int32} (hS : fr_W1 S) (hF : fr_FW D) (hH : fr_HL S D hl)
    (h0 : fr_ri D v = none → post 0 (fr_mY S D hy bd ds hl vr))
    (hp : ∀ i, fr_ri D v = some i → ∀ hl' vr', fr_HL S (fr_rm S D i) hl' → post 1 (fr_mY S (fr_rm S D i) hy bd ds hl' vr')) :
    ∀ (m n f : Nat), f + m = 6 → m < n → (∀ i, fr_ri D v = some i → f ≤ (fr_lv D).getD i 0) → wY_remove_2 post v (nI (fr_ru S)) (fr_bY S) (nI (fr_md D)) (fr_pr D) hy (fr_sa S) (fr_co S) (fr_po S) (fr_ac S) bd (fr_cK S) (fr_cN S) (fr_cT S) (fr_tF S) (fr_tH S) (fr_tO S) ds (fr_aX S) (fr_aY S) (fr_aZ S) (fr_nu D) (fr_kd D) (fr_fd D) hl (fr_mk D) vr (fr_ou D) n (nI f) := by
  have hmd := hF.2.2.2.2
  intro m
  induction m with
  | zero =>
    intro n f hf hn hge
    obtain ⟨n, rfl⟩ : ∃ m, n = m + 1 := ⟨n - 1, by omega⟩
    refine br_t (nI_le (a := 6) (by omega) (by omega)) (h0 ?_)
    cases e : fr_ri D v with
    | none => rfl
    | some i =>
      have h1 := hge i e
      have h2 := fr_ri_some e
      have := hF.1.2 _ (fr_getD_mem h2.1)
      omega
  | succ m ih =>
    intro n f hf hn hge
    obtain ⟨n, rfl⟩ : ∃ m, n = m + 1 := ⟨n - 1, by omega⟩
    have hcl : (nI f).toNatClampNeg = f := nI_clamp (by omega)
    have hin : vp_in (nI f) 6 := vp_in_nI (by omega) (by omega)
    refine br_f (nI_ge (b := 6) (by omega) (by omega)) ?_
    have hnext : fr_nu D f ≠ v ∨ f ∉ fr_lv D → ∀ i, fr_ri D v = some i → f + 1 ≤ (fr_lv D).getD i 0 := by
      intro hh i e
      have h1 := hge i e
      have h2 := fr_ri_some e
      rcases Nat.lt_or_ge f ((fr_lv D).getD i 0) with h | h
      · exact h
      · have ef : (fr_lv D).getD i 0 = f := by omega
        rcases hh with hh | hh
        · rw [ef] at h2; exact absurd h2.2 hh
        · exact absurd (ef ▸ fr_getD_mem h2.1) hh
    by_cases hv : v ≤ 0
    · refine br_t hv (nm_r (nI_1 f) (ih n (f + 1) (by omega) (by omega) (hnext ?_)))
      by_cases hm : f ∈ fr_lv D
      · left
        intro e
        obtain ⟨a, b, c⟩ := hF.2.2.1 f hm
        rw [← e, a] at hv
        exact nI_nle b (by omega) hv
      · exact Or.inr hm
    · refine br_f hv ⟨hin, ?_⟩
      rw [hcl]
      by_cases e : fr_nu D f = v
      · have hm : f ∈ fr_lv D := by
          apply Classical.byContradiction
          intro hno
          rw [hF.2.1 f (by omega) hno] at e
          exact hv (by rw [← e]; decide)
        cases er : fr_ri D v with
        | none => exact absurd e (fr_ri_none er f hm)
        | some i =>
          have h2 := fr_ri_some er
          have ef : (fr_lv D).getD i 0 = f := fr_nu_inj hF (fr_getD_mem h2.1) hm (h2.2.trans e.symm)
          refine br_t e ⟨hin, nm_r (e' := upd (fr_nu D) ((fr_lv D).getD i 0) 0) (by rw [ef]) ?_⟩
          refine fr_y_settle (D := fr_dm (fr_rm S D i) (fr_mk D)) hS (fr_rm_FW (S := S) hF h2.1) (fr_HL_ge hH) ?_
          intro hl' vr' hH'
          exact hp i er hl' vr' hH'
      · exact br_f e (nm_r (nI_1 f) (ih n (f + 1) (by omega) (by omega) (hnext (Or.inl e))))
theorem fr_y_remove {post : Int32 → SY → Prop} {D : fr_DR} {hl vr : fr_FN} {v : Int32} (hS : fr_W1 S) (hF : fr_FW D) (hH : fr_HL S D hl)
    (hp : ∀ hl' vr', fr_HL S (fr_remD S D v).1 hl' → post (fr_remD S D v).2 (fr_mY S (fr_remD S D v).1 hy bd ds hl' vr')) : wpY_remove post (fr_mY S D hy bd ds hl vr) v := by
  unfold fr_remD at hp
  refine ⟨7, fr_y_rem2 hS hF hH ?_ ?_ 6 7 0 (by omega) (by omega) (fun _ _ => Nat.zero_le _)⟩
  · intro e
    rw [e] at hp
    exact hp hl vr hH
  · intro i e
    rw [e] at hp
    exact hp
end
end
section
def fr_su (f : Nat → Nat) (i : Nat) : Nat → Nat
  | 0 => 0
  | k + 1 => f i + fr_su f (i + 1) k
def fr_tc (S : fr_SR) (r : Nat) : Nat := fr_su (fr_tn S) (5 * r) (fr_cn S r)
def fr_hi (a b : Nat) : Nat := if a ≤ b then b else a
def fr_lo (a b : Nat) : Nat := if a ≤ b then a else b
def fr_g3 (a b c j : Nat) : Nat := if j = 0 then (if fr_hi a b ≤ c then c else fr_hi a b) else if j = 2 then (if c ≤ fr_lo a b then c else fr_lo a b) else (if c ≤ fr_hi a b then (if fr_lo a b ≤ c then c else fr_lo a b) else fr_hi a b)
def fr_nn (S : fr_SR) (D : fr_DR) (ch j : Nat) : Nat := if j < fr_pn S (ch / 216) then fr_nv D (fr_pl ch j) else 0
def fr_gg (S : fr_SR) (D : fr_DR) (ch j : Nat) : Nat := fr_g3 (fr_nn S D ch 0) (fr_nn S D ch 1) (fr_nn S D ch 2) j
def fr_lx : List Int → List Int → Bool
  | x :: xs, y :: ys => if x = y then fr_lx xs ys else decide (y < x)
  | _, _ => false
def fr_tl (f : Nat → Int) (z : List Int) (i : Nat) : Nat → List Int
  | 0 => z
  | k + 1 => f i :: fr_tl f z (i + 1) k
def fr_cd3 (S : fr_SR) (D : fr_DR) (ch : Nat) (i k : Nat) : List Int := fr_tl (fun j => (fr_nn S D ch j : Int)) [] i k
def fr_cd2 (S : fr_SR) (D : fr_DR) (ch : Nat) : List Int := (fr_tc S (ch / 216) : Int) :: (-((ch / 216 : Nat) : Int)) :: fr_cd3 S D ch 0 3
def fr_cd1 (S : fr_SR) (D : fr_DR) (ch : Nat) (i k : Nat) : List Int := fr_tl (fun j => (fr_gg S D ch j : Int)) (fr_cd2 S D ch) i k
def fr_cd (S : fr_SR) (D : fr_DR) (ch : Nat) : List Int := (fr_sa S (ch / 216)).toInt :: fr_cd1 S D ch 0 3
def fr_bf (S : fr_SR) (D : fr_DR) (a b : Nat) : Bool := fr_lx (fr_cd S D a) (fr_cd S D b)
theorem fr_lx_irr : ∀ l : List Int, fr_lx l l = false := by
  intro l
  induction l with
  | nil => rfl
  | cons x l ih => rw [fr_lx, if_pos rfl]; exact ih
theorem fr_lx_tr : ∀ a b c : List Int, fr_lx a b = true → fr_lx b c = true → fr_lx a c = true := by
  intro a
  induction a with
  | nil => intro b c h; cases h
  | cons x xs ih =>
    intro b c h1 h2
    match b, c, h1, h2 with
    | y :: ys, z :: zs, h1, h2 =>
      rw [fr_lx] at h1 h2 ⊢
      by_cases e1 : x = y
      · rw [if_pos e1] at h1
        subst e1
        by_cases e2 : x = z
        · rw [if_pos e2] at h2 ⊢
          exact ih _ _ h1 h2
        · rw [if_neg e2] at h2 ⊢
          exact h2
      · rw [if_neg e1] at h1
        have h1' := of_decide_eq_true h1
        by_cases e2 : y = z
        · subst e2
          rw [if_neg e1]
          exact h1
        · rw [if_neg e2] at h2
          have h2' := of_decide_eq_true h2
          rw [if_neg (by omega)]
          exact decide_eq_true (by omega)
theorem fr_lx_tri : ∀ a b : List Int, a.length = b.length → fr_lx a b = true ∨ fr_lx b a = true ∨ a = b := by
  intro a
  induction a with
  | nil =>
    intro b h
    match b, h with
    | [], _ => exact Or.inr (Or.inr rfl)
  | cons x xs ih =>
    intro b h
    match b, h with
    | y :: ys, h =>
      rw [List.length_cons, List.length_cons] at h
      rw [fr_lx, fr_lx]
      by_cases e : x = y
      · subst e
        rw [if_pos rfl, if_pos rfl]
        rcases ih ys (by omega) with h | h | h
        · exact Or.inl h
        · exact Or.inr (Or.inl h)
        · exact Or.inr (Or.inr (by rw [h]))
      · rw [if_neg e, if_neg (fun e2 => e e2.symm)]
        rcases Int.lt_or_gt_of_ne e with h | h
        · exact Or.inr (Or.inl (decide_eq_true h))
        · exact Or.inl (decide_eq_true h)
def fr_Wt (S : fr_SR) (D : fr_DR) (c : Nat) : Bool := fr_hd S (fr_kd D) (fr_fd D) (fr_lv D) c && decide (fr_mk D c = 0)
section
variable {S : fr_SR} {D : fr_DR}
theorem fr_hd_live {ch j : Nat} (h : fr_hd S (fr_kd D) (fr_fd D) (fr_lv D) ch = true) (hj : j < fr_pn S (ch / 216)) : fr_pl ch j ∈ fr_lv D := ((fr_sm_pth _).mp (fr_hd_c h).2.2.1 j hj).2.1
theorem fr_hd_zero {ch j : Nat} (h : fr_hd S (fr_kd D) (fr_fd D) (fr_lv D) ch = true) (hj : fr_pn S (ch / 216) ≤ j) (hj3 : j < 3) : fr_pl ch j = 0 := of_decide_eq_true ((fr_al_iff _ _).mp (fr_hd_c h).2.1 j hj (by omega))
theorem fr_cd_inj {a b : Nat} (hF : fr_FW D) (ha : fr_hd S (fr_kd D) (fr_fd D) (fr_lv D) a = true) (hb : fr_hd S (fr_kd D) (fr_fd D) (fr_lv D) b = true) (h : fr_cd S D a = fr_cd S D b) : a = b := by
  unfold fr_cd fr_cd1 fr_cd2 fr_cd3 at h
  simp only [fr_tl, List.cons.injEq] at h
  obtain ⟨_, _, _, _, _, hr, h0, h1, h2, _⟩ := h
  have er : a / 216 = b / 216 := by omega
  have hj : ∀ j, j < 3 → fr_nn S D a j = fr_nn S D b j → fr_pl a j = fr_pl b j := by
    intro j hj e
    rcases Nat.lt_or_ge j (fr_pn S (a / 216)) with hp | hp
    · unfold fr_nn at e
      rw [if_pos hp, if_pos (by rw [← er]; exact hp)] at e
      have la := fr_hd_live ha hp
      have lb := fr_hd_live hb (j := j) (by rw [← er]; exact hp)
      rcases fr_pw hF.2.2.2.1 _ la _ lb with h | h | h
      · exact h
      · omega
      · omega
    · rw [fr_hd_zero ha hp hj, fr_hd_zero hb (by rw [← er]; exact hp) hj]
  have e0 := hj 0 (by omega) (Int.ofNat_inj.mp h0)
  have e1 := hj 1 (by omega) (Int.ofNat_inj.mp h1)
  have e2 := hj 2 (by omega) (Int.ofNat_inj.mp h2)
  have f0 : a / 36 % 6 = b / 36 % 6 := e0
  have f1 : a / 6 % 6 = b / 6 % 6 := e1
  have f2 : a % 6 = b % 6 := e2
  omega
theorem fr_Wt_hd {c : Nat} (h : fr_Wt S D c = true) : fr_hd S (fr_kd D) (fr_fd D) (fr_lv D) c = true := by
  unfold fr_Wt at h
  rw [Bool.and_eq_true] at h
  exact h.1
theorem fr_bf_irr (a : Nat) : fr_bf S D a a = false := fr_lx_irr _
theorem fr_bf_tr {a b c : Nat} (h1 : fr_bf S D a b = true) (h2 : fr_bf S D b c = true) : fr_bf S D a c = true := fr_lx_tr _ _ _ h1 h2
theorem fr_cd_len (a : Nat) : (fr_cd S D a).length = 9 := by
  unfold fr_cd fr_cd1 fr_cd2 fr_cd3
  simp only [fr_tl, List.length_cons, List.length_nil]
theorem fr_bf_tri {a b : Nat} (hF : fr_FW D) (ha : fr_Wt S D a = true) (hb : fr_Wt S D b = true) (hne : a ≠ b) : fr_bf S D a b = true ∨ fr_bf S D b a = true := by
  rcases fr_lx_tri (fr_cd S D a) (fr_cd S D b) (by rw [fr_cd_len, fr_cd_len]) with h | h | h
  · exact Or.inl h
  · exact Or.inr h
  · exact absurd (fr_cd_inj hF (fr_Wt_hd ha) (fr_Wt_hd hb) h) hne
theorem fr_bf_as {a b : Nat} (h1 : fr_bf S D a b = true) (h2 : fr_bf S D b a = true) : False := by
  have := fr_bf_tr h1 h2
  rw [fr_bf_irr] at this
  cases this
def fr_af (S : fr_SR) (D : fr_DR) (a : Option Nat) (c : Nat) : Bool := match a with
  | none => true
  | some x => fr_bf S D x c
def fr_el (S : fr_SR) (D : fr_DR) (a : Option Nat) (c : Nat) : Bool := fr_Wt S D c && fr_af S D a c
def fr_bt (S : fr_SR) (D : fr_DR) (b : Option Nat) (c : Nat) : Bool := match b with
  | none => true
  | some x => fr_bf S D c x
def fr_nl (S : fr_SR) (D : fr_DR) (a : Option Nat) (b : Option Nat) (c : Nat) : Nat → Option Nat
  | 0 => b
  | k + 1 => fr_nl S D a (if (fr_el S D a c && fr_bt S D b c) = true then some c else b) (c + 1) k
def fr_nxt (S : fr_SR) (D : fr_DR) (a : Option Nat) : Option Nat := fr_nl S D a none 0 864
def fr_at (S : fr_SR) (D : fr_DR) : Nat → Option Nat
  | 0 => fr_nxt S D none
  | k + 1 => match fr_at S D k with
    | none => none
    | some c => fr_nxt S D (some c)
/-- b is the best of the choices below c -/
def fr_Be (S : fr_SR) (D : fr_DR) (a : Option Nat) (b : Option Nat) (c : Nat) : Prop :=
  (∀ m, b = some m → m < c ∧ fr_el S D a m = true ∧ ∀ x, x < c → fr_el S D a x = true → x ≠ m → fr_bf S D m x = true) ∧ (b = none → ∀ x, x < c → fr_el S D a x = false)
theorem fr_el_Wt {a : Option Nat} {c : Nat} (h : fr_el S D a c = true) : fr_Wt S D c = true := by
  unfold fr_el at h
  rw [Bool.and_eq_true] at h
  exact h.1
theorem fr_nl_Be {a : Option Nat} (hF : fr_FW D) : ∀ (k c : Nat) (b : Option Nat), fr_Be S D a b c → fr_Be S D a (fr_nl S D a b c k) (c + k) := by
  intro k
  induction k with
  | zero => intro c b h; exact h
  | succ k ih =>
    intro c b h
    rw [fr_nl, show c + (k + 1) = c + 1 + k by omega]
    apply ih
    obtain ⟨h1, h2⟩ := h
    cases he : fr_el S D a c with
    | false =>
      rw [Bool.false_and, if_neg (by decide)]
      refine ⟨fun m hm => ?_, fun hn x hx => ?_⟩
      · obtain ⟨a1, a2, a3⟩ := h1 m hm
        refine ⟨by omega, a2, fun x hx hex hne => ?_⟩
        by_cases e : x = c
        · rw [e, he] at hex; cases hex
        · exact a3 x (by omega) hex hne
      · by_cases e : x = c
        · rw [e]; exact he
        · exact h2 hn x (by omega)
    | true =>
      rw [Bool.true_and]
      cases b with
      | none =>
        rw [fr_bt, if_pos rfl]
        refine ⟨fun m hm => ?_, fun hn => by cases hn⟩
        cases hm
        refine ⟨by omega, he, fun x hx hex hne => ?_⟩
        rw [h2 rfl x (by omega)] at hex
        cases hex
      | some b =>
        obtain ⟨a1, a2, a3⟩ := h1 b rfl
        rw [fr_bt]
        cases hb : fr_bf S D c b with
        | true =>
          rw [if_pos rfl]
          refine ⟨fun m hm => ?_, fun hn => by cases hn⟩
          cases hm
          refine ⟨by omega, he, fun x hx hex hne => ?_⟩
          by_cases e : x = b
          · rw [e]; exact hb
          · exact fr_bf_tr hb (a3 x (by omega) hex e)
        | false =>
          rw [if_neg (by decide)]
          refine ⟨fun m hm => ?_, fun hn => by cases hn⟩
          cases hm
          refine ⟨by omega, a2, fun x hx hex hne => ?_⟩
          by_cases e : x = c
          · subst e
            rcases fr_bf_tri hF (fr_el_Wt he) (fr_el_Wt a2) (by omega) with h | h
            · rw [hb] at h; cases h
            · exact h
          · exact a3 x (by omega) hex hne
theorem fr_nxt_Be {a : Option Nat} (hF : fr_FW D) : fr_Be S D a (fr_nxt S D a) 864 := by
  have := fr_nl_Be (S := S) (a := a) hF 864 0 none ⟨(fun m hm => by cases hm), fun _ x hx => absurd hx (Nat.not_lt_zero _)⟩
  rw [Nat.zero_add] at this
  exact this
/-- an initial piece of the waiting choices in order -/
def fr_Sg (S : fr_SR) (D : fr_DR) (C : List Nat) : Prop :=
  C.Pairwise (fun a b => fr_bf S D a b = true) ∧ (∀ x, x ∈ C → fr_Wt S D x = true ∧ x < 864) ∧ (∀ x, x < 864 → fr_Wt S D x = true → x ∉ C → ∀ y, y ∈ C → fr_bf S D y x = true)
theorem fr_nxt_eq {a : Option Nat} {c : Nat} (hF : fr_FW D) (hc : c < 864) (he : fr_el S D a c = true) (hm : ∀ x, x < 864 → fr_el S D a x = true → x ≠ c → fr_bf S D c x = true) : fr_nxt S D a = some c := by
  obtain ⟨h1, h2⟩ := fr_nxt_Be (S := S) (a := a) hF
  cases e : fr_nxt S D a with
  | none => rw [h2 e c hc] at he; cases he
  | some m =>
    obtain ⟨a1, a2, a3⟩ := h1 m e
    by_cases em : m = c
    · rw [em]
    · exfalso
      exact fr_bf_as (hm m a1 a2 em) (a3 c hc he (fun h => em h.symm))
theorem fr_nxt_none {a : Option Nat} (hF : fr_FW D) (h : ∀ x, x < 864 → fr_el S D a x = false) : fr_nxt S D a = none := by
  obtain ⟨h1, h2⟩ := fr_nxt_Be (S := S) (a := a) hF
  cases e : fr_nxt S D a with
  | none => rfl
  | some m =>
    obtain ⟨a1, a2, a3⟩ := h1 m e
    rw [h m a1] at a2
    cases a2
theorem fr_Sg_at {C : List Nat} (hF : fr_FW D) (hC : fr_Sg S D C) : ∀ j, j < C.length → fr_at S D j = C[j]? := by
  obtain ⟨h1, h2, h3⟩ := hC
  have hget := List.pairwise_iff_getElem.mp h1
  have hafter : ∀ j (hj : j < C.length), ∀ x, x < 864 → fr_Wt S D x = true → (∀ i (hi : i < C.length), i ≤ j → x ≠ C[i]) → fr_bf S D C[j] x = true := by
    intro j hj x hx hw hne
    by_cases hm : x ∈ C
    · obtain ⟨i, hi, e⟩ := List.mem_iff_getElem.mp hm
      rw [← e]
      refine hget j i hj hi ?_
      rcases Nat.lt_or_ge j i with h | h
      · exact h
      · exact absurd e.symm (hne i hi h)
    · exact h3 x hx hw hm _ (List.getElem_mem hj)
  intro j
  induction j with
  | zero =>
    intro hj
    rw [List.getElem?_eq_getElem hj]
    have hw := h2 _ (List.getElem_mem hj)
    refine fr_nxt_eq hF hw.2 ?_ (fun x hx hex hne => ?_)
    · show (fr_Wt S D C[0] && true) = true
      rw [hw.1]; rfl
    · exact hafter 0 hj x hx (fr_el_Wt hex) (fun i hi hi0 => by
        have : i = 0 := by omega
        subst this
        exact hne)
  | succ j ih =>
    intro hj
    have hj' : j < C.length := by omega
    rw [fr_at, ih hj', List.getElem?_eq_getElem hj', List.getElem?_eq_getElem hj]
    show fr_nxt S D (some C[j]) = some C[j + 1]
    have hw := h2 _ (List.getElem_mem hj)
    have hlt := hget j (j + 1) hj' hj (by omega)
    refine fr_nxt_eq hF hw.2 ?_ (fun x hx hex hne => ?_)
    · show (fr_Wt S D C[j + 1] && fr_bf S D C[j] C[j + 1]) = true
      rw [hw.1, hlt]; rfl
    · have hex : (fr_Wt S D x && fr_bf S D C[j] x) = true := hex
      rw [Bool.and_eq_true] at hex
      refine hafter (j + 1) hj x hx hex.1 (fun i hi hij e => ?_)
      by_cases ei : i = j + 1
      · subst ei; exact hne e
      · by_cases ej : i = j
        · subst ej
          have := hex.2
          rw [e, fr_bf_irr] at this
          cases this
        · have h5 := hget i j hi hj' (by omega)
          have h6 := hex.2
          rw [e] at h6
          exact fr_bf_as h5 h6
theorem fr_Sg_all {C : List Nat} (hF : fr_FW D) (hC : fr_Sg S D C) (hall : ∀ x, x < 864 → fr_Wt S D x = true → x ∈ C) : ∀ j, C.length ≤ j → fr_at S D j = none := by
  intro j
  induction j with
  | zero =>
    intro hj
    have hnil : C = [] := List.length_eq_zero_iff.mp (by omega)
    refine fr_nxt_none hF (fun x hx => ?_)
    unfold fr_el
    cases e : fr_Wt S D x with
    | false => rfl
    | true =>
      have := hall x hx e
      rw [hnil] at this
      cases this
  | succ j ih =>
    intro hj
    rw [fr_at]
    rcases Nat.lt_or_ge j C.length with h | h
    · have hlast : j + 1 = C.length := by omega
      rw [fr_Sg_at hF hC j h, List.getElem?_eq_getElem h]
      show fr_nxt S D (some C[j]) = none
      refine fr_nxt_none hF (fun x hx => ?_)
      unfold fr_el fr_af
      cases e : fr_Wt S D x with
      | false => rfl
      | true =>
        obtain ⟨i, hi, e2⟩ := List.mem_iff_getElem.mp (hall x hx e)
        rw [Bool.true_and]
        show fr_bf S D C[j] x = false
        cases e3 : fr_bf S D C[j] x with
        | false => rfl
        | true =>
          exfalso
          by_cases ei : i = j
          · subst ei
            rw [e2, fr_bf_irr] at e3
            cases e3
          · have := List.pairwise_iff_getElem.mp hC.1 i j hi h (by omega)
            rw [e2] at this
            exact fr_bf_as this e3
    · rw [ih h]
end
end
section
theorem fr_nu_nv {D : fr_DR} (h : fr_FW D) {f : Nat} (hf : f < 6) : fr_nu D f = nI (fr_nv D f) ∧ fr_nv D f < 2 ^ 27 := by
  by_cases hm : f ∈ fr_lv D
  · obtain ⟨a, b, c⟩ := h.2.2.1 f hm
    have := h.2.2.2.2
    exact ⟨a, by omega⟩
  · have := h.2.1 f hf hm
    unfold fr_nv
    rw [this]
    exact ⟨rfl, by decide⟩
theorem fr_nn_lt {S : fr_SR} {D : fr_DR} (h : fr_FW D) (ch j : Nat) : fr_nn S D ch j < 2 ^ 27 := by
  unfold fr_nn
  split
  · exact (fr_nu_nv h (fr_pl_lt ch j)).2
  · decide
theorem fr_g3_lt {a b c j B : Nat} (ha : a < B) (hb : b < B) (hc : c < B) : fr_g3 a b c j < B := by
  unfold fr_g3 fr_hi fr_lo
  repeat' split
  all_goals omega
theorem fr_gg_lt {S : fr_SR} {D : fr_DR} (h : fr_FW D) (ch j : Nat) : fr_gg S D ch j < 2 ^ 27 := fr_g3_lt (fr_nn_lt h ch 0) (fr_nn_lt h ch 1) (fr_nn_lt h ch 2)
theorem fr_cmp {post : Int32 → Prop} {P : Prop} {x y : Nat} {L : Bool} (hx : x < 2 ^ 31) (hy : y < 2 ^ 31) (h : post (fr_i (if (x : Int) = (y : Int) then L else decide ((y : Int) < (x : Int))))) (hP : post (fr_i L) → P) :
    (nI x = nI y → P) ∧ (¬ nI x = nI y → ((nI x ≤ nI y → post 0) ∧ (¬ nI x ≤ nI y → post 1))) := by
  by_cases e : x = y
  · rw [if_pos (by rw [e])] at h
    exact br_t (by rw [e]) (hP h)
  · rw [if_neg (fun e2 => e (Int.ofNat_inj.mp e2))] at h
    refine br_f (by rw [nI_eq hx hy]; exact e) (br_c (fun e2 => ?_) (fun e2 => ?_))
    · rw [nI_leI hx hy] at e2
      rw [decide_eq_false (by omega)] at h
      exact h
    · rw [nI_leI hx hy] at e2
      rw [decide_eq_true (by omega)] at h
      exact h
def fr_o (a : Option Nat) : Int32 := match a with
  | none => -1
  | some x => nI x
section
variable {S : fr_SR} {D : fr_DR} {hy : Int32} {bd ds hl vr : fr_FN}
theorem fr_y_number {post : Int32 → Prop} {ch j : Nat} (hF : fr_FW D) (hc : ch < 864) (hW : fr_WR S (ch / 216)) (hj : j < 3) (hp : post (nI (fr_nn S D ch j))) : wpY_number post (fr_mY S D hy bd ds hl vr) (nI ch) (nI j) := by
  have e216 : nI ch / 216 = nI (ch / 216) := pk_div (d := 216) (by omega) (by omega) (by omega)
  have hpn := hW.1.2.2.2.1
  refine ⟨by decide, ?_⟩
  rw [e216]
  refine ⟨vp_in_nI (by omega) (by omega), ?_⟩
  rw [nI_clamp (by omega), hW.1.2.2.1]
  unfold fr_nn at hp
  refine br_c (fun e => ?_) (fun e => ?_)
  · rw [nI_ltI (by omega) (by omega)] at e
    rw [if_pos e] at hp
    have hpl := fr_pl_lt ch j
    refine fr_y_place (by omega) hj ⟨vp_in_nI hpl (by omega), ?_⟩
    rw [nI_clamp (by omega), (fr_nu_nv hF hpl).1]
    exact hp
  · rw [nI_ltI (by omega) (by omega)] at e
    rw [if_neg e] at hp
    exact hp
theorem fr_y_greatest {post : Int32 → Prop} {ch j : Nat} (hF : fr_FW D) (hc : ch < 864) (hW : fr_WR S (ch / 216)) (hj : j < 3) (hp : post (nI (fr_gg S D ch j))) : wpY_greatest post (fr_mY S D hy bd ds hl vr) (nI ch) (nI j) := by
  have h0 := fr_nn_lt (S := S) hF ch 0
  have h1 := fr_nn_lt (S := S) hF ch 1
  have h2 := fr_nn_lt (S := S) hF ch 2
  unfold fr_gg at hp
  unfold wpY_greatest
  refine fr_y_number (j := 0) hF hc hW (by omega) ?_
  refine fr_y_number (j := 1) hF hc hW (by omega) ?_
  refine fr_y_number (j := 2) hF hc hW (by omega) ?_
  generalize fr_nn S D ch 0 = a at *
  generalize fr_nn S D ch 1 = b at *
  generalize fr_nn S D ch 2 = c at *
  have h49 : wY_greatest_49 post (nI j) (nI c) (nI (fr_hi a b)) (nI (fr_lo a b)) (nI (fr_ru S)) (fr_bY S) (nI (fr_md D)) (fr_pr D) hy (fr_sa S) (fr_co S) (fr_po S) (fr_ac S) bd (fr_cK S) (fr_cN S) (fr_cT S) (fr_tF S) (fr_tH S) (fr_tO S) ds (fr_aX S) (fr_aY S) (fr_aZ S) (fr_nu D) (fr_kd D) (fr_fd D) hl (fr_mk D) vr (fr_ou D) := by
    have hhi : fr_hi a b < 2 ^ 27 := by unfold fr_hi; split <;> omega
    have hlo : fr_lo a b < 2 ^ 27 := by unfold fr_lo; split <;> omega
    unfold fr_g3 at hp
    refine pk_eq j 0 (fun e => ?_) (fun e => ?_)
    · rw [if_pos e] at hp
      exact pk_le (fr_hi a b) c (fun e2 => by rw [if_pos e2] at hp; exact hp) (fun e2 => by rw [if_neg (by omega)] at hp; exact hp)
    · rw [if_neg e] at hp
      refine pk_eq j 2 (fun e => ?_) (fun e => ?_)
      · rw [if_pos e] at hp
        exact pk_le c (fr_lo a b) (fun e2 => by rw [if_pos e2] at hp; exact hp) (fun e2 => by rw [if_neg (by omega)] at hp; exact hp)
      · rw [if_neg e] at hp
        refine pk_le c (fr_hi a b) (fun e2 => ?_) (fun e2 => by rw [if_neg (by omega)] at hp; exact hp)
        rw [if_pos e2] at hp
        exact pk_le (fr_lo a b) c (fun e3 => by rw [if_pos e3] at hp; exact hp) (fun e3 => by rw [if_neg (by omega)] at hp; exact hp)
  unfold fr_hi fr_lo at h49
  refine pk_le a b (fun e => ?_) (fun e => ?_)
  · rw [if_pos e, if_pos e] at h49
    exact br_t (nI_le e (by omega)) h49
  · rw [if_neg (by omega), if_neg (by omega)] at h49
    exact br_f (nI_ge e (by omega)) h49
theorem fr_y_tc6 {post : Int32 → Prop} {r : Nat} (hr : r < 4) (hW : fr_WR S r) : ∀ (k n c a : Nat), c + k = 5 * r + fr_cn S r → 5 * r ≤ c → k < n → post (nI (a + fr_su (fr_tn S) c k)) → wY_testCount_6 post (nI r) (nI (fr_ru S)) (fr_bY S) (nI (fr_md D)) (fr_pr D) hy (fr_sa S) (fr_co S) (fr_po S) (fr_ac S) bd (fr_cK S) (fr_cN S) (fr_cT S) (fr_tF S) (fr_tH S) (fr_tO S) ds (fr_aX S) (fr_aY S) (fr_aZ S) (fr_nu D) (fr_kd D) (fr_fd D) hl (fr_mk D) vr (fr_ou D) n (nI a) (nI c) := by
  have hcn := hW.1.2.1
  have hrcl : (nI r).toNatClampNeg = r := nI_clamp (by omega)
  have e0 : 5 * nI r + fr_co S (nI r).toNatClampNeg = nI (5 * r + fr_cn S r) := by rw [hrcl, hW.1.1, fr_l5]
  have hrin : vp_in (nI r) 4 := vp_in_nI hr (by omega)
  intro k
  induction k with
  | zero =>
    intro n c a hi h4 hn hp
    obtain ⟨n, rfl⟩ : ∃ m, n = m + 1 := ⟨n - 1, by omega⟩
    exact ⟨hrin, br_t (by rw [e0]; exact nI_le (by omega) (by omega)) hp⟩
  | succ k ih =>
    intro n c a hi h4 hn hp
    obtain ⟨n, rfl⟩ : ∃ m, n = m + 1 := ⟨n - 1, by omega⟩
    have hWC := hW.2 c h4 (by omega)
    refine ⟨hrin, br_f (by rw [e0]; exact nI_ge (by omega) (by omega)) ⟨vp_in_nI (by omega) (by omega), nm_r (e' := nI (a + fr_tn S c)) (by rw [nI_clamp (by omega), hWC.1, nI_add]) (nm_r (nI_1 c) (ih n (c + 1) _ (by omega) (by omega) (by omega) ?_))⟩⟩
    rw [fr_su] at hp
    rw [Nat.add_assoc]
    exact hp
theorem fr_y_testCount {post : Int32 → Prop} {r : Nat} (hr : r < 4) (hW : fr_WR S r) (hp : post (nI (fr_tc S r))) : wpY_testCount post (fr_mY S D hy bd ds hl vr) (nI r) := by
  refine nm_r (fr_k5 r) ⟨_, fr_y_tc6 hr hW (fr_cn S r) _ (5 * r) 0 rfl (Nat.le_refl _) (Nat.lt_succ_self _) ?_⟩
  rw [Nat.zero_add]
  exact hp
theorem fr_su_le {f : Nat → Nat} {B : Nat} : ∀ (k i : Nat), (∀ j, i ≤ j → j < i + k → f j ≤ B) → fr_su f i k ≤ k * B := by
  intro k
  induction k with
  | zero => intro i _; exact Nat.zero_le _
  | succ k ih =>
    intro i h
    have h1 := h i (by omega) (by omega)
    have h2 := ih (i + 1) (fun j a b => h j (by omega) (by omega))
    rw [fr_su, Nat.add_mul]
    omega
theorem fr_tc_lt {r : Nat} (hW : fr_WR S r) : fr_tc S r ≤ 20 := by
  have h1 := fr_su_le (f := fr_tn S) (B := 4) (fr_cn S r) (5 * r) (fun j h1 h2 => (hW.2 j h1 h2).2.1)
  have := hW.1.2.1
  unfold fr_tc
  omega
theorem fr_y_bf160 {post : Int32 → Prop} {a b : Nat} (hF : fr_FW D) (ha : a < 864) (hb : b < 864) (hWa : fr_WR S (a / 216)) (hWb : fr_WR S (b / 216)) :
    ∀ (k n i : Nat), i + k = 3 → k < n → post (fr_i (fr_lx (fr_cd3 S D a i k) (fr_cd3 S D b i k))) → wY_before_160 post (nI a) (nI b) (nI (fr_ru S)) (fr_bY S) (nI (fr_md D)) (fr_pr D) hy (fr_sa S) (fr_co S) (fr_po S) (fr_ac S) bd (fr_cK S) (fr_cN S) (fr_cT S) (fr_tF S) (fr_tH S) (fr_tO S) ds (fr_aX S) (fr_aY S) (fr_aZ S) (fr_nu D) (fr_kd D) (fr_fd D) hl (fr_mk D) vr (fr_ou D) n (nI i) := by
  intro k
  induction k with
  | zero =>
    intro n i hi hn hp
    obtain ⟨n, rfl⟩ : ∃ m, n = m + 1 := ⟨n - 1, by omega⟩
    exact br_t (nI_le (a := 3) (by omega) (by omega)) hp
  | succ k ih =>
    intro n i hi hn hp
    obtain ⟨n, rfl⟩ : ∃ m, n = m + 1 := ⟨n - 1, by omega⟩
    have h1 := fr_nn_lt (S := S) hF a i
    have h2 := fr_nn_lt (S := S) hF b i
    refine br_f (nI_ge (b := 3) (by omega) (by omega)) (fr_y_number hF ha hWa (by omega) (fr_y_number hF hb hWb (by omega) ?_))
    exact fr_cmp (by omega) (by omega) hp (fun hq => nm_r (nI_1 i) (ih n (i + 1) (by omega) (by omega) hq))
theorem fr_y_bf54 {post : Int32 → Prop} {a b : Nat} (hF : fr_FW D) (ha : a < 864) (hb : b < 864) (hWa : fr_WR S (a / 216)) (hWb : fr_WR S (b / 216)) :
    ∀ (k n i : Nat), i + k = 3 → k < n → post (fr_i (fr_lx (fr_cd1 S D a i k) (fr_cd1 S D b i k))) → wY_before_54 post (nI a) (nI b) (nI (a / 216)) (nI (b / 216)) (nI (fr_ru S)) (fr_bY S) (nI (fr_md D)) (fr_pr D) hy (fr_sa S) (fr_co S) (fr_po S) (fr_ac S) bd (fr_cK S) (fr_cN S) (fr_cT S) (fr_tF S) (fr_tH S) (fr_tO S) ds (fr_aX S) (fr_aY S) (fr_aZ S) (fr_nu D) (fr_kd D) (fr_fd D) hl (fr_mk D) vr (fr_ou D) n (nI i) := by
  intro k
  induction k with
  | zero =>
    intro n i hi hn hp
    obtain ⟨n, rfl⟩ : ∃ m, n = m + 1 := ⟨n - 1, by omega⟩
    have t1 := fr_tc_lt hWa
    have t2 := fr_tc_lt hWb
    have hp' : post (fr_i (if ((fr_tc S (a / 216) : Nat) : Int) = ((fr_tc S (b / 216) : Nat) : Int) then (if (-((a / 216 : Nat) : Int)) = (-((b / 216 : Nat) : Int)) then fr_lx (fr_cd3 S D a 0 3) (fr_cd3 S D b 0 3) else decide ((-((b / 216 : Nat) : Int)) < (-((a / 216 : Nat) : Int)))) else decide (((fr_tc S (b / 216) : Nat) : Int) < ((fr_tc S (a / 216) : Nat) : Int)))) := hp
    refine br_t (nI_le (a := 3) (by omega) (by omega)) (fr_y_testCount (by omega) hWa (fr_y_testCount (by omega) hWb ?_))
    refine fr_cmp (by omega) (by omega) hp' (fun hq => ?_)
    refine pk_eq (a / 216) (b / 216) (fun e => ?_) (fun e => ?_)
    · rw [if_pos (by rw [e])] at hq
      exact ⟨4, fr_y_bf160 hF ha hb hWa hWb 3 4 0 (by omega) (by omega) hq⟩
    · rw [if_neg (by omega)] at hq
      refine pk_le (b / 216) (a / 216) (fun e2 => ?_) (fun e2 => ?_)
      · rw [decide_eq_false (by omega)] at hq; exact hq
      · rw [decide_eq_true (by omega)] at hq; exact hq
  | succ k ih =>
    intro n i hi hn hp
    obtain ⟨n, rfl⟩ : ∃ m, n = m + 1 := ⟨n - 1, by omega⟩
    have h1 := fr_gg_lt (S := S) hF a i
    have h2 := fr_gg_lt (S := S) hF b i
    refine br_f (nI_ge (b := 3) (by omega) (by omega)) (fr_y_greatest hF ha hWa (by omega) (fr_y_greatest hF hb hWb (by omega) ?_))
    exact fr_cmp (by omega) (by omega) hp (fun hq => nm_r (nI_1 i) (ih n (i + 1) (by omega) (by omega) hq))
theorem fr_y_before {post : Int32 → Prop} {a b : Nat} (hF : fr_FW D) (ha : a < 864) (hb : b < 864) (hWa : fr_WR S (a / 216)) (hWb : fr_WR S (b / 216)) (hp : post (fr_i (fr_bf S D a b))) : wpY_before post (fr_mY S D hy bd ds hl vr) (nI a) (nI b) := by
  have e1 : nI a / 216 = nI (a / 216) := pk_div (d := 216) (by omega) (by omega) (by omega)
  have e2 : nI b / 216 = nI (b / 216) := pk_div (d := 216) (by omega) (by omega) (by omega)
  have i1 : vp_in (nI (a / 216)) 4 := vp_in_nI (by omega) (by omega)
  have i2 : vp_in (nI (b / 216)) 4 := vp_in_nI (by omega) (by omega)
  have hp' : post (fr_i (if (fr_sa S (a / 216)).toInt = (fr_sa S (b / 216)).toInt then fr_lx (fr_cd1 S D a 0 3) (fr_cd1 S D b 0 3) else decide ((fr_sa S (b / 216)).toInt < (fr_sa S (a / 216)).toInt))) := hp
  refine ⟨by decide, nm_r e1 ⟨by decide, nm_r e2 ⟨i1, i2, ?_⟩⟩⟩
  rw [nI_clamp (by omega), nI_clamp (by omega)]
  refine br_c (fun e => ?_) (fun e => ⟨i1, i2, br_c (fun e3 => ?_) (fun e3 => ?_)⟩)
  · rw [if_pos (by rw [e])] at hp'
    exact ⟨4, fr_y_bf54 hF ha hb hWa hWb 3 4 0 (by omega) (by omega) hp'⟩
  · rw [if_neg (fun h => e (Int32.toInt_inj.mp h)), decide_eq_false (by rw [Int32.le_iff_toInt_le] at e3; omega)] at hp'
    exact hp'
  · rw [if_neg (fun h => e (Int32.toInt_inj.mp h)), decide_eq_true (by rw [Int32.le_iff_toInt_le] at e3; omega)] at hp'
    exact hp'
theorem fr_Wt_r {c : Nat} (hS : fr_W1 S) (h : fr_Wt S D c = true) : fr_WR S (c / 216) ∧ c / 216 < fr_R S := by
  have h1 := (fr_hd_c (fr_Wt_hd h)).1
  have := fr_R_le (S := S)
  exact ⟨hS.2.2.1 _ (by omega), h1⟩
theorem fr_y_next4 {post : Int32 → Prop} {a : Option Nat} (hS : fr_W1 S) (hF : fr_FW D) (hH : fr_HL S D hl) (ha : ∀ x, a = some x → x < 864 ∧ fr_Wt S D x = true) :
    ∀ (k n c : Nat) (b : Option Nat), c + k = 864 → k < n → (∀ x, b = some x → x < 864 ∧ fr_Wt S D x = true) → post (fr_o (fr_nl S D a b c k)) → wY_next_4 post (fr_o a) (nI (fr_ru S)) (fr_bY S) (nI (fr_md D)) (fr_pr D) hy (fr_sa S) (fr_co S) (fr_po S) (fr_ac S) bd (fr_cK S) (fr_cN S) (fr_cT S) (fr_tF S) (fr_tH S) (fr_tO S) ds (fr_aX S) (fr_aY S) (fr_aZ S) (fr_nu D) (fr_kd D) (fr_fd D) hl (fr_mk D) vr (fr_ou D) n (fr_o b) (nI c) := by
  intro k
  induction k with
  | zero =>
    intro n c b hi hn hb hp
    obtain ⟨n, rfl⟩ : ∃ m, n = m + 1 := ⟨n - 1, by omega⟩
    exact br_t (nI_le (a := 864) (by omega) (by omega)) hp
  | succ k ih =>
    intro n c b hi hn hb hp
    obtain ⟨n, rfl⟩ : ∃ m, n = m + 1 := ⟨n - 1, by omega⟩
    have hcl : (nI c).toNatClampNeg = c := nI_clamp (by omega)
    have hin : vp_in (nI c) 864 := vp_in_nI (by omega) (by omega)
    have e1 : nI c + 1 = nI (c + 1) := nI_1 c
    rw [fr_nl] at hp
    have hskip : fr_el S D a c = false → wY_next_4 post (fr_o a) (nI (fr_ru S)) (fr_bY S) (nI (fr_md D)) (fr_pr D) hy (fr_sa S) (fr_co S) (fr_po S) (fr_ac S) bd (fr_cK S) (fr_cN S) (fr_cT S) (fr_tF S) (fr_tH S) (fr_tO S) ds (fr_aX S) (fr_aY S) (fr_aZ S) (fr_nu D) (fr_kd D) (fr_fd D) hl (fr_mk D) vr (fr_ou D) n (fr_o b) (nI (c + 1)) := by
      intro e
      rw [e, Bool.false_and, if_neg (by decide)] at hp
      exact ih n (c + 1) b (by omega) (by omega) hb hp
    refine br_f (nI_ge (b := 864) (by omega) (by omega)) ⟨hin, ?_⟩
    rw [hcl, hH c (by omega)]
    cases eh : fr_hd S (fr_kd D) (fr_fd D) (fr_lv D) c with
    | false => exact br_t rfl (nm_r e1 (hskip (by unfold fr_el fr_Wt; rw [eh]; rfl)))
    | true =>
      refine br_f (by decide) ⟨hin, ?_⟩
      by_cases em : fr_mk D c = 0
      · have hw : fr_Wt S D c = true := by unfold fr_Wt; rw [eh, decide_eq_true em]; rfl
        refine br_t em ?_
        have h45 : fr_el S D a c = true → wY_next_45 post (wY_next_4 post (fr_o a) (nI (fr_ru S)) (fr_bY S) (nI (fr_md D)) (fr_pr D) hy (fr_sa S) (fr_co S) (fr_po S) (fr_ac S) bd (fr_cK S) (fr_cN S) (fr_cT S) (fr_tF S) (fr_tH S) (fr_tO S) ds (fr_aX S) (fr_aY S) (fr_aZ S) (fr_nu D) (fr_kd D) (fr_fd D) hl (fr_mk D) vr (fr_ou D) n) (fr_o a) (fr_o b) (nI c) (nI (fr_ru S)) (fr_bY S) (nI (fr_md D)) (fr_pr D) hy (fr_sa S) (fr_co S) (fr_po S) (fr_ac S) bd (fr_cK S) (fr_cN S) (fr_cT S) (fr_tF S) (fr_tH S) (fr_tO S) ds (fr_aX S) (fr_aY S) (fr_aZ S) (fr_nu D) (fr_kd D) (fr_fd D) hl (fr_mk D) vr (fr_ou D) := by
          intro e
          rw [e, Bool.true_and] at hp
          cases b with
          | none =>
            refine br_t (by decide) (nm_r e1 ?_)
            exact ih n (c + 1) (some c) (by omega) (by omega) (fun x hx => by cases hx; exact ⟨by omega, hw⟩) hp
          | some m =>
            obtain ⟨hm1, hm2⟩ := hb m rfl
            refine br_f (nI_pos (by omega)) (fr_y_before hF (by omega) hm1 (fr_Wt_r hS hw).1 (fr_Wt_r hS hm2).1 ?_)
            have hp' : post (fr_o (fr_nl S D a (if fr_bf S D c m = true then some c else some m) (c + 1) k)) := hp
            cases eb : fr_bf S D c m with
            | false =>
              rw [eb, if_neg (by decide)] at hp'
              exact br_t rfl (nm_r e1 (ih n (c + 1) (some m) (by omega) (by omega) hb hp'))
            | true =>
              rw [eb, if_pos rfl] at hp'
              exact br_f (by decide) (nm_r e1 (ih n (c + 1) (some c) (by omega) (by omega) (fun x hx => by cases hx; exact ⟨by omega, hw⟩) hp'))
        cases a with
        | none => exact br_t (by decide) (h45 (by unfold fr_el; rw [hw]; rfl))
        | some x =>
          obtain ⟨hx1, hx2⟩ := ha x rfl
          refine br_f (nI_pos (by omega)) (fr_y_before hF hx1 (by omega) (fr_Wt_r hS hx2).1 (fr_Wt_r hS hw).1 ?_)
          have hel : fr_el S D (some x) c = fr_bf S D x c := by
            show (fr_Wt S D c && fr_bf S D x c) = _
            rw [hw, Bool.true_and]
          cases eb : fr_bf S D x c with
          | false => exact br_t rfl (nm_r e1 (hskip (by rw [hel]; exact eb)))
          | true => exact br_f (by decide) (h45 (by rw [hel]; exact eb))
      · exact br_f em (nm_r e1 (hskip (by unfold fr_el fr_Wt; rw [eh, decide_eq_false em]; rfl)))
theorem fr_y_next {post : Int32 → Prop} (a : Option Nat) (hS : fr_W1 S) (hF : fr_FW D) (hH : fr_HL S D hl) (ha : ∀ x, a = some x → x < 864 ∧ fr_Wt S D x = true) (hp : post (fr_o (fr_nxt S D a))) : wpY_next post (fr_mY S D hy bd ds hl vr) (fr_o a) :=
  ⟨865, fr_y_next4 hS hF hH ha 864 865 0 none (by omega) (by omega) (fun x hx => by cases hx) hp⟩
theorem fr_nxt_W (hF : fr_FW D) {a : Option Nat} {c : Nat} (h : fr_nxt S D a = some c) : c < 864 ∧ fr_Wt S D c = true := by
  obtain ⟨h1, h2, _⟩ := (fr_nxt_Be (S := S) (a := a) hF).1 c h
  exact ⟨h1, fr_el_Wt h2⟩
theorem fr_at_W (hF : fr_FW D) {k c : Nat} (h : fr_at S D k = some c) : c < 864 ∧ fr_Wt S D c = true := by
  match k, h with
  | 0, h => exact fr_nxt_W hF h
  | k + 1, h =>
    rw [fr_at] at h
    cases e : fr_at S D k with
    | none => rw [e] at h; cases h
    | some m => rw [e] at h; exact fr_nxt_W hF h
theorem fr_at_none {k : Nat} : ∀ m : Nat, fr_at S D k = none → fr_at S D (k + m) = none := by
  intro m
  induction m with
  | zero => intro h; exact h
  | succ m ih =>
    intro h
    rw [show k + (m + 1) = (k + m) + 1 by omega, fr_at, ih h]
theorem fr_y_at20 {post : Int32 → Prop} {k : Nat} (hS : fr_W1 S) (hF : fr_FW D) (hH : fr_HL S D hl) (hk : k < 16) (hp : post (fr_o (fr_at S D k))) :
    ∀ (m n i : Nat), i + m = k → m < n → wY_at_20 post (nI k) (nI (fr_ru S)) (fr_bY S) (nI (fr_md D)) (fr_pr D) hy (fr_sa S) (fr_co S) (fr_po S) (fr_ac S) bd (fr_cK S) (fr_cN S) (fr_cT S) (fr_tF S) (fr_tH S) (fr_tO S) ds (fr_aX S) (fr_aY S) (fr_aZ S) (fr_nu D) (fr_kd D) (fr_fd D) hl (fr_mk D) vr (fr_ou D) n (fr_o (fr_at S D i)) (nI i) := by
  intro m
  induction m with
  | zero =>
    intro n i hi hn
    obtain ⟨n, rfl⟩ : ∃ m, n = m + 1 := ⟨n - 1, by omega⟩
    have : i = k := by omega
    subst this
    exact br_t (nI_le (by omega) (by omega)) hp
  | succ m ih =>
    intro n i hi hn
    obtain ⟨n, rfl⟩ : ∃ m, n = m + 1 := ⟨n - 1, by omega⟩
    refine br_f (nI_ge (by omega) (by omega)) ?_
    cases e : fr_at S D i with
    | none =>
      have h2 := fr_at_none (S := S) (D := D) (k := i) (m + 1) e
      rw [hi] at h2
      rw [h2] at hp
      exact br_t (by decide) hp
    | some c =>
      obtain ⟨h1, h2⟩ := fr_at_W hF e
      refine br_f (nI_pos (by omega)) ?_
      refine fr_y_next (some c) hS hF hH (fun x hx => by cases hx; exact ⟨h1, h2⟩) (nm_r (nI_1 i) ?_)
      have := ih n (i + 1) (by omega) (by omega)
      rw [fr_at, e] at this
      exact this
theorem fr_y_at {post : Int32 → Prop} {x : Int32} (hS : fr_W1 S) (hF : fr_FW D) (hH : fr_HL S D hl) (h0 : (x < 0 ∨ 15 < x) → post (-1)) (h1 : ∀ k, k < 16 → x = nI k → post (fr_o (fr_at S D k))) : wpY_at post (fr_mY S D hy bd ds hl vr) x := by
  refine br_c (fun e => h0 (Or.inl e)) (fun e => br_c (fun e2 => ?_) (fun e2 => h0 (Or.inr (Int32.not_le.mp e2))))
  obtain ⟨k, hk, ex⟩ := nI_of2 (M := 15) (n := 15) (by decide) e e2
  subst ex
  refine fr_y_next none hS hF hH (fun x hx => by cases hx) ⟨k + 1, ?_⟩
  exact fr_y_at20 hS hF hH (by omega) (h1 k (by omega) rfl) k (k + 1) 0 (by omega) (by omega)
theorem fr_y_ag4 {post : Int32 → Prop} (hH : fr_HL S D hl) : ∀ (k n c a : Nat), c + k = 864 → k < n → post (nI (a + fr_cc (fr_Wt S D) c k)) → wY_agenda_4 post (nI (fr_ru S)) (fr_bY S) (nI (fr_md D)) (fr_pr D) hy (fr_sa S) (fr_co S) (fr_po S) (fr_ac S) bd (fr_cK S) (fr_cN S) (fr_cT S) (fr_tF S) (fr_tH S) (fr_tO S) ds (fr_aX S) (fr_aY S) (fr_aZ S) (fr_nu D) (fr_kd D) (fr_fd D) hl (fr_mk D) vr (fr_ou D) n (nI a) (nI c) := by
  intro k
  induction k with
  | zero =>
    intro n c a hi hn hp
    obtain ⟨n, rfl⟩ : ∃ m, n = m + 1 := ⟨n - 1, by omega⟩
    exact br_t (nI_le (a := 864) (by omega) (by omega)) hp
  | succ k ih =>
    intro n c a hi hn hp
    obtain ⟨n, rfl⟩ : ∃ m, n = m + 1 := ⟨n - 1, by omega⟩
    have hcl : (nI c).toNatClampNeg = c := nI_clamp (by omega)
    have hin : vp_in (nI c) 864 := vp_in_nI (by omega) (by omega)
    rw [fr_cc] at hp
    refine br_f (nI_ge (b := 864) (by omega) (by omega)) ⟨hin, ?_⟩
    rw [hcl, hH c (by omega)]
    cases eh : fr_hd S (fr_kd D) (fr_fd D) (fr_lv D) c with
    | false =>
      have hw : fr_Wt S D c = false := by unfold fr_Wt; rw [eh]; rfl
      rw [hw, if_neg (by decide), Nat.zero_add] at hp
      exact br_t rfl (nm_r (nI_1 c) (ih n (c + 1) a (by omega) (by omega) hp))
    | true =>
      refine br_f (by decide) ⟨hin, ?_⟩
      by_cases em : fr_mk D c = 0
      · have hw : fr_Wt S D c = true := by unfold fr_Wt; rw [eh, decide_eq_true em]; rfl
        rw [hw, if_pos rfl, ← Nat.add_assoc] at hp
        exact br_t em (nm_r (nI_1 a) (nm_r (nI_1 c) (ih n (c + 1) (a + 1) (by omega) (by omega) hp)))
      · have hw : fr_Wt S D c = false := by unfold fr_Wt; rw [eh, decide_eq_false em]; rfl
        rw [hw, if_neg (by decide), Nat.zero_add] at hp
        exact br_f em (nm_r (nI_1 c) (ih n (c + 1) a (by omega) (by omega) hp))
theorem fr_y_agenda {post : Int32 → Prop} (hH : fr_HL S D hl) (hp : post (nI (fr_cc (fr_Wt S D) 0 864))) : wpY_agenda post (fr_mY S D hy bd ds hl vr) :=
  ⟨865, fr_y_ag4 hH 864 865 0 0 (by omega) (by omega) (by rw [Nat.zero_add]; exact hp)⟩
end
end
section
def fr_ph (x : Nat) : Int32 := if x = 0 then -1 else nI x
def fr_zmm (z : fr_ZR) (m : fr_FN) : fr_ZR := (fr_zs z, fr_zg z, fr_zb z, m, fr_zo z, fr_zn z, fr_zf z)
def fr_zoo (z : fr_ZR) (m w : fr_FN) : fr_ZR := (fr_zs z, fr_zg z, fr_zb z, m, w, fr_zn z, fr_zf z)
def fr_Rv (m : fr_FN) : List Nat → Prop
  | [] => True
  | x :: R => m R.length = nI x ∧ fr_Rv m R
def fr_Fw (m : fr_FN) (i : Nat) : List Nat → Prop
  | [] => ∀ j, i ≤ j → j < 3 → m j = -1
  | x :: L => m i = nI x ∧ fr_Fw m (i + 1) L
def fr_in (v : Nat) : List Nat → List Nat → List Nat
  | [], L => v :: L
  | x :: R, L => if v ≤ x then (x :: R).reverse ++ v :: L else fr_in v R (x :: L)
def fr_srt (D : fr_DR) (L : List Nat) : List Nat → List Nat
  | [] => L
  | f :: p => fr_srt D (fr_in (fr_nv D f) L.reverse []) p
theorem fr_Rv_un {m : fr_FN} {k : Nat} {v : Int32} : ∀ {R : List Nat}, R.length ≤ k → fr_Rv m R → fr_Rv (upd m k v) R := by
  intro R
  induction R with
  | nil => intro _ _; trivial
  | cons x R ih =>
    intro h h2
    rw [List.length_cons] at h
    exact ⟨by rw [pk_un (by omega)]; exact h2.1, ih (by omega) h2.2⟩
theorem fr_Fw_un {m : fr_FN} {k : Nat} {v : Int32} : ∀ {L : List Nat} {i : Nat}, k < i → fr_Fw m i L → fr_Fw (upd m k v) i L := by
  intro L
  induction L with
  | nil =>
    intro i h h2 j h3 h4
    rw [pk_un (by omega)]
    exact h2 j h3 h4
  | cons x L ih =>
    intro i h h2
    exact ⟨by rw [pk_un (by omega)]; exact h2.1, ih (by omega) h2.2⟩
theorem fr_Rv_Fw {m : fr_FN} : ∀ {R L : List Nat}, fr_Rv m R → fr_Fw m R.length L → fr_Fw m 0 (R.reverse ++ L) := by
  intro R
  induction R with
  | nil => intro L _ h; exact h
  | cons x R ih =>
    intro L h1 h2
    rw [List.reverse_cons, List.append_assoc]
    exact ih h1.2 ⟨h1.1, h2⟩
theorem fr_Fw_Rv {m : fr_FN} : ∀ {R L : List Nat}, fr_Fw m 0 (R.reverse ++ L) → fr_Rv m R ∧ fr_Fw m R.length L := by
  intro R
  induction R with
  | nil => intro L h; exact ⟨trivial, h⟩
  | cons x R ih =>
    intro L h
    rw [List.reverse_cons, List.append_assoc] at h
    obtain ⟨h1, h2⟩ := ih h
    exact ⟨⟨h2.1, h1⟩, h2.2⟩
theorem fr_in_len {v : Nat} : ∀ {R L : List Nat}, (fr_in v R L).length = R.length + L.length + 1 := by
  intro R
  induction R with
  | nil => intro L; rw [fr_in, List.length_cons, List.length_nil]; omega
  | cons x R ih =>
    intro L
    rw [fr_in]
    split
    · rw [List.length_append, List.length_reverse, List.length_cons, List.length_cons]; omega
    · rw [ih, List.length_cons, List.length_cons]; omega
section
variable {S : fr_SR} {D : fr_DR} {hx : Int32} {o : fr_FN} {q : fr_QR} {A : fr_AT}
theorem fr_x_sf53 {post : SX → Prop} {J : Int32 → Int32 → fr_FN → fr_FN → fr_FN → fr_FN → fr_FN → fr_FN → fr_FN → fr_FN → fr_FN → fr_FN → fr_FN → fr_FN → fr_FN → fr_FN → fr_FN → fr_FN → fr_FN → fr_FN → fr_FN → fr_FN → fr_FN → fr_FN → fr_FN → fr_FN → fr_FN → fr_FN → fr_FN → fr_FN → fr_FN → fr_FN → fr_FN → fr_FN → fr_FN → fr_FN → fr_FN → fr_FN → fr_FN → Prop} {x2 : Int32} {t s v : Nat} {z : fr_ZR} (ht : t < 1036) (hpa : fr_pa q t = nI s) (hv : v < 2 ^ 31) :
    ∀ (R : List Nat) (n : Nat) (L : List Nat) (m : fr_FN), (∀ x, x ∈ R → x < 2 ^ 31) → R.length + L.length < 3 → R.length < n → fr_Rv m R → fr_Fw m (R.length + 1) L →
    (∀ m', fr_Fw m' 0 (fr_in v R L) → J x2 (nI s) (fr_sa S) (fr_co S) (fr_po S) (fr_te S) (fr_ac S) (fr_cK S) (fr_cT S) (fr_cL S) (fr_cN S) (fr_tF S) (fr_tH S) (fr_tO S) (fr_vL S) (fr_vF S) (fr_aW S) (fr_aK S) (fr_aX S) (fr_aY S) (fr_aZ S) (fr_nu D) (fr_fd D) (fr_kd D) o (fr_pa q) (fr_ch q) (fr_nx q) (fr_fa q) (fr_st q) (fr_rt q) (fr_zs (fr_zmm z m')) (fr_zg (fr_zmm z m')) (fr_zb (fr_zmm z m')) (fr_zm (fr_zmm z m')) (fr_zo (fr_zmm z m')) (fr_zn (fr_zmm z m')) (fr_zf (fr_zmm z m')) (fr_ou D)) →
    wX_sortFacts_53 post J x2 (nI t) (nI v) (nI (fr_ru S)) (fr_bX S) (nI (fr_lv D).length) (nI (fr_md D)) (fr_fr q) (fr_pk q) (fr_pr D) hx n (nI R.length) (fr_sa S) (fr_co S) (fr_po S) (fr_te S) (fr_ac S) (fr_cK S) (fr_cT S) (fr_cL S) (fr_cN S) (fr_tF S) (fr_tH S) (fr_tO S) (fr_vL S) (fr_vF S) (fr_aW S) (fr_aK S) (fr_aX S) (fr_aY S) (fr_aZ S) (fr_nu D) (fr_fd D) (fr_kd D) o (fr_pa q) (fr_ch q) (fr_nx q) (fr_fa q) (fr_st q) (fr_rt q) (fr_zs (fr_zmm z m)) (fr_zg (fr_zmm z m)) (fr_zb (fr_zmm z m)) (fr_zm (fr_zmm z m)) (fr_zo (fr_zmm z m)) (fr_zn (fr_zmm z m)) (fr_zf (fr_zmm z m)) (fr_ou D) := by
  have htc : (nI t).toNatClampNeg = t := nI_clamp (by omega)
  have htin : vp_in (nI t) 1036 := vp_in_nI ht (by omega)
  intro R
  induction R with
  | nil =>
    intro n L m hR hl hn h1 h2 hJ
    obtain ⟨n, rfl⟩ : ∃ m, n = m + 1 := ⟨n - 1, by omega⟩
    refine br_t (by decide) ⟨by exact vp_in_nI (n := 0) (by omega) (by omega), nm_r (e' := upd m 0 (nI v)) rfl ⟨htin, nm_r (e' := nI s) (by rw [htc]; exact hpa) (hJ (upd m 0 (nI v)) ?_)⟩⟩
    exact ⟨pk_us, fr_Fw_un (by omega) h2⟩
  | cons x R ih =>
    intro n L m hR hl hn h1 h2 hJ
    obtain ⟨n, rfl⟩ : ∃ m, n = m + 1 := ⟨n - 1, by omega⟩
    rw [List.length_cons] at hl hn
    have hx31 := hR x List.mem_cons_self
    have e1 : nI (x :: R).length - 1 = nI R.length := nI_pred _
    have hcl : (nI R.length).toNatClampNeg = R.length := nI_clamp (by omega)
    have hcl2 : (nI (x :: R).length).toNatClampNeg = R.length + 1 := nI_clamp (by rw [List.length_cons]; omega)
    have hin2 : vp_in (nI (x :: R).length) 3 := vp_in_nI (by rw [List.length_cons]; omega) (by omega)
    refine br_f (nI_nle (by rw [List.length_cons]; omega) (by rw [List.length_cons]; omega)) ?_
    rw [e1, hcl]
    refine ⟨vp_in_nI (by omega) (by omega), ?_⟩
    have em : fr_zm (fr_zmm z m) R.length = nI x := h1.1
    rw [em]
    rw [fr_in] at hJ
    refine pk_le v x (fun e => ?_) (fun e => ?_)
    · rw [if_pos e] at hJ
      refine ⟨hin2, nm_r (e' := upd m (R.length + 1) (nI v)) (by rw [hcl2]; rfl) ⟨htin, nm_r (e' := nI s) (by rw [htc]; exact hpa) (hJ (upd m (R.length + 1) (nI v)) ?_)⟩⟩
      exact fr_Rv_Fw (fr_Rv_un (by rw [List.length_cons]; omega) h1) ⟨pk_us, fr_Fw_un (by rw [List.length_cons]; omega) h2⟩
    · rw [if_neg (by omega)] at hJ
      refine ⟨vp_in_nI (by omega) (by omega), hin2, nm_r (e' := upd m (R.length + 1) (nI x)) (by rw [hcl2]; rfl) (nm_r (e' := nI R.length) (fr_m1p (by rw [List.length_cons]; omega)) ?_)⟩
      exact ih n (x :: L) (upd m (R.length + 1) (nI x)) (fun y hy => hR y (List.mem_cons_of_mem _ hy)) (by rw [List.length_cons]; omega) (by omega) (fr_Rv_un (by omega) h1.2) ⟨pk_us, fr_Fw_un (by omega) h2⟩ hJ
theorem fr_in_lt {v B : Nat} (hv : v < B) : ∀ {R L : List Nat}, (∀ x, x ∈ R → x < B) → (∀ x, x ∈ L → x < B) → ∀ x, x ∈ fr_in v R L → x < B := by
  intro R
  induction R with
  | nil =>
    intro L _ hL x hx
    rcases List.mem_cons.mp hx with e | hx
    · rw [e]; exact hv
    · exact hL x hx
  | cons y R ih =>
    intro L hR hL x hx
    rw [fr_in] at hx
    by_cases e : v ≤ y
    · rw [if_pos e] at hx
      rcases List.mem_append.mp hx with hx | hx
      · exact hR x (List.mem_reverse.mp hx)
      · rcases List.mem_cons.mp hx with e | hx
        · rw [e]; exact hv
        · exact hL x hx
    · rw [if_neg e] at hx
      refine ih (fun w hw => hR w (List.mem_cons_of_mem _ hw)) ?_ x hx
      intro w hw
      rcases List.mem_cons.mp hw with e | hw
      · rw [e]; exact hR y List.mem_cons_self
      · exact hL w hw
theorem fr_x_sf25 {post : SX → Prop} {r : Nat} {z : fr_ZR} (hF : fr_FW D) (hQ : fr_PQ q A) :
    ∀ (p : List Nat) (t n : Nat) (L : List Nat) (m : fr_FN), A r p = some t → p.length + L.length ≤ 3 → p.length < n → (∀ x, x ∈ L → x < 2 ^ 31) → fr_Fw m 0 L →
    (∀ m', fr_Fw m' 0 (fr_srt D L p) → post (fr_mX S D hx o q (fr_zmm z m'))) →
    wX_sortFacts_25 post (nI (fr_ru S)) (fr_bX S) (nI (fr_lv D).length) (nI (fr_md D)) (fr_fr q) (fr_pk q) (fr_pr D) hx n (nI L.length) (nI t) (fr_sa S) (fr_co S) (fr_po S) (fr_te S) (fr_ac S) (fr_cK S) (fr_cT S) (fr_cL S) (fr_cN S) (fr_tF S) (fr_tH S) (fr_tO S) (fr_vL S) (fr_vF S) (fr_aW S) (fr_aK S) (fr_aX S) (fr_aY S) (fr_aZ S) (fr_nu D) (fr_fd D) (fr_kd D) o (fr_pa q) (fr_ch q) (fr_nx q) (fr_fa q) (fr_st q) (fr_rt q) (fr_zs (fr_zmm z m)) (fr_zg (fr_zmm z m)) (fr_zb (fr_zmm z m)) (fr_zm (fr_zmm z m)) (fr_zo (fr_zmm z m)) (fr_zn (fr_zmm z m)) (fr_zf (fr_zmm z m)) (fr_ou D) := by
  intro p
  induction p with
  | nil =>
    intro t n L m ht hl hn hL hm hp
    have htl := (hQ.1.1 _ _ _ ht).2.2.2
    obtain ⟨n, rfl⟩ : ∃ m, n = m + 1 := ⟨n - 1, by omega⟩
    have hcl : (nI t).toNatClampNeg = t := nI_clamp (by omega)
    exact ⟨vp_in_nI htl (by omega), br_t (by rw [hcl, hQ.2.1.1 _ _ ht]; decide) (hp m hm)⟩
  | cons f p ih =>
    intro t n L m ht hl hn hL hm hp
    have hv := hQ.1.1 _ _ _ ht
    have hf := hv.2.2.1 f List.mem_cons_self
    have htl := hv.2.2.2
    obtain ⟨h1, s, h2, h3⟩ := hQ.2.1.2 _ _ _ _ ht
    rw [List.length_cons] at hn hl
    obtain ⟨n, rfl⟩ : ∃ m, n = m + 1 := ⟨n - 1, by omega⟩
    have hin : vp_in (nI t) 1036 := vp_in_nI htl (by omega)
    have hcl : (nI t).toNatClampNeg = t := nI_clamp (by omega)
    obtain ⟨k1, k2⟩ := fr_nu_nv hF hf
    refine ⟨hin, br_f (by rw [hcl, h1]; exact nI_pos (by omega)) ⟨hin, ?_⟩⟩
    rw [hcl, h1]
    refine ⟨vp_in_nI hf (by omega), nm_r (e' := nI (fr_nv D f)) (by rw [nI_clamp (by omega)]; exact k1) (nm_r (nI_1 _) ⟨L.length + 1, ?_⟩)⟩
    have hRv := fr_Fw_Rv (m := m) (R := L.reverse) (L := []) (by rw [List.reverse_reverse, List.append_nil]; exact hm)
    rw [List.length_reverse] at hRv
    have hstep := fr_x_sf53 (S := S) (D := D) (hx := hx) (o := o) (q := q) (post := post) (J := wX_sortFacts_25 post (nI (fr_ru S)) (fr_bX S) (nI (fr_lv D).length) (nI (fr_md D)) (fr_fr q) (fr_pk q) (fr_pr D) hx n) (x2 := nI (L.length + 1)) (z := z) (v := fr_nv D f) htl h3 (by omega) L.reverse (L.length + 1) [] m (fun x hx' => hL x (List.mem_reverse.mp hx')) (by rw [List.length_reverse, List.length_nil]; omega) (by rw [List.length_reverse]; omega) hRv.1 (by
      rw [List.length_reverse]
      intro j a b
      exact hRv.2 j (by omega) b) ?_
    · rw [List.length_reverse] at hstep
      exact hstep
    · intro m' hm'
      have hlen := fr_in_len (v := fr_nv D f) (R := L.reverse) (L := [])
      rw [List.length_reverse, List.length_nil, Nat.add_zero] at hlen
      have := ih s n (fr_in (fr_nv D f) L.reverse []) m' h2 (by omega) (by omega) (fr_in_lt (by omega) (fun x hx' => hL x (List.mem_reverse.mp hx')) (fun x hx' => by cases hx')) hm' hp
      rw [hlen] at this
      exact this
theorem fr_ph_p {x y : Nat} (h : y = x) (hx : 0 < x) : nI x = fr_ph y := by
  unfold fr_ph
  rw [h, if_neg (by omega)]
theorem fr_ph_0 {y : Nat} (h : y = 0) : -1 = fr_ph y := by
  unfold fr_ph
  rw [if_pos h]
theorem fr_hl (a b : Nat) : (a ≤ b ∧ fr_hi a b = b ∧ fr_lo a b = a) ∨ (b < a ∧ fr_hi a b = a ∧ fr_lo a b = b) := by
  unfold fr_hi fr_lo
  by_cases h : a ≤ b
  · rw [if_pos h, if_pos h]; exact Or.inl ⟨h, rfl, rfl⟩
  · rw [if_neg h, if_neg h]; exact Or.inr ⟨by omega, rfl, rfl⟩
theorem fr_g30 (a b c : Nat) : (fr_hi a b ≤ c ∧ fr_g3 a b c 0 = c) ∨ (c < fr_hi a b ∧ fr_g3 a b c 0 = fr_hi a b) := by
  unfold fr_g3
  rw [if_pos rfl]
  by_cases h : fr_hi a b ≤ c
  · rw [if_pos h]; exact Or.inl ⟨h, rfl⟩
  · rw [if_neg h]; exact Or.inr ⟨by omega, rfl⟩
theorem fr_g32 (a b c : Nat) : (c ≤ fr_lo a b ∧ fr_g3 a b c 2 = c) ∨ (fr_lo a b < c ∧ fr_g3 a b c 2 = fr_lo a b) := by
  unfold fr_g3
  rw [if_neg (by decide), if_pos rfl]
  by_cases h : c ≤ fr_lo a b
  · rw [if_pos h]; exact Or.inl ⟨h, rfl⟩
  · rw [if_neg h]; exact Or.inr ⟨by omega, rfl⟩
theorem fr_g31 (a b c : Nat) : (fr_hi a b < c ∧ fr_g3 a b c 1 = fr_hi a b) ∨ (c ≤ fr_hi a b ∧ fr_lo a b ≤ c ∧ fr_g3 a b c 1 = c) ∨ (c ≤ fr_hi a b ∧ c < fr_lo a b ∧ fr_g3 a b c 1 = fr_lo a b) := by
  unfold fr_g3
  rw [if_neg (by decide), if_neg (by decide)]
  by_cases h : c ≤ fr_hi a b
  · rw [if_pos h]
    by_cases h2 : fr_lo a b ≤ c
    · rw [if_pos h2]; exact Or.inr (Or.inl ⟨h, h2, rfl⟩)
    · rw [if_neg h2]; exact Or.inr (Or.inr ⟨h, by omega, rfl⟩)
  · rw [if_neg h]; exact Or.inl ⟨by omega, rfl⟩
theorem fr_srt1 {m : fr_FN} {a : Nat} (ha : 0 < a) (hm : fr_Fw m 0 [a]) : ∀ i, i < 3 → m i = fr_ph (fr_g3 a 0 0 i) := by
  have hm' : m 0 = nI a ∧ ∀ j, 1 ≤ j → j < 3 → m j = -1 := hm
  intro i hi
  match i, hi with
  | 0, _ => rw [hm'.1]; refine fr_ph_p ?_ ha; have h1 := fr_hl a 0; have h2 := fr_g30 a 0 0; omega
  | 1, _ => rw [hm'.2 1 (by omega) (by omega)]; refine fr_ph_0 ?_; have h1 := fr_hl a 0; have h2 := fr_g31 a 0 0; omega
  | 2, _ => rw [hm'.2 2 (by omega) (by omega)]; refine fr_ph_0 ?_; have h1 := fr_hl a 0; have h2 := fr_g32 a 0 0; omega
theorem fr_srt2' {m : fr_FN} {a b x y : Nat} (hx : 0 < x) (hy : 0 < y) (hxy : y ≤ x) (hm : fr_Fw m 0 [x, y]) (h : (x = a ∧ y = b) ∨ (x = b ∧ y = a)) : ∀ i, i < 3 → m i = fr_ph (fr_g3 a b 0 i) := by
  have hm' : m 0 = nI x ∧ m 1 = nI y ∧ ∀ j, 2 ≤ j → j < 3 → m j = -1 := hm
  intro i hi
  match i, hi with
  | 0, _ => rw [hm'.1]; refine fr_ph_p ?_ hx; have h1 := fr_hl a b; have h2 := fr_g30 a b 0; omega
  | 1, _ => rw [hm'.2.1]; refine fr_ph_p ?_ hy; have h1 := fr_hl a b; have h2 := fr_g31 a b 0; omega
  | 2, _ => rw [hm'.2.2 2 (by omega) (by omega)]; refine fr_ph_0 ?_; have h1 := fr_hl a b; have h2 := fr_g32 a b 0; omega
theorem fr_srt2 {m : fr_FN} {a b : Nat} (ha : 0 < a) (hb : 0 < b) (hm : fr_Fw m 0 (fr_in a [b] [])) : ∀ i, i < 3 → m i = fr_ph (fr_g3 a b 0 i) := by
  by_cases h : a ≤ b
  · rw [fr_in, if_pos h] at hm
    exact fr_srt2' hb ha h hm (Or.inr ⟨rfl, rfl⟩)
  · rw [fr_in, if_neg h, fr_in] at hm
    exact fr_srt2' ha hb (by omega) hm (Or.inl ⟨rfl, rfl⟩)
theorem fr_srt3' {m : fr_FN} {a b c x y w : Nat} (hx : 0 < x) (hy : 0 < y) (hw : 0 < w) (hxy : y ≤ x) (hyw : w ≤ y) (hm : fr_Fw m 0 [x, y, w])
    (h : (x = a ∧ y = b ∧ w = c) ∨ (x = a ∧ y = c ∧ w = b) ∨ (x = b ∧ y = a ∧ w = c) ∨ (x = b ∧ y = c ∧ w = a) ∨ (x = c ∧ y = a ∧ w = b) ∨ (x = c ∧ y = b ∧ w = a)) : ∀ i, i < 3 → m i = fr_ph (fr_g3 a b c i) := by
  have hm' : m 0 = nI x ∧ m 1 = nI y ∧ m 2 = nI w ∧ ∀ j, 3 ≤ j → j < 3 → m j = -1 := hm
  intro i hi
  match i, hi with
  | 0, _ => rw [hm'.1]; refine fr_ph_p ?_ hx; have h1 := fr_hl a b; have h2 := fr_g30 a b c; omega
  | 1, _ => rw [hm'.2.1]; refine fr_ph_p ?_ hy; have h1 := fr_hl a b; have h2 := fr_g31 a b c; omega
  | 2, _ => rw [hm'.2.2.1]; refine fr_ph_p ?_ hw; have h1 := fr_hl a b; have h2 := fr_g32 a b c; omega
theorem fr_in3 {m : fr_FN} {a b c x y : Nat} (ha : 0 < a) (hx : 0 < x) (hy : 0 < y) (hxy : y ≤ x) (h : (x = b ∧ y = c) ∨ (x = c ∧ y = b)) (hm : fr_Fw m 0 (fr_in a [y, x] [])) : ∀ i, i < 3 → m i = fr_ph (fr_g3 a b c i) := by
  by_cases h1 : a ≤ y
  · rw [fr_in, if_pos h1] at hm
    exact fr_srt3' hx hy ha hxy h1 hm (by omega)
  · rw [fr_in, if_neg h1] at hm
    by_cases h2 : a ≤ x
    · rw [fr_in, if_pos h2] at hm
      exact fr_srt3' hx ha hy h2 (by omega) hm (by omega)
    · rw [fr_in, if_neg h2, fr_in] at hm
      exact fr_srt3' ha hx hy (by omega) hxy hm (by omega)
theorem fr_srt3 {m : fr_FN} {a b c : Nat} (ha : 0 < a) (hb : 0 < b) (hc : 0 < c) (hm : fr_Fw m 0 (fr_in a (fr_in b [c] []).reverse [])) : ∀ i, i < 3 → m i = fr_ph (fr_g3 a b c i) := by
  by_cases h : b ≤ c
  · have e : (fr_in b [c] []).reverse = [b, c] := by rw [fr_in, if_pos h]; rfl
    rw [e] at hm
    exact fr_in3 ha hc hb h (Or.inr ⟨rfl, rfl⟩) hm
  · have e : (fr_in b [c] []).reverse = [c, b] := by rw [fr_in, if_neg h]; rfl
    rw [e] at hm
    exact fr_in3 ha hb hc (by omega) (Or.inl ⟨rfl, rfl⟩) hm
theorem fr_srt_ph {r : Nat} {p : List Nat} {m : fr_FN} (hF : fr_FW D) (hl : p.length = fr_pn S r) (h0 : 0 < p.length) (h3 : p.length ≤ 3) (he : ∀ x, x ∈ p → x ∈ fr_lv D) (hm : fr_Fw m 0 (fr_srt D [] p)) : ∀ i, i < 3 → m i = fr_ph (fr_gg S D (fr_cho r p) i) := by
  have he6 : ∀ x, x ∈ p → x < 6 := fun x hx => hF.1.2 x (he x hx)
  have hr := (fr_cho_pl (r := r) he6).1
  have hpos : ∀ x, x ∈ p → 0 < fr_nv D x := fun x hx => (hF.2.2.1 x (he x hx)).2.1
  have hnn : ∀ j, j < 3 → fr_nn S D (fr_cho r p) j = if j < p.length then fr_nv D (fr_gv p j) else 0 := by
    intro j hj
    unfold fr_nn
    rw [hr, hl, fr_cho_plj he6 hj]
  have h00 := hnn 0 (by omega)
  have h01 := hnn 1 (by omega)
  have h02 := hnn 2 (by omega)
  unfold fr_gg
  rw [h00, h01, h02]
  match p, h0, h3, hpos, hm with
  | [a], _, _, hpos, hm => exact fr_srt1 (hpos a (by simp)) hm
  | [b, a], _, _, hpos, hm => exact fr_srt2 (hpos a (by simp)) (hpos b (by simp)) hm
  | [c, b, a], _, _, hpos, hm => exact fr_srt3 (hpos a (by simp)) (hpos b (by simp)) (hpos c (by simp)) hm
theorem fr_x_sortFacts {post : SX → Prop} {r t : Nat} {p : List Nat} {z : fr_ZR} (hF : fr_FW D) (hQ : fr_PQ q A) (ht : A r p = some t) (hl : p.length = fr_pn S r) (h0 : 0 < p.length) (he : ∀ x, x ∈ p → x ∈ fr_lv D)
    (hp : ∀ m, (∀ i, i < 3 → m i = fr_ph (fr_gg S D (fr_cho r p) i)) → post (fr_mX S D hx o q (fr_zmm z m))) : wpX_sortFacts post (fr_mX S D hx o q z) (nI t) := by
  have h3 := (hQ.1.1 _ _ _ ht).2.1
  refine nm_r (e' := upd (fr_zm z) 0 (-1)) rfl (nm_r (e' := upd (upd (fr_zm z) 0 (-1)) 1 (-1)) rfl (nm_r (e' := upd (upd (upd (fr_zm z) 0 (-1)) 1 (-1)) 2 (-1)) rfl ⟨p.length + 1, ?_⟩))
  refine fr_x_sf25 (z := z) hF hQ p t (p.length + 1) [] (upd (upd (upd (fr_zm z) 0 (-1)) 1 (-1)) 2 (-1)) ht (by rw [List.length_nil]; omega) (by omega) (fun x hx' => by cases hx') ?_ ?_
  · intro j _ hj
    match j, hj with
    | 0, _ => rw [pk_un (by omega), pk_un (by omega), pk_us]
    | 1, _ => rw [pk_un (by omega), pk_us]
    | 2, _ => rw [pk_us]
  · intro m' hm'
    exact hp m' (fr_srt_ph hF hl h0 h3 he hm')
end
end
section
def fr_W2 (S : fr_SR) : Prop := ∀ r, r < fr_ru S → fr_te S r = nI (fr_tc S r)
def fr_Wn (S : fr_SR) (D : fr_DR) (A : fr_AT) (t c : Nat) : Prop :=
  ∃ r p, A r p = some t ∧ p.length = fr_pn S r ∧ fr_ct S (fr_kd D) (fr_fd D) (fr_lv D) r p = 0 ∧ fr_Mk S (fr_mk D) r p = false ∧ c = fr_cho r p
theorem fr_ph_toInt {x : Nat} (h : x < 2 ^ 31) : (fr_ph x).toInt = if x = 0 then -1 else (x : Int) := by
  unfold fr_ph
  split
  · decide
  · exact nI_toInt h
theorem fr_ph_eq {x y : Nat} (hx : x < 2 ^ 31) (hy : y < 2 ^ 31) : fr_ph x = fr_ph y ↔ x = y := by
  rw [← Int32.toInt_inj, fr_ph_toInt hx, fr_ph_toInt hy]
  split
  · split
    · omega
    · omega
  · split
    · omega
    · omega
theorem fr_ph_le {x y : Nat} (hx : x < 2 ^ 31) (hy : y < 2 ^ 31) : fr_ph x ≤ fr_ph y ↔ x ≤ y := by
  rw [Int32.le_iff_toInt_le, fr_ph_toInt hx, fr_ph_toInt hy]
  split
  · split
    · omega
    · omega
  · split
    · omega
    · omega
theorem fr_cmpP {post : Int32 → Prop} {P : Prop} {x y : Nat} {L : Bool} (hx : x < 2 ^ 31) (hy : y < 2 ^ 31) (h : post (fr_i (if (x : Int) = (y : Int) then L else decide ((y : Int) < (x : Int))))) (hP : post (fr_i L) → P) {Q : Prop} (hQ : ((fr_ph x ≤ fr_ph y → post 0) ∧ (¬ fr_ph x ≤ fr_ph y → post 1)) → Q) :
    (fr_ph x = fr_ph y → P) ∧ (¬ fr_ph x = fr_ph y → Q) := by
  by_cases e : x = y
  · rw [if_pos (by rw [e])] at h
    exact br_t (by rw [e]) (hP h)
  · rw [if_neg (fun e2 => e (Int.ofNat_inj.mp e2))] at h
    refine br_f (by rw [fr_ph_eq hx hy]; exact e) (hQ (br_c (fun e2 => ?_) (fun e2 => ?_)))
    · rw [fr_ph_le hx hy] at e2
      rw [decide_eq_false (by omega)] at h
      exact h
    · rw [fr_ph_le hx hy] at e2
      rw [decide_eq_true (by omega)] at h
      exact h
section
variable {S : fr_SR} {D : fr_DR} {hx : Int32} {o : fr_FN} {q : fr_QR} {A : fr_AT}
theorem fr_Wn_c {t c : Nat} (hS : fr_W1 S) (hX : fr_XI S D q A) (h : fr_Wn S D A t c) : ∃ p, A (c / 216) p = some t ∧ p = fr_pth c (fr_pn S (c / 216)) ∧ p.length = fr_pn S (c / 216) ∧ c = fr_cho (c / 216) p ∧ (∀ x, x ∈ p → x ∈ fr_lv D) ∧ (∀ x, x ∈ p → x < 6) ∧ c / 216 < fr_R S ∧ 0 < p.length ∧ p.length ≤ 3 ∧ c < 864 ∧ fr_Wt S D c = true := by
  obtain ⟨r, p, h1, h2, h3, h4, rfl⟩ := h
  have hv := hX.1.1.1 _ _ _ h1
  obtain ⟨hr, hsm⟩ := fr_XI_sm hX h1
  have er := (fr_cho_pl (r := r) hv.2.2.1).1
  have hR := fr_R_le (S := S)
  have h4' := hS.1
  have hlt := fr_cho_lt (r := r) hv.2.2.1
  rw [er]
  have hpn := hS.2.2.2 r hr
  refine ⟨p, h1, ?_, h2, rfl, fr_sm_mem hsm, hv.2.2.1, hr, by omega, hv.2.1, by omega, ?_⟩
  · rw [← h2, fr_cho_pth hv.2.2.1 hv.2.1]
  · have hhd := (fr_hd_cho (S := S) (kd := fr_kd D) (fd := fr_fd D) (lv := fr_lv D) hr (by omega) hv.2.2.1 h2).mpr ⟨hsm, h3⟩
    unfold fr_Wt
    rw [hhd, Bool.true_and]
    apply Classical.byContradiction
    intro hno
    have hm : fr_mk D (fr_cho r p) ≠ 0 := fun e => hno (decide_eq_true e)
    rw [fr_Mk_iff.mpr ⟨h2, hv.2.2.1, hm⟩] at h4
    cases h4
theorem fr_Wn_ex {c : Nat} (hS : fr_W1 S) (hX : fr_XI S D q A) (hw : fr_Wt S D c = true) : ∃ t, fr_Wn S D A t c := by
  have hhd := fr_Wt_hd hw
  obtain ⟨h1, h2, h3, h4⟩ := fr_hd_c hhd
  have hR := fr_R_le (S := S)
  have hW := hS.2.2.1 (c / 216) (by omega)
  have hpn := hW.1.2.2.2.1
  obtain ⟨t, ht⟩ := (fr_alive hX.1.2.1 ((hX.2.1 _).mpr h1) (fun p t e => hX.2.2 _ p t e) _).mpr h3
  refine ⟨t, c / 216, fr_pth c (fr_pn S (c / 216)), ht, fr_pth_len _ _, h4, ?_, (fr_pth_cho hpn h2).symm⟩
  cases e : fr_Mk S (fr_mk D) (c / 216) (fr_pth c (fr_pn S (c / 216))) with
  | false => rfl
  | true =>
    have := (fr_Mk_iff.mp e).2.2
    rw [fr_pth_cho hpn h2] at this
    unfold fr_Wt at hw
    rw [Bool.and_eq_true] at hw
    exact absurd (of_decide_eq_true hw.2) this
theorem fr_Wn_un {t t' c : Nat} (hS : fr_W1 S) (hX : fr_XI S D q A) (h : fr_Wn S D A t c) (h' : fr_Wn S D A t' c) : t = t' := by
  obtain ⟨p, a1, a2, _⟩ := fr_Wn_c hS hX h
  obtain ⟨p', b1, b2, _⟩ := fr_Wn_c hS hX h'
  rw [a2] at a1
  rw [b2, a1] at b1
  exact Option.some.inj b1
theorem fr_Wn_un' {t c c' : Nat} (hS : fr_W1 S) (hX : fr_XI S D q A) (h : fr_Wn S D A t c) (h' : fr_Wn S D A t c') : c = c' := by
  obtain ⟨p, a1, a2, a3, a4, _⟩ := fr_Wn_c hS hX h
  obtain ⟨p', b1, b2, b3, b4, _⟩ := fr_Wn_c hS hX h'
  obtain ⟨e1, e2⟩ := hX.1.1.2 _ _ _ _ _ a1 b1
  rw [a4, b4, e1, e2]
theorem fr_x_waits {post : Int32 → Prop} {t : Nat} {z : fr_ZR} (hS : fr_W1 S) (hX : fr_XI S D q A) (hF : fr_FW D) (ht : t < 1036) (h1 : ∀ c, fr_Wn S D A t c → post 1) (h0 : (∀ c, ¬ fr_Wn S D A t c) → post 0) : wpX_waits post (fr_mX S D hx o q z) (nI t) := by
  have hcl : (nI t).toNatClampNeg = t := nI_clamp (by omega)
  have hin : vp_in (nI t) 1036 := vp_in_nI ht (by omega)
  have hR := fr_R_le (S := S)
  have h4 := hS.1
  refine ⟨hin, ?_⟩
  rw [hcl]
  obtain ⟨L, _, _, hL3, hL4⟩ := hX.1.2.2.2.2.1
  by_cases hm : t ∈ L
  · refine br_t (by rw [(hL3 t hm).2.1]; decide) (h0 ?_)
    rintro c ⟨r, p, e, _⟩
    exact (hL3 t hm).2.2 r p e
  · obtain ⟨r, p, hA⟩ := hL4 t ht hm
    obtain ⟨hr, hsm⟩ := fr_XI_sm hX hA
    have hv := hX.1.1.1 _ _ _ hA
    have hW := hS.2.2.1 r (by omega)
    have hpos := hS.2.2.2 r hr
    have hkey : ∀ c, fr_Wn S D A t c → p.length = fr_pn S r ∧ fr_ct S (fr_kd D) (fr_fd D) (fr_lv D) r p = 0 ∧ fr_Mk S (fr_mk D) r p = false := by
      rintro c ⟨r', p', e1, e2, e3, e4, _⟩
      obtain ⟨rfl, rfl⟩ := hX.1.1.2 _ _ _ _ _ hA e1
      exact ⟨e2, e3, e4⟩
    match p, hA, hkey with
    | [], hA, hkey =>
      refine br_t (by rw [hX.1.2.1.1 _ _ hA]; decide) (h0 (fun c hc => ?_))
      have := (hkey c hc).1
      rw [List.length_nil] at this
      omega
    | f :: p, hA, hkey =>
      have hf := (hX.1.1.1 _ _ _ hA).2.2.1 f List.mem_cons_self
      have hRT := hX.2.2 _ _ _ hA
      refine br_f (by rw [(hX.1.2.1.2 _ _ _ _ hA).1]; exact nI_pos (by omega)) ⟨hin, ?_⟩
      rw [hRT.1]
      have hct := fr_ct_le (kd := fr_kd D) (fd := fr_fd D) (lv := fr_lv D) (p := f :: p) hW (fr_LV_len hF.1)
      by_cases hc : fr_ct S (fr_kd D) (fr_fd D) (fr_lv D) r (f :: p) = 0
      · cases hmk : fr_Mk S (fr_mk D) r (f :: p) with
        | true =>
          rw [if_pos ⟨rfl, hc⟩]
          refine br_f (by decide) (h0 (fun c hcn => ?_))
          have := (hkey c hcn).2.2
          rw [hmk] at this
          cases this
        | false =>
          rw [if_neg (fun h => by cases h.1), hc]
          refine br_t rfl (fr_x_ruleOf hX.1 hX.2.1 hA (fr_x_depth hX.1 hA ⟨vp_in_nI (by omega) (by omega), ?_⟩))
          rw [nI_clamp (by omega), hW.1.2.2.1]
          have hpn := hW.1.2.2.2.1
          refine pk_eq (f :: p).length (fr_pn S r) (fun e => h1 _ ⟨r, f :: p, hA, e, hc, hmk, rfl⟩) (fun e => h0 (fun c hcn => e (hkey c hcn).1)) rfl rfl (by have := (hX.1.1.1 _ _ _ hA).2.1; omega) (by omega)
      · rw [if_neg (fun h => hc h.2)]
        exact br_f (nI_ne0 (by omega) (by omega)) (h0 (fun c hcn => hc (hkey c hcn).2.1))
theorem fr_cd3_0 {a b : Nat} (ea : fr_pn S (a / 216) = fr_pn S (b / 216)) : ∀ (k j : Nat), fr_pn S (a / 216) ≤ j → fr_lx (fr_cd3 S D a j k) (fr_cd3 S D b j k) = false := by
  intro k
  induction k with
  | zero => intro j _; rfl
  | succ k ih =>
    intro j hj
    have e1 : fr_nn S D a j = 0 := by unfold fr_nn; rw [if_neg (by omega)]
    have e2 : fr_nn S D b j = 0 := by unfold fr_nn; rw [if_neg (by omega)]
    show (if ((fr_nn S D a j : Nat) : Int) = ((fr_nn S D b j : Nat) : Int) then fr_lx (fr_cd3 S D a (j + 1) k) (fr_cd3 S D b (j + 1) k) else decide (((fr_nn S D b j : Nat) : Int) < ((fr_nn S D a j : Nat) : Int))) = false
    rw [e1, e2, if_pos rfl]
    exact ih (j + 1) (by omega)
theorem fr_x_bf212 {post : Int32 → SX → Prop} {s t a b : Nat} {z : fr_ZR} (hS : fr_W1 S) (hX : fr_XI S D q A) (hF : fr_FW D) (hs : fr_Wn S D A s a) (ht : fr_Wn S D A t b) (er : a / 216 = b / 216) :
    ∀ (k n j : Nat), j + k = 3 → k < n → post (fr_i (fr_lx (fr_cd3 S D a j k) (fr_cd3 S D b j k))) (fr_mX S D hx o q z) → wX_before_212 post (nI s) (nI t) (nI (fr_pn S (a / 216))) (nI (fr_ru S)) (fr_bX S) (nI (fr_lv D).length) (nI (fr_md D)) (fr_fr q) (fr_pk q) (fr_pr D) hx (fr_sa S) (fr_co S) (fr_po S) (fr_te S) (fr_ac S) (fr_cK S) (fr_cT S) (fr_cL S) (fr_cN S) (fr_tF S) (fr_tH S) (fr_tO S) (fr_vL S) (fr_vF S) (fr_aW S) (fr_aK S) (fr_aX S) (fr_aY S) (fr_aZ S) (fr_nu D) (fr_fd D) (fr_kd D) o (fr_pa q) (fr_ch q) (fr_nx q) (fr_fa q) (fr_st q) (fr_rt q) (fr_zs z) (fr_zg z) (fr_zb z) (fr_zm z) (fr_zo z) (fr_zn z) (fr_zf z) (fr_ou D) n (nI j) := by
  obtain ⟨p, a1, a2, a3, a4, a5, a6, a7, a8, a9, a10, a11⟩ := fr_Wn_c hS hX hs
  obtain ⟨p', b1, b2, b3, b4, b5, b6, b7, b8, b9, b10, b11⟩ := fr_Wn_c hS hX ht
  intro k
  induction k with
  | zero =>
    intro n j hj hn hp
    obtain ⟨n, rfl⟩ : ∃ m, n = m + 1 := ⟨n - 1, by omega⟩
    exact br_t (nI_le (by omega) (by omega)) hp
  | succ k ih =>
    intro n j hj hn hp
    obtain ⟨n, rfl⟩ : ∃ m, n = m + 1 := ⟨n - 1, by omega⟩
    rcases Nat.lt_or_ge j (fr_pn S (a / 216)) with h | h
    · refine br_f (nI_ge (by omega) (by omega)) ?_
      have hj3 : j < 3 := by omega
      have ga := fr_gv_mem (p := p) (l := j) (by omega)
      have gb := fr_gv_mem (p := p') (l := j) (by rw [b3, ← er]; exact h)
      have g6a := a6 _ ga
      have g6b := b6 _ gb
      have ea : fr_nn S D a j = fr_nv D (fr_gv p j) := by
        unfold fr_nn
        rw [if_pos h]
        have := fr_cho_plj (r := a / 216) a6 hj3
        rw [← a4] at this
        rw [this]
      have eb : fr_nn S D b j = fr_nv D (fr_gv p' j) := by
        unfold fr_nn
        rw [if_pos (by rw [← er]; exact h)]
        have := fr_cho_plj (r := b / 216) b6 hj3
        rw [← b4] at this
        rw [this]
      have na := fr_nu_nv hF g6a
      have nb := fr_nu_nv hF g6b
      have hp' : post (fr_i (if ((fr_nv D (fr_gv p j) : Nat) : Int) = ((fr_nv D (fr_gv p' j) : Nat) : Int) then fr_lx (fr_cd3 S D a (j + 1) k) (fr_cd3 S D b (j + 1) k) else decide (((fr_nv D (fr_gv p' j) : Nat) : Int) < ((fr_nv D (fr_gv p j) : Nat) : Int)))) (fr_mX S D hx o q z) := by
        rw [← ea, ← eb]
        exact hp
      rw [← a3]
      refine fr_x_given hX.1 a1 (by omega) ?_
      rw [a3, er, ← b3]
      refine fr_x_given hX.1 b1 (by rw [b3, ← er]; exact h) ?_
      refine pk_eq (fr_gv p j) (fr_gv p' j) (fun e => ?_) (fun e => ?_)
      · rw [e, if_pos rfl] at hp'
        have hgo := ih n (j + 1) (by omega) (by omega) hp'
        rw [er, ← b3] at hgo
        exact nm_r (nI_1 j) hgo
      · have hne : fr_nv D (fr_gv p j) ≠ fr_nv D (fr_gv p' j) := by
          intro e2
          rcases fr_pw hF.2.2.2.1 _ (a5 _ ga) _ (b5 _ gb) with h | h | h
          · exact e h
          · omega
          · omega
        rw [if_neg (fun e2 => hne (Int.ofNat_inj.mp e2))] at hp'
        refine ⟨vp_in_nI g6a (by omega), vp_in_nI g6b (by omega), ?_⟩
        rw [nI_clamp (by omega), nI_clamp (by omega), na.1, nb.1]
        refine pk_le (fr_nv D (fr_gv p j)) (fr_nv D (fr_gv p' j)) (fun e2 => ?_) (fun e2 => ?_)
        · rw [decide_eq_false (by omega)] at hp'; exact hp'
        · rw [decide_eq_true (by omega)] at hp'; exact hp'
    · rw [fr_cd3_0 (by rw [er]) _ _ h] at hp
      exact br_t (nI_le h (by omega)) hp
theorem fr_x_bf93 {post : Int32 → SX → Prop} {s t a b : Nat} {z : fr_ZR} (hS : fr_W1 S) (hS2 : fr_W2 S) (hX : fr_XI S D q A) (hF : fr_FW D) (hs : fr_Wn S D A s a) (ht : fr_Wn S D A t b)
    (hm : ∀ i, i < 3 → fr_zm z i = fr_ph (fr_gg S D a i)) (ho : ∀ i, i < 3 → fr_zo z i = fr_ph (fr_gg S D b i)) :
    ∀ (k n i : Nat), i + k = 3 → k < n → post (fr_i (fr_lx (fr_cd1 S D a i k) (fr_cd1 S D b i k))) (fr_mX S D hx o q z) → wX_before_93 post (nI s) (nI t) (nI (a / 216)) (nI (b / 216)) (nI (fr_ru S)) (fr_bX S) (nI (fr_lv D).length) (nI (fr_md D)) (fr_fr q) (fr_pk q) (fr_pr D) hx (fr_sa S) (fr_co S) (fr_po S) (fr_te S) (fr_ac S) (fr_cK S) (fr_cT S) (fr_cL S) (fr_cN S) (fr_tF S) (fr_tH S) (fr_tO S) (fr_vL S) (fr_vF S) (fr_aW S) (fr_aK S) (fr_aX S) (fr_aY S) (fr_aZ S) (fr_nu D) (fr_fd D) (fr_kd D) o (fr_pa q) (fr_ch q) (fr_nx q) (fr_fa q) (fr_st q) (fr_rt q) (fr_zs z) (fr_zg z) (fr_zb z) (fr_zm z) (fr_zo z) (fr_zn z) (fr_zf z) (fr_ou D) n (nI i) := by
  obtain ⟨p, a1, a2, a3, a4, a5, a6, a7, a8, a9, a10, a11⟩ := fr_Wn_c hS hX hs
  obtain ⟨p', b1, b2, b3, b4, b5, b6, b7, b8, b9, b10, b11⟩ := fr_Wn_c hS hX ht
  have hR := fr_R_le (S := S)
  have h4 := hS.1
  have hWa := hS.2.2.1 (a / 216) (by omega)
  have hWb := hS.2.2.1 (b / 216) (by omega)
  have i1 : vp_in (nI (a / 216)) 4 := vp_in_nI (by omega) (by omega)
  have i2 : vp_in (nI (b / 216)) 4 := vp_in_nI (by omega) (by omega)
  intro k
  induction k with
  | zero =>
    intro n i hi hn hp
    obtain ⟨n, rfl⟩ : ∃ m, n = m + 1 := ⟨n - 1, by omega⟩
    have t1 := fr_tc_lt hWa
    have t2 := fr_tc_lt hWb
    have hp' : post (fr_i (if ((fr_tc S (a / 216) : Nat) : Int) = ((fr_tc S (b / 216) : Nat) : Int) then (if (-((a / 216 : Nat) : Int)) = (-((b / 216 : Nat) : Int)) then fr_lx (fr_cd3 S D a 0 3) (fr_cd3 S D b 0 3) else decide ((-((b / 216 : Nat) : Int)) < (-((a / 216 : Nat) : Int)))) else decide (((fr_tc S (b / 216) : Nat) : Int) < ((fr_tc S (a / 216) : Nat) : Int)))) (fr_mX S D hx o q z) := hp
    refine br_t (nI_le (a := 3) (by omega) (by omega)) ⟨i1, i2, ?_⟩
    rw [nI_clamp (by omega), nI_clamp (by omega), hS2 (a / 216) (by omega), hS2 (b / 216) (by omega)]
    by_cases et : fr_tc S (a / 216) = fr_tc S (b / 216)
    · rw [if_pos (by rw [et])] at hp'
      refine br_t (by rw [et]) ?_
      refine pk_eq (a / 216) (b / 216) (fun e => ?_) (fun e => ?_)
      · rw [if_pos (by rw [e])] at hp'
        refine ⟨i1, nm_r (e' := nI (fr_pn S (a / 216))) hWa.1.2.2.1 ⟨4, ?_⟩⟩
        exact fr_x_bf212 hS hX hF hs ht e 3 4 0 (by omega) (by omega) hp'
      · rw [if_neg (by omega)] at hp'
        refine pk_le (b / 216) (a / 216) (fun e2 => ?_) (fun e2 => ?_)
        · rw [decide_eq_false (by omega)] at hp'; exact hp'
        · rw [decide_eq_true (by omega)] at hp'; exact hp'
    · rw [if_neg (fun e2 => et (Int.ofNat_inj.mp e2))] at hp'
      refine br_f (by rw [nI_eq (by omega) (by omega)]; exact et) ⟨i1, i2, ?_⟩
      refine pk_le (fr_tc S (a / 216)) (fr_tc S (b / 216)) (fun e2 => ?_) (fun e2 => ?_)
      · rw [decide_eq_false (by omega)] at hp'; exact hp'
      · rw [decide_eq_true (by omega)] at hp'; exact hp'
  | succ k ih =>
    intro n i hi hn hp
    obtain ⟨n, rfl⟩ : ∃ m, n = m + 1 := ⟨n - 1, by omega⟩
    have h1 := fr_gg_lt (S := S) hF a i
    have h2 := fr_gg_lt (S := S) hF b i
    have hcl : (nI i).toNatClampNeg = i := nI_clamp (by omega)
    have hin : vp_in (nI i) 3 := vp_in_nI (by omega) (by omega)
    refine br_f (nI_ge (b := 3) (by omega) (by omega)) ⟨hin, hin, ?_⟩
    rw [hcl, hm i (by omega), ho i (by omega)]
    exact fr_cmpP (post := fun b => post b (fr_mX S D hx o q z)) (by omega) (by omega) hp (fun hq => nm_r (nI_1 i) (ih n (i + 1) (by omega) (by omega) hq)) (fun hq => ⟨hin, hin, hq⟩)
theorem fr_x_bf59 {post : Int32 → SX → Prop} {s t a b : Nat} {z : fr_ZR} {m : fr_FN} (hS : fr_W1 S) (hS2 : fr_W2 S) (hX : fr_XI S D q A) (hF : fr_FW D) (hs : fr_Wn S D A s a) (ht : fr_Wn S D A t b)
    (hm : ∀ i, i < 3 → m i = fr_ph (fr_gg S D b i))
    (hp : ∀ m' w, post (fr_i (fr_lx (fr_cd1 S D a 0 3) (fr_cd1 S D b 0 3))) (fr_mX S D hx o q (fr_zoo z m' w))) :
    ∀ (k n i : Nat) (w : fr_FN), i + k = 3 → k < n → (∀ j, j < i → w j = m j) → wX_before_59 post (nI s) (nI t) (nI (a / 216)) (nI (b / 216)) (nI (fr_ru S)) (fr_bX S) (nI (fr_lv D).length) (nI (fr_md D)) (fr_fr q) (fr_pk q) (fr_pr D) hx n (nI i) (fr_sa S) (fr_co S) (fr_po S) (fr_te S) (fr_ac S) (fr_cK S) (fr_cT S) (fr_cL S) (fr_cN S) (fr_tF S) (fr_tH S) (fr_tO S) (fr_vL S) (fr_vF S) (fr_aW S) (fr_aK S) (fr_aX S) (fr_aY S) (fr_aZ S) (fr_nu D) (fr_fd D) (fr_kd D) o (fr_pa q) (fr_ch q) (fr_nx q) (fr_fa q) (fr_st q) (fr_rt q) (fr_zs (fr_zoo z m w)) (fr_zg (fr_zoo z m w)) (fr_zb (fr_zoo z m w)) (fr_zm (fr_zoo z m w)) (fr_zo (fr_zoo z m w)) (fr_zn (fr_zoo z m w)) (fr_zf (fr_zoo z m w)) (fr_ou D) := by
  obtain ⟨p, a1, a2, a3, a4, a5, a6, a7, a8, a9, a10, a11⟩ := fr_Wn_c hS hX hs
  intro k
  induction k with
  | zero =>
    intro n i w hi hn hw
    obtain ⟨n, rfl⟩ : ∃ m, n = m + 1 := ⟨n - 1, by omega⟩
    refine br_t (nI_le (a := 3) (by omega) (by omega)) (fr_x_sortFacts (z := fr_zoo z m w) hF hX.1 a1 a3 a8 a5 ?_)
    intro m' hm'
    rw [← a4] at hm'
    refine ⟨4, ?_⟩
    exact fr_x_bf93 (z := fr_zoo z m' w) hS hS2 hX hF hs ht hm' (fun j hj => (hw j (by omega)).trans (hm j hj)) 3 4 0 (by omega) (by omega) (hp m' w)
  | succ k ih =>
    intro n i w hi hn hw
    obtain ⟨n, rfl⟩ : ∃ m, n = m + 1 := ⟨n - 1, by omega⟩
    have hcl : (nI i).toNatClampNeg = i := nI_clamp (by omega)
    have hin : vp_in (nI i) 3 := vp_in_nI (by omega) (by omega)
    refine br_f (nI_ge (b := 3) (by omega) (by omega)) ⟨hin, hin, nm_r (e' := upd w i (m i)) (by rw [hcl]; rfl) (nm_r (nI_1 i) ?_)⟩
    refine ih n (i + 1) (upd w i (m i)) (by omega) (by omega) (fun j hj => ?_)
    by_cases e : j = i
    · rw [e, pk_us]
    · rw [pk_un e]; exact hw j (by omega)
theorem fr_x_before {post : Int32 → SX → Prop} {s t a b : Nat} {z : fr_ZR} (hS : fr_W1 S) (hS2 : fr_W2 S) (hX : fr_XI S D q A) (hF : fr_FW D) (hs : fr_Wn S D A s a) (ht : fr_Wn S D A t b)
    (hp : ∀ m' w, post (fr_i (fr_bf S D a b)) (fr_mX S D hx o q (fr_zoo z m' w))) : wpX_before post (fr_mX S D hx o q z) (nI s) (nI t) := by
  obtain ⟨p, a1, a2, a3, a4, a5, a6, a7, a8, a9, a10, a11⟩ := fr_Wn_c hS hX hs
  obtain ⟨p', b1, b2, b3, b4, b5, b6, b7, b8, b9, b10, b11⟩ := fr_Wn_c hS hX ht
  have i1 : vp_in (nI (a / 216)) 4 := vp_in_nI (by omega) (by omega)
  have i2 : vp_in (nI (b / 216)) 4 := vp_in_nI (by omega) (by omega)
  have hp' : ∀ m' w, post (fr_i (if (fr_sa S (a / 216)).toInt = (fr_sa S (b / 216)).toInt then fr_lx (fr_cd1 S D a 0 3) (fr_cd1 S D b 0 3) else decide ((fr_sa S (b / 216)).toInt < (fr_sa S (a / 216)).toInt))) (fr_mX S D hx o q (fr_zoo z m' w)) := hp
  unfold wpX_before
  refine fr_x_ruleOf hX.1 hX.2.1 a1 (fr_x_ruleOf hX.1 hX.2.1 b1 ⟨i1, i2, ?_⟩)
  rw [nI_clamp (by omega), nI_clamp (by omega)]
  refine br_c (fun e => ?_) (fun e => ⟨i1, i2, br_c (fun e3 => ?_) (fun e3 => ?_)⟩)
  · rw [if_pos (by rw [e])] at hp'
    refine fr_x_sortFacts hF hX.1 b1 b3 b8 b5 ?_
    intro m hm
    rw [← b4] at hm
    refine ⟨4, ?_⟩
    exact fr_x_bf59 (z := z) hS hS2 hX hF hs ht hm hp' 3 4 0 (fr_zo z) (by omega) (by omega) (fun j hj => absurd hj (Nat.not_lt_zero _))
  · have := hp' (fr_zm z) (fr_zo z)
    rw [if_neg (fun h => e (Int32.toInt_inj.mp h)), decide_eq_false (by rw [Int32.le_iff_toInt_le] at e3; omega)] at this
    exact this
  · have := hp' (fr_zm z) (fr_zo z)
    rw [if_neg (fun h => e (Int32.toInt_inj.mp h)), decide_eq_true (by rw [Int32.le_iff_toInt_le] at e3; omega)] at this
    exact this
end
end
section
def fr_zr (z : fr_ZR) (b m w : fr_FN) : fr_ZR := (fr_zs z, fr_zg z, b, m, w, fr_zn z, fr_zf z)
def fr_Bs (S : fr_SR) (D : fr_DR) (A : fr_AT) (b : fr_FN) (C : List Nat) : Prop := ∀ i, i < C.length → ∃ t, b i = nI t ∧ fr_Wn S D A t (C.getD i 0)
def fr_SL (S : fr_SR) (D : fr_DR) (A : fr_AT) (lim tn : Nat) (C : List Nat) : Prop :=
  C.Pairwise (fun a b => fr_bf S D a b = true) ∧ C.length ≤ lim ∧ (∀ x, x ∈ C → ∃ t, t < tn ∧ fr_Wn S D A t x) ∧
  (∀ x, (∃ t, t < tn ∧ fr_Wn S D A t x) → x ∉ C → C.length = lim ∧ ∀ y, y ∈ C → fr_bf S D y x = true)
def fr_ii (C : List Nat) (i c : Nat) : List Nat := C.take i ++ c :: C.drop i
theorem fr_ii_len {C : List Nat} {i c : Nat} (hi : i ≤ C.length) : (fr_ii C i c).length = C.length + 1 := by
  unfold fr_ii
  rw [List.length_append, List.length_take, List.length_cons, List.length_drop]
  omega
theorem fr_ii_getD {C : List Nat} {i c j : Nat} (hi : i ≤ C.length) : (fr_ii C i c).getD j 0 = if j < i then C.getD j 0 else if j = i then c else C.getD (j - 1) 0 := by
  unfold fr_ii
  by_cases e : j < i
  · rw [if_pos e, List.getD_eq_getElem?_getD, List.getD_eq_getElem?_getD, List.getElem?_append_left (by rw [List.length_take]; omega), List.getElem?_take_of_lt e]
  · rw [if_neg e, List.getD_eq_getElem?_getD, List.getElem?_append_right (by rw [List.length_take]; omega), List.length_take, Nat.min_eq_left hi]
    by_cases e2 : j = i
    · rw [if_pos e2, e2, Nat.sub_self]
      rfl
    · obtain ⟨m, rfl⟩ : ∃ m, j = i + (m + 1) := ⟨j - i - 1, by omega⟩
      rw [if_neg e2, show i + (m + 1) - i = m + 1 by omega, List.getElem?_cons_succ, List.getElem?_drop, List.getD_eq_getElem?_getD, show i + (m + 1) - 1 = i + m by omega]
theorem fr_ii_mem {C : List Nat} {i c x : Nat} : x ∈ fr_ii C i c ↔ x = c ∨ x ∈ C := by
  unfold fr_ii
  have h : x ∈ C ↔ x ∈ C.take i ++ C.drop i := by rw [List.take_append_drop]
  rw [h, List.mem_append, List.mem_append, List.mem_cons]
  constructor
  · rintro (h | h | h)
    · exact Or.inr (Or.inl h)
    · exact Or.inl h
    · exact Or.inr (Or.inr h)
  · rintro (h | h | h)
    · exact Or.inr (Or.inl h)
    · exact Or.inl h
    · exact Or.inr (Or.inr h)
theorem fr_take_getD {E : List Nat} {l j : Nat} (h : j < l) : (E.take l).getD j 0 = E.getD j 0 := by
  rw [List.getD_eq_getElem?_getD, List.getD_eq_getElem?_getD, List.getElem?_take_of_lt h]
section
variable {S : fr_SR} {D : fr_DR} {hx : Int32} {o : fr_FN} {q : fr_QR} {A : fr_AT}
/-- where c goes: all behind it come after it, the one ahead of it does not -/
def fr_Po (S : fr_SR) (D : fr_DR) (C : List Nat) (i c : Nat) : Prop := i ≤ C.length ∧ (∀ y, y ∈ C.drop i → fr_bf S D c y = true) ∧ (i = 0 ∨ fr_bf S D c (C.getD (i - 1) 0) = false)
theorem fr_Po_ahead {C : List Nat} {i c lim t : Nat} (hS : fr_W1 S) (hX : fr_XI S D q A) (hF : fr_FW D) (hC : fr_SL S D A lim t C) (hw : fr_Wn S D A t c) (h : fr_Po S D C i c) : c ∉ C ∧ ∀ y, y ∈ C.take i → fr_bf S D y c = true := by
  obtain ⟨h1, h2, h3, h4⟩ := hC
  have hno : c ∉ C := by
    intro hm
    obtain ⟨t', ht', hw'⟩ := h3 c hm
    have := fr_Wn_un hS hX hw hw'
    omega
  refine ⟨hno, ?_⟩
  obtain ⟨hi, hb, hz⟩ := h
  have hwc : fr_Wt S D c = true := by
    obtain ⟨p, _, _, _, _, _, _, _, _, _, _, w⟩ := fr_Wn_c hS hX hw
    exact w
  rcases hz with hz | hz
  · intro y hy
    rw [hz, List.take_zero] at hy
    cases hy
  · intro y hy
    by_cases h0 : i = 0
    · rw [h0, List.take_zero] at hy
      cases hy
    · obtain ⟨j, rfl⟩ : ∃ j, i = j + 1 := ⟨i - 1, by omega⟩
      rw [show j + 1 - 1 = j by omega] at hz
      have hjl : j < C.length := by omega
      have hlm := fr_getD_mem hjl
      have hlast : fr_bf S D (C.getD j 0) c = true := by
        obtain ⟨t', _, hw'⟩ := h3 _ hlm
        obtain ⟨p, _, _, _, _, _, _, _, _, _, _, w⟩ := fr_Wn_c hS hX hw'
        rcases fr_bf_tri hF hwc w (fun e => hno (e ▸ hlm)) with hh | hh
        · rw [hz] at hh; cases hh
        · exact hh
      rw [fr_take_s hjl] at hy
      rcases List.mem_append.mp hy with hy | hy
      · have hpw : (C.take j ++ C.drop j).Pairwise (fun a b => fr_bf S D a b = true) := by rw [List.take_append_drop]; exact h1
        rw [fr_drop hjl] at hpw
        exact fr_bf_tr ((List.pairwise_append.mp hpw).2.2 y hy _ List.mem_cons_self) hlast
      · rw [List.mem_singleton.mp hy]
        exact hlast
theorem fr_SL_skip {C : List Nat} {lim t : Nat} (hC : fr_SL S D A lim t C) (h : ∀ c, ¬ fr_Wn S D A t c) : fr_SL S D A lim (t + 1) C := by
  obtain ⟨h1, h2, h3, h4⟩ := hC
  refine ⟨h1, h2, fun x hx => ?_, fun x hx hno => h4 x ?_ hno⟩
  · obtain ⟨t', a, b⟩ := h3 x hx
    exact ⟨t', by omega, b⟩
  · obtain ⟨t', a, b⟩ := hx
    refine ⟨t', ?_, b⟩
    rcases Nat.lt_or_ge t' t with hh | hh
    · exact hh
    · have : t' = t := by omega
      rw [this] at b
      exact absurd b (h x)
theorem fr_SL_full {C : List Nat} {c lim t : Nat} (hS : fr_W1 S) (hX : fr_XI S D q A) (hF : fr_FW D) (hC : fr_SL S D A lim t C) (hw : fr_Wn S D A t c) (h : fr_Po S D C lim c) : fr_SL S D A lim (t + 1) C := by
  obtain ⟨hno, hah⟩ := fr_Po_ahead hS hX hF hC hw h
  obtain ⟨h1, h2, h3, h4⟩ := hC
  have hl : C.length = lim := by have := h.1; omega
  refine ⟨h1, h2, fun x hx => ?_, fun x hx hnx => ?_⟩
  · obtain ⟨t', a, b⟩ := h3 x hx
    exact ⟨t', by omega, b⟩
  · obtain ⟨t', a, b⟩ := hx
    rcases Nat.lt_or_ge t' t with hh | hh
    · exact h4 x ⟨t', hh, b⟩ hnx
    · have : t' = t := by omega
      rw [this] at b
      have ec := fr_Wn_un' hS hX b hw
      refine ⟨hl, fun y hy => ?_⟩
      rw [ec]
      refine hah y ?_
      rw [← hl, List.take_length]
      exact hy
theorem fr_SL_ins {C : List Nat} {i c lim t : Nat} (hS : fr_W1 S) (hX : fr_XI S D q A) (hF : fr_FW D) (hC : fr_SL S D A lim t C) (hw : fr_Wn S D A t c) (h : fr_Po S D C i c) (hil : i < lim) : fr_SL S D A lim (t + 1) ((fr_ii C i c).take lim) := by
  obtain ⟨hno, hah⟩ := fr_Po_ahead hS hX hF hC hw h
  obtain ⟨h1, h2, h3, h4⟩ := hC
  obtain ⟨hi, hb, _⟩ := h
  have hsplit : (C.take i ++ C.drop i).Pairwise (fun a b => fr_bf S D a b = true) := by rw [List.take_append_drop]; exact h1
  have hsp := List.pairwise_append.mp hsplit
  have hE : (fr_ii C i c).Pairwise (fun a b => fr_bf S D a b = true) := by
    refine List.pairwise_append.mpr ⟨hsp.1, List.pairwise_cons.mpr ⟨hb, hsp.2.1⟩, ?_⟩
    intro a ha b hb2
    rcases List.mem_cons.mp hb2 with e | hb2
    · rw [e]; exact hah a ha
    · exact hsp.2.2 a ha b hb2
  have hlen := fr_ii_len (c := c) hi
  have hcm : c ∈ (fr_ii C i c).take lim := by
    have e := fr_ii_getD (c := c) (j := i) hi
    rw [if_neg (by omega), if_pos rfl] at e
    have e2 := fr_take_getD (E := fr_ii C i c) hil
    rw [e] at e2
    have hm := fr_getD_mem (lv := (fr_ii C i c).take lim) (i := i) (by rw [List.length_take]; omega)
    rw [e2] at hm
    exact hm
  refine ⟨List.Pairwise.sublist (List.take_sublist _ _) hE, by rw [List.length_take]; omega, fun x hx => ?_, fun x hx hnx => ?_⟩
  · rcases fr_ii_mem.mp (List.mem_of_mem_take hx) with e | hm
    · rw [e]; exact ⟨t, by omega, hw⟩
    · obtain ⟨t', a, b⟩ := h3 x hm
      exact ⟨t', by omega, b⟩
  · have hxc : x ≠ c := fun e => hnx (e ▸ hcm)
    have hxt : ∃ t', t' < t ∧ fr_Wn S D A t' x := by
      obtain ⟨t', a, b⟩ := hx
      rcases Nat.lt_or_ge t' t with hh | hh
      · exact ⟨t', hh, b⟩
      · have : t' = t := by omega
        rw [this] at b
        exact absurd (fr_Wn_un' hS hX b hw) hxc
    by_cases hxC : x ∈ C
    · have hxE : x ∈ (fr_ii C i c).take lim ++ (fr_ii C i c).drop lim := by rw [List.take_append_drop]; exact fr_ii_mem.mpr (Or.inr hxC)
      rcases List.mem_append.mp hxE with hm | hm
      · exact absurd hm hnx
      · have hpw : ((fr_ii C i c).take lim ++ (fr_ii C i c).drop lim).Pairwise (fun a b => fr_bf S D a b = true) := by rw [List.take_append_drop]; exact hE
        refine ⟨?_, fun y hy => (List.pairwise_append.mp hpw).2.2 y hy x hm⟩
        have : 0 < ((fr_ii C i c).drop lim).length := List.length_pos_of_mem hm
        rw [List.length_drop] at this
        rw [List.length_take]
        omega
    · obtain ⟨k1, k2⟩ := h4 x hxt hxC
      refine ⟨by rw [List.length_take]; omega, fun y hy => ?_⟩
      rcases fr_ii_mem.mp (List.mem_of_mem_take hy) with e | hm
      · rw [e]
        have hlast : C.getD i 0 ∈ C.drop i := by
          rw [fr_drop (by omega : i < C.length)]
          exact List.mem_cons_self
        exact fr_bf_tr (hb _ hlast) (k2 _ (fr_getD_mem (by omega)))
      · exact k2 y hm
theorem fr_x_rk76 {post : Int32 → SX → Prop} {J : Int32 → Int32 → Int32 → Int32 → Int32 → Int32 → Int32 → Int32 → Int32 → Int32 → fr_FN → fr_FN → fr_FN → fr_FN → fr_FN → fr_FN → fr_FN → fr_FN → fr_FN → fr_FN → fr_FN → fr_FN → fr_FN → fr_FN → fr_FN → fr_FN → fr_FN → fr_FN → fr_FN → fr_FN → fr_FN → fr_FN → fr_FN → fr_FN → fr_FN → fr_FN → fr_FN → fr_FN → fr_FN → fr_FN → fr_FN → fr_FN → fr_FN → fr_FN → fr_FN → fr_FN → fr_FN → Prop} {x1 x2 : Int32} {t i top : Nat} {z : fr_ZR} {b0 m w : fr_FN} (ht : t < 1036) (htop : top < 16) (hsh : ∀ j, i ≤ j → j < top → vp_nar .short (b0 j) = b0 j)
    (hJ : ∀ b, (∀ j, j < i → b j = b0 j) → b i = nI t → (∀ j, i < j → j ≤ top → b j = b0 (j - 1)) → J x2 (nI (t + 1)) (nI (fr_ru S)) (fr_bX S) (nI (fr_lv D).length) (nI (fr_md D)) (fr_fr q) (fr_pk q) (fr_pr D) hx (fr_sa S) (fr_co S) (fr_po S) (fr_te S) (fr_ac S) (fr_cK S) (fr_cT S) (fr_cL S) (fr_cN S) (fr_tF S) (fr_tH S) (fr_tO S) (fr_vL S) (fr_vF S) (fr_aW S) (fr_aK S) (fr_aX S) (fr_aY S) (fr_aZ S) (fr_nu D) (fr_fd D) (fr_kd D) o (fr_pa q) (fr_ch q) (fr_nx q) (fr_fa q) (fr_st q) (fr_rt q) (fr_zs (fr_zr z b m w)) (fr_zg (fr_zr z b m w)) (fr_zb (fr_zr z b m w)) (fr_zm (fr_zr z b m w)) (fr_zo (fr_zr z b m w)) (fr_zn (fr_zr z b m w)) (fr_zf (fr_zr z b m w)) (fr_ou D)) :
    ∀ (k n : Nat) (b : fr_FN), i + k ≤ top → k < n → (∀ j, j ≤ i + k → b j = b0 j) → (∀ j, i + k < j → j ≤ top → b j = b0 (j - 1)) →
    wX_rank_76 post J x1 x2 (nI t) (nI i) (nI (fr_ru S)) (fr_bX S) (nI (fr_lv D).length) (nI (fr_md D)) (fr_fr q) (fr_pk q) (fr_pr D) hx n (nI (i + k)) (fr_sa S) (fr_co S) (fr_po S) (fr_te S) (fr_ac S) (fr_cK S) (fr_cT S) (fr_cL S) (fr_cN S) (fr_tF S) (fr_tH S) (fr_tO S) (fr_vL S) (fr_vF S) (fr_aW S) (fr_aK S) (fr_aX S) (fr_aY S) (fr_aZ S) (fr_nu D) (fr_fd D) (fr_kd D) o (fr_pa q) (fr_ch q) (fr_nx q) (fr_fa q) (fr_st q) (fr_rt q) (fr_zs (fr_zr z b m w)) (fr_zg (fr_zr z b m w)) (fr_zb (fr_zr z b m w)) (fr_zm (fr_zr z b m w)) (fr_zo (fr_zr z b m w)) (fr_zn (fr_zr z b m w)) (fr_zf (fr_zr z b m w)) (fr_ou D) := by
  intro k
  induction k with
  | zero =>
    intro n b hk hn h1 h2
    obtain ⟨n, rfl⟩ : ∃ m, n = m + 1 := ⟨n - 1, by omega⟩
    refine br_t (nI_le (by omega) (by omega)) ⟨vp_in_nI (by omega) (by omega), nm_r (e' := upd b i (nI t)) (by rw [nI_clamp (by omega), fr_s1616 (by omega)]; rfl) (nm_r (nI_1 t) (hJ (upd b i (nI t)) ?_ pk_us ?_))⟩
    · intro j hj
      rw [pk_un (by omega)]
      exact h1 j (by omega)
    · intro j hj hj2
      rw [pk_un (by omega)]
      exact h2 j (by omega) hj2
  | succ k ih =>
    intro n b hk hn h1 h2
    obtain ⟨n, rfl⟩ : ∃ m, n = m + 1 := ⟨n - 1, by omega⟩
    have e1 : nI (i + (k + 1)) - 1 = nI (i + k) := nI_pred (i + k)
    have e2 : nI (i + (k + 1)) + (-1) = nI (i + k) := pk_m1 (i + k)
    refine br_f (nI_ge (by omega) (by omega)) ?_
    rw [e1]
    refine ⟨vp_in_nI (by omega) (by omega), vp_in_nI (by omega) (by omega), nm_r (e' := upd b (i + (k + 1)) (b0 (i + k))) ?_ (nm_r e2 (ih n (upd b (i + (k + 1)) (b0 (i + k))) (by omega) (by omega) ?_ ?_))⟩
    · rw [nI_clamp (by omega), nI_clamp (by omega)]
      show upd b _ (vp_nar .short (b (i + k))) = _
      rw [h1 (i + k) (by omega), hsh (i + k) (by omega) (by omega)]
    · intro j hj
      rw [pk_un (by omega)]
      exact h1 j (by omega)
    · intro j hj hj2
      by_cases e : j = i + (k + 1)
      · rw [e, pk_us]
        rfl
      · rw [pk_un e]
        exact h2 j (by omega) hj2
theorem fr_Bs_rng {b : fr_FN} {C : List Nat} (hX : fr_XI S D q A) (h : fr_Bs S D A b C) {j : Nat} (hj : j < C.length) : vp_nar .short (b j) = b j := by
  obtain ⟨t, h1, r, p, h2, _⟩ := h j hj
  have := (hX.1.1.1 _ _ _ h2).2.2.2
  rw [h1]
  exact fr_s16 (by omega)
theorem fr_x_rk54 {post : Int32 → SX → Prop} {J : Int32 → Int32 → Int32 → Int32 → Int32 → Int32 → Int32 → Int32 → Int32 → Int32 → fr_FN → fr_FN → fr_FN → fr_FN → fr_FN → fr_FN → fr_FN → fr_FN → fr_FN → fr_FN → fr_FN → fr_FN → fr_FN → fr_FN → fr_FN → fr_FN → fr_FN → fr_FN → fr_FN → fr_FN → fr_FN → fr_FN → fr_FN → fr_FN → fr_FN → fr_FN → fr_FN → fr_FN → fr_FN → fr_FN → fr_FN → fr_FN → fr_FN → fr_FN → fr_FN → fr_FN → fr_FN → Prop} {t i c lim : Nat} {C : List Nat} {z : fr_ZR} {b m w : fr_FN} (hS : fr_W1 S) (hX : fr_XI S D q A) (hF : fr_FW D) (hlim : lim ≤ 16) (hC : fr_SL S D A lim t C) (hB : fr_Bs S D A b C) (hw : fr_Wn S D A t c) (h : fr_Po S D C i c)
    (hJ : ∀ C' b', fr_SL S D A lim (t + 1) C' → fr_Bs S D A b' C' → J (nI C'.length) (nI (t + 1)) (nI (fr_ru S)) (fr_bX S) (nI (fr_lv D).length) (nI (fr_md D)) (fr_fr q) (fr_pk q) (fr_pr D) hx (fr_sa S) (fr_co S) (fr_po S) (fr_te S) (fr_ac S) (fr_cK S) (fr_cT S) (fr_cL S) (fr_cN S) (fr_tF S) (fr_tH S) (fr_tO S) (fr_vL S) (fr_vF S) (fr_aW S) (fr_aK S) (fr_aX S) (fr_aY S) (fr_aZ S) (fr_nu D) (fr_fd D) (fr_kd D) o (fr_pa q) (fr_ch q) (fr_nx q) (fr_fa q) (fr_st q) (fr_rt q) (fr_zs (fr_zr z b' m w)) (fr_zg (fr_zr z b' m w)) (fr_zb (fr_zr z b' m w)) (fr_zm (fr_zr z b' m w)) (fr_zo (fr_zr z b' m w)) (fr_zn (fr_zr z b' m w)) (fr_zf (fr_zr z b' m w)) (fr_ou D)) :
    wX_rank_54 post J (nI lim) (nI C.length) (nI t) (nI i) (nI (fr_ru S)) (fr_bX S) (nI (fr_lv D).length) (nI (fr_md D)) (fr_fr q) (fr_pk q) (fr_pr D) hx (fr_sa S) (fr_co S) (fr_po S) (fr_te S) (fr_ac S) (fr_cK S) (fr_cT S) (fr_cL S) (fr_cN S) (fr_tF S) (fr_tH S) (fr_tO S) (fr_vL S) (fr_vF S) (fr_aW S) (fr_aK S) (fr_aX S) (fr_aY S) (fr_aZ S) (fr_nu D) (fr_fd D) (fr_kd D) o (fr_pa q) (fr_ch q) (fr_nx q) (fr_fa q) (fr_st q) (fr_rt q) (fr_zs (fr_zr z b m w)) (fr_zg (fr_zr z b m w)) (fr_zb (fr_zr z b m w)) (fr_zm (fr_zr z b m w)) (fr_zo (fr_zr z b m w)) (fr_zn (fr_zr z b m w)) (fr_zf (fr_zr z b m w)) (fr_ou D) := by
  have htl : t < 1036 := by
    obtain ⟨r, p, e, _⟩ := hw
    exact (hX.1.1.1 _ _ _ e).2.2.2
  have hi := h.1
  have hl := hC.2.1
  refine pk_eq i lim (fun e => ?_) (fun e => ?_)
  · rw [e] at h
    exact nm_r (nI_1 t) (hJ C b (fr_SL_full hS hX hF hC hw h) hB)
  · have hil : i < lim := by omega
    have hnew := fr_SL_ins hS hX hF hC hw h hil
    have hElen := fr_ii_len (c := c) hi
    have hfin : ∀ top, top + 1 = min lim (C.length + 1) → ∀ b', (∀ j, j < i → b' j = b j) → b' i = nI t → (∀ j, i < j → j ≤ top → b' j = b (j - 1)) → J (nI (top + 1)) (nI (t + 1)) (nI (fr_ru S)) (fr_bX S) (nI (fr_lv D).length) (nI (fr_md D)) (fr_fr q) (fr_pk q) (fr_pr D) hx (fr_sa S) (fr_co S) (fr_po S) (fr_te S) (fr_ac S) (fr_cK S) (fr_cT S) (fr_cL S) (fr_cN S) (fr_tF S) (fr_tH S) (fr_tO S) (fr_vL S) (fr_vF S) (fr_aW S) (fr_aK S) (fr_aX S) (fr_aY S) (fr_aZ S) (fr_nu D) (fr_fd D) (fr_kd D) o (fr_pa q) (fr_ch q) (fr_nx q) (fr_fa q) (fr_st q) (fr_rt q) (fr_zs (fr_zr z b' m w)) (fr_zg (fr_zr z b' m w)) (fr_zb (fr_zr z b' m w)) (fr_zm (fr_zr z b' m w)) (fr_zo (fr_zr z b' m w)) (fr_zn (fr_zr z b' m w)) (fr_zf (fr_zr z b' m w)) (fr_ou D) := by
      intro top ht b' k1 k2 k3
      have := hJ _ b' hnew ?_
      · rw [List.length_take, hElen, ← ht] at this
        exact this
      · intro j hj
        rw [List.length_take, hElen] at hj
        rw [fr_take_getD (by omega), fr_ii_getD hi]
        by_cases e1 : j < i
        · rw [if_pos e1, k1 j e1]
          exact hB j (by omega)
        · rw [if_neg e1]
          by_cases e2 : j = i
          · rw [if_pos e2, e2]
            exact ⟨t, k2, hw⟩
          · rw [if_neg e2, k3 j (by omega) (by omega)]
            exact hB (j - 1) (by omega)
    refine pk_le lim C.length (fun e2 => ?_) (fun e2 => ?_)
    · have en : C.length = lim := by omega
      refine nm_r (e' := nI (i + (C.length - 1 - i))) (by rw [show i + (C.length - 1 - i) = C.length - 1 by omega]; exact pk_sub (b := 1) (by omega)) ⟨C.length + 1, ?_⟩
      have hf := hfin (C.length - 1) (by omega)
      rw [show C.length - 1 + 1 = C.length by omega] at hf
      exact fr_x_rk76 (b0 := b) (top := C.length - 1) htl (by omega) (fun j _ hj => fr_Bs_rng hX hB (by omega)) hf (C.length - 1 - i) (C.length + 1) b (by omega) (by omega) (fun _ _ => rfl) (fun j hj hj2 => by omega)
    · refine nm_r (nI_1 _) (nm_r (e' := nI (i + (C.length - i))) (by rw [show i + (C.length - i) = C.length by omega]; exact nI_pred _) ⟨C.length + 1, ?_⟩)
      have hf := hfin C.length (by omega)
      exact fr_x_rk76 (b0 := b) (top := C.length) htl (by omega) (fun j _ hj => fr_Bs_rng hX hB (by omega)) hf (C.length - i) (C.length + 1) b (by omega) (by omega) (fun _ _ => rfl) (fun j hj hj2 => by omega)
theorem fr_x_rk26 {post : Int32 → SX → Prop} {J : Int32 → Int32 → Int32 → Int32 → Int32 → Int32 → Int32 → Int32 → Int32 → Int32 → fr_FN → fr_FN → fr_FN → fr_FN → fr_FN → fr_FN → fr_FN → fr_FN → fr_FN → fr_FN → fr_FN → fr_FN → fr_FN → fr_FN → fr_FN → fr_FN → fr_FN → fr_FN → fr_FN → fr_FN → fr_FN → fr_FN → fr_FN → fr_FN → fr_FN → fr_FN → fr_FN → fr_FN → fr_FN → fr_FN → fr_FN → fr_FN → fr_FN → fr_FN → fr_FN → fr_FN → fr_FN → Prop} {t c lim : Nat} {C : List Nat} {z : fr_ZR} {b : fr_FN} (hS : fr_W1 S) (hS2 : fr_W2 S) (hX : fr_XI S D q A) (hF : fr_FW D) (hlim : lim ≤ 16) (hC : fr_SL S D A lim t C) (hB : fr_Bs S D A b C) (hw : fr_Wn S D A t c)
    (hJ : ∀ C' b' m w, fr_SL S D A lim (t + 1) C' → fr_Bs S D A b' C' → J (nI C'.length) (nI (t + 1)) (nI (fr_ru S)) (fr_bX S) (nI (fr_lv D).length) (nI (fr_md D)) (fr_fr q) (fr_pk q) (fr_pr D) hx (fr_sa S) (fr_co S) (fr_po S) (fr_te S) (fr_ac S) (fr_cK S) (fr_cT S) (fr_cL S) (fr_cN S) (fr_tF S) (fr_tH S) (fr_tO S) (fr_vL S) (fr_vF S) (fr_aW S) (fr_aK S) (fr_aX S) (fr_aY S) (fr_aZ S) (fr_nu D) (fr_fd D) (fr_kd D) o (fr_pa q) (fr_ch q) (fr_nx q) (fr_fa q) (fr_st q) (fr_rt q) (fr_zs (fr_zr z b' m w)) (fr_zg (fr_zr z b' m w)) (fr_zb (fr_zr z b' m w)) (fr_zm (fr_zr z b' m w)) (fr_zo (fr_zr z b' m w)) (fr_zn (fr_zr z b' m w)) (fr_zf (fr_zr z b' m w)) (fr_ou D)) :
    ∀ (i n : Nat) (m w : fr_FN), i ≤ C.length → i < n → (∀ y, y ∈ C.drop i → fr_bf S D c y = true) → wX_rank_26 post J (nI lim) (nI C.length) (nI t) n (nI i) (nI (fr_ru S)) (fr_bX S) (nI (fr_lv D).length) (nI (fr_md D)) (fr_fr q) (fr_pk q) (fr_pr D) hx (fr_sa S) (fr_co S) (fr_po S) (fr_te S) (fr_ac S) (fr_cK S) (fr_cT S) (fr_cL S) (fr_cN S) (fr_tF S) (fr_tH S) (fr_tO S) (fr_vL S) (fr_vF S) (fr_aW S) (fr_aK S) (fr_aX S) (fr_aY S) (fr_aZ S) (fr_nu D) (fr_fd D) (fr_kd D) o (fr_pa q) (fr_ch q) (fr_nx q) (fr_fa q) (fr_st q) (fr_rt q) (fr_zs (fr_zr z b m w)) (fr_zg (fr_zr z b m w)) (fr_zb (fr_zr z b m w)) (fr_zm (fr_zr z b m w)) (fr_zo (fr_zr z b m w)) (fr_zn (fr_zr z b m w)) (fr_zf (fr_zr z b m w)) (fr_ou D) := by
  have hl := hC.2.1
  intro i
  induction i with
  | zero =>
    intro n m w hi hn hd
    obtain ⟨n, rfl⟩ : ∃ m, n = m + 1 := ⟨n - 1, by omega⟩
    exact br_t (by decide) (fr_x_rk54 (i := 0) hS hX hF hlim hC hB hw ⟨hi, hd, Or.inl rfl⟩ (fun C' b' => hJ C' b' m w))
  | succ i ih =>
    intro n m w hi hn hd
    obtain ⟨n, rfl⟩ : ∃ m, n = m + 1 := ⟨n - 1, by omega⟩
    have e1 : nI (i + 1) - 1 = nI i := nI_pred i
    refine br_f (nI_nle (by omega) (by omega)) ?_
    rw [e1, nI_clamp (by omega)]
    refine ⟨vp_in_nI (by omega) (by omega), ?_⟩
    obtain ⟨t2, e2, hw2⟩ := hB i (by omega)
    have e3 : fr_zb (fr_zr z b m w) i = nI t2 := e2
    rw [e3]
    refine fr_x_before hS hS2 hX hF hw hw2 ?_
    intro m' w'
    cases eb : fr_bf S D c (C.getD i 0) with
    | false => exact br_t rfl (fr_x_rk54 (i := i + 1) hS hX hF hlim hC hB hw ⟨hi, hd, Or.inr eb⟩ (fun C' b' => hJ C' b' m' w'))
    | true =>
      refine br_f (by decide) (nm_r (pk_m1 i) (ih n m' w' (by omega) (by omega) ?_))
      intro y hy
      rw [fr_drop (by omega : i < C.length)] at hy
      rcases List.mem_cons.mp hy with e | hy
      · rw [e]; exact eb
      · exact hd y hy
theorem fr_x_rk4 {post : Int32 → SX → Prop} {lim pk : Nat} (hS : fr_W1 S) (hS2 : fr_W2 S) (hX : fr_XI S D q A) (hF : fr_FW D) (hlim : lim ≤ 16) (hpk : fr_pk q = nI pk) (hpk2 : pk < 1036) :
    ∀ (k n t : Nat) (C : List Nat) (z : fr_ZR), t + k = pk + 1 → k < n → fr_SL S D A lim t C → fr_Bs S D A (fr_zb z) C →
    (∀ C' b' m w, fr_SL S D A lim (pk + 1) C' → fr_Bs S D A b' C' → post (nI C'.length) (fr_mX S D hx o q (fr_zr z b' m w))) →
    wX_rank_4 post (nI lim) n (nI C.length) (nI t) (nI (fr_ru S)) (fr_bX S) (nI (fr_lv D).length) (nI (fr_md D)) (fr_fr q) (fr_pk q) (fr_pr D) hx (fr_sa S) (fr_co S) (fr_po S) (fr_te S) (fr_ac S) (fr_cK S) (fr_cT S) (fr_cL S) (fr_cN S) (fr_tF S) (fr_tH S) (fr_tO S) (fr_vL S) (fr_vF S) (fr_aW S) (fr_aK S) (fr_aX S) (fr_aY S) (fr_aZ S) (fr_nu D) (fr_fd D) (fr_kd D) o (fr_pa q) (fr_ch q) (fr_nx q) (fr_fa q) (fr_st q) (fr_rt q) (fr_zs z) (fr_zg z) (fr_zb z) (fr_zm z) (fr_zo z) (fr_zn z) (fr_zf z) (fr_ou D) := by
  intro k
  induction k with
  | zero =>
    intro n t C z ht hn hC hB hp
    obtain ⟨n, rfl⟩ : ∃ m, n = m + 1 := ⟨n - 1, by omega⟩
    have : t = pk + 1 := by omega
    subst this
    exact br_t (by rw [hpk]; exact nI_lt (by omega) (by omega)) (hp C (fr_zb z) (fr_zm z) (fr_zo z) hC hB)
  | succ k ih =>
    intro n t C z ht hn hC hB hp
    obtain ⟨n, rfl⟩ : ∃ m, n = m + 1 := ⟨n - 1, by omega⟩
    have hl := hC.2.1
    refine br_f (by rw [hpk]; exact nI_nlt (by omega) (by omega)) (fr_x_waits hS hX hF (by omega) ?_ ?_)
    · intro c hw
      refine br_f (by decide) ⟨C.length + 1, ?_⟩
      refine fr_x_rk26 (z := z) (b := fr_zb z) hS hS2 hX hF hlim hC hB hw ?_ C.length (C.length + 1) (fr_zm z) (fr_zo z) (Nat.le_refl _) (by omega) ?_
      · intro C' b' m w h1 h2
        exact ih n (t + 1) C' (fr_zr z b' m w) (by omega) (by omega) h1 h2 hp
      · intro y hy
        rw [List.drop_length] at hy
        cases hy
    · intro hno
      exact br_t rfl (nm_r (nI_1 t) (ih n (t + 1) C z (by omega) (by omega) (fr_SL_skip hC hno) hB hp))
theorem fr_x_rank {post : Int32 → SX → Prop} {lim : Nat} {z : fr_ZR} (hS : fr_W1 S) (hS2 : fr_W2 S) (hX : fr_XI S D q A) (hF : fr_FW D) (hlim : lim ≤ 16)
    (hp : ∀ C b m w, fr_Sg S D C → C.length ≤ lim → (C.length < lim → ∀ x, x < 864 → fr_Wt S D x = true → x ∈ C) → fr_Bs S D A b C → post (nI C.length) (fr_mX S D hx o q (fr_zr z b m w))) :
    wpX_rank post (fr_mX S D hx o q z) (nI lim) := by
  obtain ⟨pk, h1, h2, h3⟩ := hX.1.2.2.2.2.2
  refine ⟨pk + 2, fr_x_rk4 hS hS2 hX hF hlim h1 h2 (pk + 1) (pk + 2) 0 [] z (by omega) (by omega) ?_ (fun i hi => absurd hi (Nat.not_lt_zero _)) ?_⟩
  · refine ⟨List.Pairwise.nil, Nat.zero_le _, (fun x hx => by cases hx), fun x hx => ?_⟩
    obtain ⟨t, ht, _⟩ := hx
    omega
  · intro C b m w hC hB
    obtain ⟨c1, c2, c3, c4⟩ := hC
    have hall : ∀ x, fr_Wt S D x = true → ∃ t, t < pk + 1 ∧ fr_Wn S D A t x := by
      intro x hx
      obtain ⟨t, hw⟩ := fr_Wn_ex hS hX hx
      have hw' := hw
      obtain ⟨r, p, e, _⟩ := hw'
      have := h3 _ _ _ e
      exact ⟨t, by omega, hw⟩
    refine hp C b m w ⟨c1, fun x hx => ?_, fun x hx hw hno y hy => (c4 x (hall x hw) hno).2 y hy⟩ c2 ?_ hB
    · obtain ⟨t, _, hw⟩ := c3 x hx
      obtain ⟨p, _, _, _, _, _, _, _, _, _, w1, w2⟩ := fr_Wn_c hS hX hw
      exact ⟨w2, w1⟩
    · intro hlt x hx hw
      apply Classical.byContradiction
      intro hno
      have := (c4 x (hall x hw) hno).1
      omega
end
end
section
theorem fr_cc_len {P : Nat → Bool} : ∀ (k i : Nat), fr_cc P i k = ((List.range' i k).filter P).length := by
  intro k
  induction k with
  | zero => intro i; rfl
  | succ k ih =>
    intro i
    rw [fr_cc, ih, List.range'_succ, List.filter_cons]
    cases P i with
    | true => rw [if_pos rfl, if_pos rfl, List.length_cons]; omega
    | false => rw [if_neg (by decide), if_neg (by decide)]; omega
theorem fr_cc_inj {P Q : Nat → Bool} {n m : Nat} {Rl : Nat → Nat → Prop} (h1 : ∀ i, i < n → P i = true → ∃ j, j < m ∧ Q j = true ∧ Rl i j) (h2 : ∀ i i' j, Rl i j → Rl i' j → i = i') : fr_cc P 0 n ≤ fr_cc Q 0 m := by
  rw [fr_cc_len, fr_cc_len]
  have hK : ∀ i : Nat, ∃ j : Nat, i < n → P i = true → j < m ∧ Q j = true ∧ Rl i j := by
    intro i
    by_cases h : i < n ∧ P i = true
    · obtain ⟨j, hj⟩ := h1 i h.1 h.2
      exact ⟨j, fun _ _ => hj⟩
    · exact ⟨0, fun a b => absurd ⟨a, b⟩ h⟩
  obtain ⟨K, hK⟩ := Classical.axiomOfChoice hK
  have hmem : ∀ i, i ∈ (List.range' 0 n).filter P → K i < m ∧ Q (K i) = true ∧ Rl i (K i) := by
    intro i hi
    rw [List.mem_filter, List.mem_range'_1] at hi
    exact hK i (by omega) hi.2
  have hnd : (((List.range' 0 n).filter P).map K).Nodup := by
    refine fr_ndmap (List.Nodup.sublist List.filter_sublist (List.nodup_range' ..)) ?_
    intro a ha b hb e
    have h3 := (hmem a ha).2.2
    have h4 := (hmem b hb).2.2
    rw [e] at h3
    exact h2 _ _ _ h3 h4
  have hsub : ((List.range' 0 n).filter P).map K ⊆ (List.range' 0 m).filter Q := by
    intro x hx
    obtain ⟨i, hi, e⟩ := List.mem_map.mp hx
    have h3 := hmem i hi
    rw [← e, List.mem_filter, List.mem_range'_1]
    exact ⟨by omega, h3.2.1⟩
  have := List.Nodup.length_le_of_subset hnd hsub
  rw [List.length_map] at this
  exact this
noncomputable def fr_wb (S : fr_SR) (D : fr_DR) (A : fr_AT) (t : Nat) : Bool := @decide (∃ c, fr_Wn S D A t c) (Classical.propDecidable _)
theorem fr_wb_iff {S : fr_SR} {D : fr_DR} {A : fr_AT} {t : Nat} : fr_wb S D A t = true ↔ ∃ c, fr_Wn S D A t c := by
  unfold fr_wb
  exact @decide_eq_true_iff _ (Classical.propDecidable _)
def fr_KN (S : fr_SR) (r : Nat) (x : Int32) : Prop :=
  x &&& 1 ≠ 0 → ∃ y l fl, y < 4 ∧ x >>> ((1 : Int32) &&& 31) = nI y ∧ fr_vL S (4 * r + y) = nI l ∧ l < fr_pn S r ∧ fr_vF S (4 * r + y) = nI fl ∧ fl < 3 ∧ fr_Bd S r (5 * r + fr_cn S r) (4 * (5 * r + fr_cn S r)) y
def fr_WA (S : fr_SR) (r a : Nat) : Prop :=
  (fr_aW S a = 0 ∧ ∃ x, x < fr_pn S r ∧ fr_aX S a = nI x) ∨ (fr_aW S a = 1 ∧ fr_KN S r (fr_aX S a)) ∨ fr_aW S a = 2 ∨
  (fr_aW S a = 3 ∧ (∃ k, k < 4 ∧ fr_aK S a = nI k) ∧ fr_KN S r (fr_aX S a) ∧ fr_KN S r (fr_aY S a) ∧ fr_KN S r (fr_aZ S a))
def fr_W3 (S : fr_SR) : Prop := ∀ r, r < fr_ru S → fr_ac S r = nI (fr_an S r) ∧ fr_an S r ≤ 4 ∧ ∀ a, 4 * r ≤ a → a < 4 * r + fr_an S r → fr_WA S r a
def fr_po1 (D : fr_DR) (v : Int32) : fr_DR := (fr_nu D, fr_fd D, fr_kd D, fr_lv D, fr_md D, fr_mk D, fr_pr D + 1, upd (fr_ou D) (fr_pr D &&& 15).toNatClampNeg v)
def fr_pf (S : fr_SR) (r : Nat) (g : Nat → Nat) (fd0 : fr_FN) (ns : Nat → Int32) (D : fr_DR) (h : Int32) (a : Nat) : fr_DR × Int32 :=
  if fr_aW S a = 0 then ((fr_remD S D (ns (fr_aX S a).toNatClampNeg)).1, h)
  else if fr_aW S a = 1 then (fr_po1 D (fr_ov S fd0 r g (fr_aX S a)), h)
  else if fr_aW S a = 2 then (D, 1)
  else ((fr_addD S D (fr_aK S a) (fr_ov S fd0 r g (fr_aX S a)) (fr_ov S fd0 r g (fr_aY S a)) (fr_ov S fd0 r g (fr_aZ S a))).1, h)
def fr_as (S : fr_SR) (r : Nat) (g : Nat → Nat) (fd0 : fr_FN) (ns : Nat → Int32) (D : fr_DR) (h : Int32) (a : Nat) : Nat → fr_DR × Int32
  | 0 => (D, h)
  | k + 1 => fr_as S r g fd0 ns (fr_pf S r g fd0 ns D h a).1 (fr_pf S r g fd0 ns D h a).2 (a + 1) k
def fr_fi (S : fr_SR) (D : fr_DR) (h : Int32) (c : Nat) : fr_DR × Int32 :=
  fr_as S (c / 216) (fr_pl c) (fr_fd D) (fun j => fr_nu D (fr_pl c j)) (fr_dm D (upd (fr_mk D) c 1)) h (4 * (c / 216)) (fr_an S (c / 216))
def fr_rn (S : fr_SR) (D : fr_DR) (h : Int32) (i : Nat) : Nat → (fr_DR × Int32) × Nat
  | 0 => ((D, h), i)
  | k + 1 => if h = 0 then (match fr_nxt S D none with
    | none => ((D, h), i)
    | some c => fr_rn S (fr_fi S D h c).1 (fr_fi S D h c).2 (i + 1) k) else ((D, h), i)
/-- what the facts keep through a step -/
def fr_Kp (S : fr_SR) (B : Nat) (D : fr_DR) : Prop := fr_FW D ∧ fr_MW S D ∧ fr_md D ≤ B
theorem fr_Kp_rem {S : fr_SR} {B : Nat} {D : fr_DR} (h : fr_Kp S B D) (v : Int32) : fr_Kp S B (fr_remD S D v).1 := by
  unfold fr_remD
  cases e : fr_ri D v with
  | none => exact h
  | some i => exact ⟨fr_rm_FW h.1 (fr_ri_some e).1, fr_nm_MW h.2.1, h.2.2⟩
theorem fr_Kp_add {S : fr_SR} {B : Nat} {D : fr_DR} (h : fr_Kp S B D) (hB : B + 1 < 2 ^ 27) (k x y w : Int32) : fr_Kp S (B + 1) (fr_addD S D k x y w).1 := by
  have hm := h.2.2
  unfold fr_addD
  by_cases e : k < 0 ∨ 3 < k ∨ (fr_lv D).length = 6
  · rw [if_pos e]
    exact ⟨h.1, h.2.1, by show fr_md D ≤ _; omega⟩
  · rw [if_neg e]
    have hs := fr_slot h.1 (fun e2 => e (Or.inr (Or.inr e2)))
    refine ⟨fr_ad_FW h.1 hs.2.1 hs.2.2.1 (by omega), fr_nm_MW h.2.1, ?_⟩
    show fr_md D + 1 ≤ B + 1
    omega
theorem fr_Kp_pf {S : fr_SR} {B : Nat} {D : fr_DR} (h : fr_Kp S B D) (hB : B + 1 < 2 ^ 27) (r : Nat) (g : Nat → Nat) (fd0 : fr_FN) (ns : Nat → Int32) (hl : Int32) (a : Nat) : fr_Kp S (B + 1) (fr_pf S r g fd0 ns D hl a).1 := by
  unfold fr_pf
  split
  · have := fr_Kp_rem h (ns (fr_aX S a).toNatClampNeg)
    exact ⟨this.1, this.2.1, Nat.le_succ_of_le this.2.2⟩
  · split
    · exact ⟨h.1, h.2.1, Nat.le_succ_of_le h.2.2⟩
    · split
      · exact ⟨h.1, h.2.1, Nat.le_succ_of_le h.2.2⟩
      · exact fr_Kp_add h hB _ _ _ _
theorem fr_Kp_as {S : fr_SR} (r : Nat) (g : Nat → Nat) (fd0 : fr_FN) (ns : Nat → Int32) : ∀ (k a B : Nat) (D : fr_DR) (h : Int32), fr_Kp S B D → B + k < 2 ^ 27 → fr_Kp S (B + k) (fr_as S r g fd0 ns D h a k).1 := by
  intro k
  induction k with
  | zero => intro a B D h hK _; exact hK
  | succ k ih =>
    intro a B D h hK hB
    rw [fr_as, show B + (k + 1) = (B + 1) + k by omega]
    exact ih (a + 1) (B + 1) _ _ (fr_Kp_pf hK (by omega) r g fd0 ns h a) (by omega)
theorem fr_Kp_mark {S : fr_SR} {B : Nat} {D : fr_DR} {c : Nat} (h : fr_Kp S B D) (hw : fr_Wt S D c = true) : fr_Kp S B (fr_dm D (upd (fr_mk D) c 1)) := by
  refine ⟨h.1, fun x hx hne => ?_, h.2.2⟩
  by_cases e : x = c
  · rw [e]
    show fr_hd S (fr_kd D) (fr_fd D) (fr_lv D) c = true
    exact fr_Wt_hd hw
  · refine h.2.1 x hx ?_
    have : upd (fr_mk D) c 1 x ≠ 0 := hne
    rw [pk_un e] at this
    exact this
theorem fr_Kp_fi {S : fr_SR} {B : Nat} {D : fr_DR} {c : Nat} (hS3 : fr_W3 S) (hr : c / 216 < fr_ru S) (h : fr_Kp S B D) (hw : fr_Wt S D c = true) (hB : B + 4 < 2 ^ 27) (hl : Int32) : fr_Kp S (B + 4) (fr_fi S D hl c).1 := by
  have h4 := (hS3 _ hr).2.1
  have := fr_Kp_as (c / 216) (fr_pl c) (fr_fd D) (fun j => fr_nu D (fr_pl c j)) (fr_an S (c / 216)) (4 * (c / 216)) B _ hl (fr_Kp_mark h hw) (by omega)
  exact ⟨this.1, this.2.1, Nat.le_trans this.2.2 (by omega)⟩
section
variable {S : fr_SR} {D : fr_DR} {hx : Int32} {o : fr_FN} {q : fr_QR} {A : fr_AT}
theorem fr_x_ag4 {post : Int32 → Prop} {pk : Nat} {z : fr_ZR} (hS : fr_W1 S) (hX : fr_XI S D q A) (hF : fr_FW D) (hpk : fr_pk q = nI pk) (hpk2 : pk < 1036) :
    ∀ (k n t a : Nat), t + k = pk + 1 → k < n → post (nI (a + fr_cc (fr_wb S D A) t k)) → wX_agenda_4 post (nI (fr_ru S)) (fr_bX S) (nI (fr_lv D).length) (nI (fr_md D)) (fr_fr q) (fr_pk q) (fr_pr D) hx (fr_sa S) (fr_co S) (fr_po S) (fr_te S) (fr_ac S) (fr_cK S) (fr_cT S) (fr_cL S) (fr_cN S) (fr_tF S) (fr_tH S) (fr_tO S) (fr_vL S) (fr_vF S) (fr_aW S) (fr_aK S) (fr_aX S) (fr_aY S) (fr_aZ S) (fr_nu D) (fr_fd D) (fr_kd D) o (fr_pa q) (fr_ch q) (fr_nx q) (fr_fa q) (fr_st q) (fr_rt q) (fr_zs z) (fr_zg z) (fr_zb z) (fr_zm z) (fr_zo z) (fr_zn z) (fr_zf z) (fr_ou D) n (nI a) (nI t) := by
  intro k
  induction k with
  | zero =>
    intro n t a ht hn hp
    obtain ⟨n, rfl⟩ : ∃ m, n = m + 1 := ⟨n - 1, by omega⟩
    exact br_t (by rw [hpk]; exact nI_lt (by omega) (by omega)) hp
  | succ k ih =>
    intro n t a ht hn hp
    obtain ⟨n, rfl⟩ : ∃ m, n = m + 1 := ⟨n - 1, by omega⟩
    rw [fr_cc] at hp
    refine br_f (by rw [hpk]; exact nI_nlt (by omega) (by omega)) (fr_x_waits hS hX hF (by omega) ?_ ?_)
    · intro c hw
      rw [if_pos (fr_wb_iff.mpr ⟨c, hw⟩), ← Nat.add_assoc] at hp
      exact br_f (by decide) (nm_r (nI_1 a) (nm_r (nI_1 t) (ih n (t + 1) (a + 1) (by omega) (by omega) hp)))
    · intro hno
      rw [if_neg (fun h => by obtain ⟨c, hc⟩ := fr_wb_iff.mp h; exact hno c hc), Nat.zero_add] at hp
      exact br_t rfl (nm_r (nI_1 t) (ih n (t + 1) a (by omega) (by omega) hp))
theorem fr_x_agenda {post : Int32 → Prop} {z : fr_ZR} (hS : fr_W1 S) (hX : fr_XI S D q A) (hF : fr_FW D) (hp : post (nI (fr_cc (fr_Wt S D) 0 864))) : wpX_agenda post (fr_mX S D hx o q z) := by
  obtain ⟨pk, h1, h2, h3⟩ := hX.1.2.2.2.2.2
  have e : fr_cc (fr_wb S D A) 0 (pk + 1) = fr_cc (fr_Wt S D) 0 864 := by
    refine Nat.le_antisymm (fr_cc_inj (Rl := fun t c => fr_Wn S D A t c) (fun t ht hb => ?_) (fun t t' c a b => fr_Wn_un hS hX a b)) (fr_cc_inj (Rl := fun c t => fr_Wn S D A t c) (fun c hc hw => ?_) (fun c c' t a b => fr_Wn_un' hS hX a b))
    · obtain ⟨c, hc⟩ := fr_wb_iff.mp hb
      obtain ⟨p, _, _, _, _, _, _, _, _, _, w1, w2⟩ := fr_Wn_c hS hX hc
      exact ⟨c, w1, w2, hc⟩
    · obtain ⟨t, ht⟩ := fr_Wn_ex hS hX hw
      have ht' := ht
      obtain ⟨r, p, e, _⟩ := ht'
      have := h3 _ _ _ e
      exact ⟨t, by omega, fr_wb_iff.mpr ⟨c, ht⟩, ht⟩
  refine ⟨pk + 2, fr_x_ag4 hS hX hF h1 h2 (pk + 1) (pk + 2) 0 0 (by omega) (by omega) ?_⟩
  rw [Nat.zero_add, e]
  exact hp
def fr_Sn (S : fr_SR) (r : Nat) (g : Nat → Nat) (fd0 : fr_FN) (ns : Nat → Int32) (z : fr_ZR) : Prop :=
  (∀ j, j < fr_pn S r → fr_zn z j = ns j) ∧ (∀ j, j < fr_pn S r → ∀ i, i < 3 → fr_zf z (3 * j + i) = fd0 (3 * g j + i))
theorem fr_x_operand {post : Int32 → Prop} {r : Nat} {g : Nat → Nat} {fd0 : fr_FN} {ns : Nat → Int32} {z : fr_ZR} {x : Int32} (hr : r < 4) (hn : fr_pn S r ≤ 3) (hz : fr_Sn S r g fd0 ns z) (hk : fr_KN S r x) (hp : post (fr_ov S fd0 r g x)) : wpX_operand post (fr_mX S D hx o q z) (nI r) x := by
  by_cases hx0 : x &&& 1 = 0
  · refine br_t hx0 ?_
    rw [fr_ov, if_pos hx0] at hp
    exact hp
  · obtain ⟨y, l, fl, h1, h2, h3, h4, h5, h6, _⟩ := hk hx0
    have e1 : nI r * 4 + x >>> ((1 : Int32) &&& 31) = nI (4 * r + y) := by rw [h2, fr_m4]
    have hin : vp_in (nI (4 * r + y)) 16 := vp_in_nI (by omega) (by omega)
    have hcl : (nI (4 * r + y)).toNatClampNeg = 4 * r + y := nI_clamp (by omega)
    rw [fr_ov, if_neg hx0] at hp
    have e2 : fr_vx x = y := by unfold fr_vx; rw [h2]; exact nI_clamp (by omega)
    have e3 : fr_vl S (4 * r + y) = l := by unfold fr_vl; rw [h3]; exact nI_clamp (by omega)
    have e4 : fr_vf S (4 * r + y) = fl := by unfold fr_vf; rw [h5]; exact nI_clamp (by omega)
    rw [e2, e3, e4] at hp
    refine br_f hx0 (nm_r e1 ⟨hin, hin, ?_⟩)
    rw [hcl, h3, h5, fr_m3]
    refine ⟨vp_in_nI (by omega) (by omega), ?_⟩
    rw [nI_clamp (by omega), hz.2 l h4 fl h6]
    exact hp
theorem fr_x_perform {post : SX → Prop} {r a : Nat} {g : Nat → Nat} {fd0 : fr_FN} {ns : Nat → Int32} {z : fr_ZR} (hS : fr_W1 S) (hF : fr_FW D) (hMW : fr_MW S D) (hX : fr_XI S D q A) (hO : fr_OK o (fr_lv D)) (hm1 : fr_md D + 1 < 2 ^ 27) (hr : r < fr_ru S) (ha : a < 16) (hA : fr_WA S r a) (hz : fr_Sn S r g fd0 ns z)
    (hp : ∀ (o' : fr_FN) (q' : fr_QR) (A' : fr_AT) (b c : fr_FN), fr_XI S (fr_pf S r g fd0 ns D hx a).1 q' A' → fr_OK o' (fr_lv (fr_pf S r g fd0 ns D hx a).1) → post (fr_mX S (fr_pf S r g fd0 ns D hx a).1 (fr_pf S r g fd0 ns D hx a).2 o' q' (fr_sz z b c))) :
    wpX_perform post (fr_mX S D hx o q z) (nI r) (nI a) := by
  have hcl : (nI a).toNatClampNeg = a := nI_clamp (by omega)
  have hin : vp_in (nI a) 16 := vp_in_nI ha (by omega)
  have h4 := hS.1
  have hn := (hS.2.2.1 r hr).1.2.2.2.1
  refine ⟨hin, nm_r (e' := fr_aX S a) (by rw [hcl]) ⟨hin, nm_r (e' := fr_aY S a) (by rw [hcl]) ⟨hin, nm_r (e' := fr_aZ S a) (by rw [hcl]) ⟨hin, nm_r (e' := fr_aW S a) (by rw [hcl]) ?_⟩⟩⟩⟩
  unfold fr_pf at hp
  rcases hA with ⟨w0, x, x1, x2⟩ | ⟨w1, k1⟩ | w2 | ⟨w3, ⟨k, hk, hk2⟩, k1, k2, k3⟩
  · rw [if_pos w0] at hp
    rw [w0, x2]
    refine br_f (by decide) (br_f (by decide) (br_t rfl ⟨vp_in_nI (by omega) (by omega), ?_⟩))
    have e2 : (fr_aX S a).toNatClampNeg = x := by rw [x2]; exact nI_clamp (by omega)
    rw [e2] at hp
    rw [nI_clamp (by omega), hz.1 x x1]
    exact fr_x_remove hS hF hMW hX hO (fun o' q' A' b c e1 e2 => hp o' q' A' b c e1 e2)
  · rw [if_neg (by rw [w1]; decide), if_pos w1] at hp
    rw [w1]
    refine br_f (by decide) (br_f (by decide) (br_f (by decide) (br_t rfl (nm_e ?_))))
    refine fr_x_operand (D := (fr_nu D, fr_fd D, fr_kd D, fr_lv D, fr_md D, fr_mk D, fr_pr D + 1, fr_ou D)) (r := r) (g := g) (fd0 := fd0) (ns := ns) (by omega) hn hz k1 ?_
    refine ⟨pk_andIn (fr_pr D) 4 (by decide) (by omega), nm_e ?_⟩
    exact hp o q A (fr_zg z) (fr_zs z) hX hO
  · rw [if_neg (by rw [w2]; decide), if_neg (by rw [w2]; decide), if_pos w2] at hp
    rw [w2]
    exact br_f (by decide) (br_f (by decide) (br_f (by decide) (br_f (by decide) (br_t rfl (hp o q A (fr_zg z) (fr_zs z) hX hO)))))
  · rw [if_neg (by rw [w3]; decide), if_neg (by rw [w3]; decide), if_neg (by rw [w3]; decide)] at hp
    rw [w3]
    refine br_f (by decide) (br_t (by decide) ?_)
    refine fr_x_operand (r := r) (g := g) (fd0 := fd0) (ns := ns) (by omega) hn hz k1 ?_
    refine fr_x_operand (r := r) (g := g) (fd0 := fd0) (ns := ns) (by omega) hn hz k2 ?_
    refine fr_x_operand (r := r) (g := g) (fd0 := fd0) (ns := ns) (by omega) hn hz k3 ⟨hin, ?_⟩
    rw [hcl]
    exact fr_x_add hS hF hMW hX hO hm1 (fun o' q' A' b c e1 e2 => hp o' q' A' b c e1 e2)
theorem fr_Sn_sz {r : Nat} {g : Nat → Nat} {fd0 : fr_FN} {ns : Nat → Int32} {z : fr_ZR} {b c : fr_FN} (h : fr_Sn S r g fd0 ns z) : fr_Sn S r g fd0 ns (fr_sz z b c) := h
theorem fr_x_f104 {post : SX → Prop} {r : Nat} {g : Nat → Nat} {fd0 : fr_FN} {ns : Nat → Int32} (hS : fr_W1 S) (hS3 : fr_W3 S) (hr : r < fr_ru S) :
    ∀ (k n a B : Nat) (D : fr_DR) (hx : Int32) (o : fr_FN) (q : fr_QR) (A : fr_AT) (z : fr_ZR), a + k = 4 * r + fr_an S r → 4 * r ≤ a → k < n → fr_Kp S B D → B + k < 2 ^ 27 → fr_XI S D q A → fr_OK o (fr_lv D) → fr_Sn S r g fd0 ns z →
    (∀ (o' : fr_FN) (q' : fr_QR) (A' : fr_AT) (b c : fr_FN), fr_XI S (fr_as S r g fd0 ns D hx a k).1 q' A' → fr_OK o' (fr_lv (fr_as S r g fd0 ns D hx a k).1) → post (fr_mX S (fr_as S r g fd0 ns D hx a k).1 (fr_as S r g fd0 ns D hx a k).2 o' q' (fr_sz z b c))) →
    wX_fire_104 post (nI r) n (nI a) (nI (fr_ru S)) (fr_bX S) (nI (fr_lv D).length) (nI (fr_md D)) (fr_fr q) (fr_pk q) (fr_pr D) hx (fr_sa S) (fr_co S) (fr_po S) (fr_te S) (fr_ac S) (fr_cK S) (fr_cT S) (fr_cL S) (fr_cN S) (fr_tF S) (fr_tH S) (fr_tO S) (fr_vL S) (fr_vF S) (fr_aW S) (fr_aK S) (fr_aX S) (fr_aY S) (fr_aZ S) (fr_nu D) (fr_fd D) (fr_kd D) o (fr_pa q) (fr_ch q) (fr_nx q) (fr_fa q) (fr_st q) (fr_rt q) (fr_zs z) (fr_zg z) (fr_zb z) (fr_zm z) (fr_zo z) (fr_zn z) (fr_zf z) (fr_ou D) := by
  have h4 := hS.1
  obtain ⟨w1, w2, w3⟩ := hS3 r hr
  have hrcl : (nI r).toNatClampNeg = r := nI_clamp (by omega)
  have e0 : nI r * 4 + fr_ac S (nI r).toNatClampNeg = nI (4 * r + fr_an S r) := by rw [hrcl, w1, fr_m4]
  have hrin : vp_in (nI r) 4 := vp_in_nI (by omega) (by omega)
  intro k
  induction k with
  | zero =>
    intro n a B D hx o q A z ha h1 hn hK hB hX hO hz hp
    obtain ⟨n, rfl⟩ : ∃ m, n = m + 1 := ⟨n - 1, by omega⟩
    exact ⟨hrin, br_t (by rw [e0]; exact nI_le (by omega) (by omega)) (hp o q A (fr_zg z) (fr_zs z) hX hO)⟩
  | succ k ih =>
    intro n a B D hx o q A z ha h1 hn hK hB hX hO hz hp
    obtain ⟨n, rfl⟩ : ∃ m, n = m + 1 := ⟨n - 1, by omega⟩
    have hmd := hK.2.2
    refine ⟨hrin, br_f (by rw [e0]; exact nI_ge (by omega) (by omega)) ?_⟩
    refine fr_x_perform hS hK.1 hK.2.1 hX hO (by omega) hr (by omega) (w3 a h1 (by omega)) hz ?_
    intro o' q' A' b c k1 k2
    exact nm_r (nI_1 a) (ih n (a + 1) (B + 1) _ _ o' q' A' (fr_sz z b c) (by omega) (by omega) (by omega) (fr_Kp_pf hK (by omega) r g fd0 ns hx a) (by omega) k1 k2 hz hp)
def fr_zff (z : fr_ZR) (n f : fr_FN) : fr_ZR := (fr_zs z, fr_zg z, fr_zb z, fr_zm z, fr_zo z, n, f)
theorem fr_x_f57 {post : SX → Prop} {J : Int32 → fr_FN → fr_FN → fr_FN → fr_FN → fr_FN → fr_FN → fr_FN → fr_FN → fr_FN → fr_FN → fr_FN → fr_FN → fr_FN → fr_FN → fr_FN → fr_FN → fr_FN → fr_FN → fr_FN → fr_FN → fr_FN → fr_FN → fr_FN → fr_FN → fr_FN → fr_FN → fr_FN → fr_FN → fr_FN → fr_FN → fr_FN → fr_FN → fr_FN → fr_FN → fr_FN → fr_FN → fr_FN → Prop} {x1 x2 x3 : Int32} {j f : Nat} {z : fr_ZR} {nn : fr_FN} (hj : j < 3) (hf : f < 6) :
    ∀ (k n i : Nat) (ff : fr_FN), i + k = 3 → k < n → (∀ y, y < i → ff (3 * j + y) = fr_fd D (3 * f + y)) →
    (∀ ff', (∀ x, x < 3 * j → ff' x = ff x) → (∀ y, y < 3 → ff' (3 * j + y) = fr_fd D (3 * f + y)) → J (nI (j + 1)) (fr_sa S) (fr_co S) (fr_po S) (fr_te S) (fr_ac S) (fr_cK S) (fr_cT S) (fr_cL S) (fr_cN S) (fr_tF S) (fr_tH S) (fr_tO S) (fr_vL S) (fr_vF S) (fr_aW S) (fr_aK S) (fr_aX S) (fr_aY S) (fr_aZ S) (fr_nu D) (fr_fd D) (fr_kd D) o (fr_pa q) (fr_ch q) (fr_nx q) (fr_fa q) (fr_st q) (fr_rt q) (fr_zs (fr_zff z nn ff')) (fr_zg (fr_zff z nn ff')) (fr_zb (fr_zff z nn ff')) (fr_zm (fr_zff z nn ff')) (fr_zo (fr_zff z nn ff')) (fr_zn (fr_zff z nn ff')) (fr_zf (fr_zff z nn ff')) (fr_ou D)) →
    wX_fire_57 post J x1 x2 x3 (nI j) (nI f) (nI (fr_ru S)) (fr_bX S) (nI (fr_lv D).length) (nI (fr_md D)) (fr_fr q) (fr_pk q) (fr_pr D) hx n (nI i) (fr_sa S) (fr_co S) (fr_po S) (fr_te S) (fr_ac S) (fr_cK S) (fr_cT S) (fr_cL S) (fr_cN S) (fr_tF S) (fr_tH S) (fr_tO S) (fr_vL S) (fr_vF S) (fr_aW S) (fr_aK S) (fr_aX S) (fr_aY S) (fr_aZ S) (fr_nu D) (fr_fd D) (fr_kd D) o (fr_pa q) (fr_ch q) (fr_nx q) (fr_fa q) (fr_st q) (fr_rt q) (fr_zs (fr_zff z nn ff)) (fr_zg (fr_zff z nn ff)) (fr_zb (fr_zff z nn ff)) (fr_zm (fr_zff z nn ff)) (fr_zo (fr_zff z nn ff)) (fr_zn (fr_zff z nn ff)) (fr_zf (fr_zff z nn ff)) (fr_ou D) := by
  intro k
  induction k with
  | zero =>
    intro n i ff hi hn h1 hJ
    obtain ⟨n, rfl⟩ : ∃ m, n = m + 1 := ⟨n - 1, by omega⟩
    exact br_t (nI_le (a := 3) (by omega) (by omega)) (nm_r (nI_1 j) (hJ ff (fun _ _ => rfl) (fun y hy => h1 y (by omega))))
  | succ k ih =>
    intro n i ff hi hn h1 hJ
    obtain ⟨n, rfl⟩ : ∃ m, n = m + 1 := ⟨n - 1, by omega⟩
    refine br_f (nI_ge (b := 3) (by omega) (by omega)) ?_
    rw [fr_m3, fr_m3, nI_clamp (by omega), nI_clamp (by omega)]
    refine ⟨vp_in_nI (by omega) (by omega), vp_in_nI (by omega) (by omega), nm_r (e' := upd ff (3 * j + i) (fr_fd D (3 * f + i))) rfl (nm_r (nI_1 i) (ih n (i + 1) (upd ff (3 * j + i) (fr_fd D (3 * f + i))) (by omega) (by omega) ?_ ?_))⟩
    · intro y hy
      by_cases e : y = i
      · rw [e, pk_us]
      · rw [pk_un (by omega)]; exact h1 y (by omega)
    · intro ff' k1 k2
      exact hJ ff' (fun x hx' => by rw [k1 x hx', pk_un (by omega)]) k2
theorem fr_x_f24 {post : SX → Prop} {r t : Nat} {p : List Nat} {z : fr_ZR} (hQ : fr_PQ q A) (ht : A r p = some t)
    (hp : ∀ nn ff, (∀ j, j < p.length → nn j = fr_nu D (fr_gv p j)) → (∀ j, j < p.length → ∀ i, i < 3 → ff (3 * j + i) = fr_fd D (3 * fr_gv p j + i)) → ∃ n104, wX_fire_104 post (nI r) n104 (nI (4 * r)) (nI (fr_ru S)) (fr_bX S) (nI (fr_lv D).length) (nI (fr_md D)) (fr_fr q) (fr_pk q) (fr_pr D) hx (fr_sa S) (fr_co S) (fr_po S) (fr_te S) (fr_ac S) (fr_cK S) (fr_cT S) (fr_cL S) (fr_cN S) (fr_tF S) (fr_tH S) (fr_tO S) (fr_vL S) (fr_vF S) (fr_aW S) (fr_aK S) (fr_aX S) (fr_aY S) (fr_aZ S) (fr_nu D) (fr_fd D) (fr_kd D) o (fr_pa q) (fr_ch q) (fr_nx q) (fr_fa q) (fr_st q) (fr_rt q) (fr_zs (fr_zff z nn ff)) (fr_zg (fr_zff z nn ff)) (fr_zb (fr_zff z nn ff)) (fr_zm (fr_zff z nn ff)) (fr_zo (fr_zff z nn ff)) (fr_zn (fr_zff z nn ff)) (fr_zf (fr_zff z nn ff)) (fr_ou D)) :
    ∀ (k n j : Nat) (nn ff : fr_FN), j + k = p.length → k < n → (∀ i, i < j → nn i = fr_nu D (fr_gv p i)) → (∀ i, i < j → ∀ y, y < 3 → ff (3 * i + y) = fr_fd D (3 * fr_gv p i + y)) →
    wX_fire_24 post (nI t) (nI r) (nI p.length) (nI (fr_ru S)) (fr_bX S) (nI (fr_lv D).length) (nI (fr_md D)) (fr_fr q) (fr_pk q) (fr_pr D) hx n (nI j) (fr_sa S) (fr_co S) (fr_po S) (fr_te S) (fr_ac S) (fr_cK S) (fr_cT S) (fr_cL S) (fr_cN S) (fr_tF S) (fr_tH S) (fr_tO S) (fr_vL S) (fr_vF S) (fr_aW S) (fr_aK S) (fr_aX S) (fr_aY S) (fr_aZ S) (fr_nu D) (fr_fd D) (fr_kd D) o (fr_pa q) (fr_ch q) (fr_nx q) (fr_fa q) (fr_st q) (fr_rt q) (fr_zs (fr_zff z nn ff)) (fr_zg (fr_zff z nn ff)) (fr_zb (fr_zff z nn ff)) (fr_zm (fr_zff z nn ff)) (fr_zo (fr_zff z nn ff)) (fr_zn (fr_zff z nn ff)) (fr_zf (fr_zff z nn ff)) (fr_ou D) := by
  have hv := hQ.1.1 _ _ _ ht
  intro k
  induction k with
  | zero =>
    intro n j nn ff hj hn h1 h2
    obtain ⟨n, rfl⟩ : ∃ m, n = m + 1 := ⟨n - 1, by omega⟩
    have : j = p.length := by omega
    subst this
    exact br_t (nI_le (by omega) (by omega)) (nm_r (fr_n4 r) (hp nn ff h1 h2))
  | succ k ih =>
    intro n j nn ff hj hn h1 h2
    obtain ⟨n, rfl⟩ : ∃ m, n = m + 1 := ⟨n - 1, by omega⟩
    have hg := fr_gv_lt hv.2.2.1 j
    refine br_f (nI_ge (by omega) (by omega)) (fr_x_given (z := fr_zff z nn ff) hQ ht (by omega) ⟨vp_in_nI hg (by omega), vp_in_nI (by omega) (by omega), nm_r (e' := upd nn j (fr_nu D (fr_gv p j))) (by rw [nI_clamp (by omega), nI_clamp (by omega)]; rfl) ⟨4, ?_⟩⟩)
    refine fr_x_f57 (z := z) (nn := upd nn j (fr_nu D (fr_gv p j))) (by omega) hg 3 4 0 ff (by omega) (by omega) (fun y hy => absurd hy (Nat.not_lt_zero _)) ?_
    intro ff' k1 k2
    refine ih n (j + 1) (upd nn j (fr_nu D (fr_gv p j))) ff' (by omega) (by omega) ?_ ?_
    · intro i hi
      by_cases e : i = j
      · rw [e, pk_us]
      · rw [pk_un e]; exact h1 i (by omega)
    · intro i hi y hy
      by_cases e : i = j
      · rw [e]; exact k2 y hy
      · rw [k1 (3 * i + y) (by omega)]; exact h2 i (by omega) y hy
theorem fr_ov_congr {fd0 : fr_FN} {r : Nat} {g g' : Nat → Nat} {x : Int32} (hk : fr_KN S r x) (hg : ∀ j, j < fr_pn S r → g j = g' j) (hn : fr_pn S r ≤ 3) : fr_ov S fd0 r g x = fr_ov S fd0 r g' x := by
  unfold fr_ov
  by_cases hx0 : x &&& 1 = 0
  · rw [if_pos hx0, if_pos hx0]
  · rw [if_neg hx0, if_neg hx0]
    obtain ⟨y, l, fl, h1, h2, h3, h4, h5, h6, _⟩ := hk hx0
    have e2 : fr_vx x = y := by unfold fr_vx; rw [h2]; exact nI_clamp (by omega)
    have e3 : fr_vl S (4 * r + y) = l := by unfold fr_vl; rw [h3]; exact nI_clamp (by omega)
    rw [e2, e3, hg l h4]
theorem fr_x_fire {post : SX → Prop} {t c B : Nat} {z : fr_ZR} (hS : fr_W1 S) (hS3 : fr_W3 S) (hK : fr_Kp S B D) (hB : B + 4 < 2 ^ 27) (hX : fr_XI S D q A) (hO : fr_OK o (fr_lv D)) (hw : fr_Wn S D A t c)
    (hp : ∀ (o' : fr_FN) (q' : fr_QR) (A' : fr_AT) (z' : fr_ZR), fr_XI S (fr_fi S D hx c).1 q' A' → fr_OK o' (fr_lv (fr_fi S D hx c).1) → post (fr_mX S (fr_fi S D hx c).1 (fr_fi S D hx c).2 o' q' z')) :
    wpX_fire post (fr_mX S D hx o q z) (nI t) := by
  obtain ⟨p, a1, a2, a3, a4, a5, a6, a7, a8, a9, a10, a11⟩ := fr_Wn_c hS hX hw
  have hR := fr_R_le (S := S)
  have h4 := hS.1
  have hv := hX.1.1.1 _ _ _ a1
  have hW := hS.2.2.1 (c / 216) (by omega)
  have htcl : (nI t).toNatClampNeg = t := nI_clamp (by omega)
  have hgp : ∀ j, j < fr_pn S (c / 216) → fr_gv p j = fr_pl c j := by
    intro j hj
    rw [a2, fr_pth_gv _ _ _ hj]
  refine fr_x_ruleOf hX.1 hX.2.1 a1 ⟨vp_in_nI (by omega) (by omega), nm_r (e' := nI p.length) (by rw [nI_clamp (by omega), hW.1.2.2.1, a3]) ⟨vp_in_nI hv.2.2.2 (by omega), nm_r (e' := upd (fr_st q) t 16) (by rw [htcl, fr_b16]) ⟨p.length + 1, ?_⟩⟩⟩
  have hX1 : fr_XI S (fr_dm D (upd (fr_mk D) c 1)) (fr_sq q (upd (fr_st q) t 16)) A := by
    refine ⟨hX.1, hX.2.1, fun r' p' t' e => ?_⟩
    have h0 := hX.2.2 r' p' t' e
    obtain ⟨hr', hsm'⟩ := fr_XI_sm hX e
    have hv' := hX.1.1.1 _ _ _ e
    by_cases hk : r' = c / 216 ∧ p' = p
    · obtain ⟨rfl, rfl⟩ := hk
      have : t' = t := by rw [a1] at e; exact (Option.some.inj e).symm
      subst this
      obtain ⟨r2, p2, b1, b2, b3, b4, b5⟩ := hw
      obtain ⟨e1, e2⟩ := hX.1.1.2 _ _ _ _ _ a1 b1
      rw [← e1, ← e2] at b3
      refine ⟨?_, h0.2⟩
      show upd (fr_st q) t' 16 t' = _
      rw [pk_us, if_pos]
      refine ⟨fr_Mk_iff.mpr ⟨a3, a6, ?_⟩, b3⟩
      show upd (fr_mk D) c 1 (fr_cho (c / 216) p') ≠ 0
      rw [← a4, pk_us]
      decide
    · have hne : t' ≠ t := by
        rintro rfl
        exact hk (hX.1.1.2 _ _ _ _ _ e a1)
      refine fr_RT_congr ?_ (pk_un hne) (fun _ => rfl) h0
      have hiff : fr_Mk S (upd (fr_mk D) c 1) r' p' = true ↔ fr_Mk S (fr_mk D) r' p' = true := by
        rw [fr_Mk_iff, fr_Mk_iff]
        constructor
        · rintro ⟨c1, c2, c3⟩
          refine ⟨c1, c2, ?_⟩
          rw [pk_un] at c3
          · exact c3
          · intro e2
            apply hk
            have er := (fr_cho_pl (r := r') c2).1
            rw [e2] at er
            refine ⟨er.symm, ?_⟩
            have ep := fr_cho_pth (r := r') c2 hv'.2.1
            rw [e2, c1, ← er] at ep
            rw [← ep, a2]
        · rintro ⟨c1, c2, c3⟩
          refine ⟨c1, c2, ?_⟩
          by_cases e2 : fr_cho r' p' = c
          · rw [e2, pk_us]; decide
          · rw [pk_un e2]; exact c3
      show fr_Mk S (upd (fr_mk D) c 1) r' p' = _
      cases e1 : fr_Mk S (fr_mk D) r' p' with
      | true => exact hiff.mpr e1
      | false =>
        cases e2 : fr_Mk S (upd (fr_mk D) c 1) r' p' with
        | false => rfl
        | true => rw [hiff.mp e2] at e1; cases e1
  have hK1 := fr_Kp_mark (c := c) hK a11
  have han := (hS3 _ (by omega : c / 216 < fr_ru S)).2.1
  refine fr_x_f24 (S := S) (D := fr_dm D (upd (fr_mk D) c 1)) (q := fr_sq q (upd (fr_st q) t 16)) (z := z) hX.1 a1 ?_ p.length (p.length + 1) 0 (fr_zn z) (fr_zf z) (by omega) (by omega) (fun i hi => absurd hi (Nat.not_lt_zero _)) (fun i hi => absurd hi (Nat.not_lt_zero _))
  intro nn ff n1 n2
  refine ⟨fr_an S (c / 216) + 1, ?_⟩
  refine fr_x_f104 (g := fr_pl c) (fd0 := fr_fd D) (ns := fun j => fr_nu D (fr_pl c j)) hS hS3 (by omega) (fr_an S (c / 216)) (fr_an S (c / 216) + 1) (4 * (c / 216)) B (fr_dm D (upd (fr_mk D) c 1)) hx o (fr_sq q (upd (fr_st q) t 16)) A (fr_zff z nn ff) rfl (Nat.le_refl _) (Nat.lt_succ_self _) hK1 (by omega) hX1 hO ?_ ?_
  · refine ⟨fun j hj => ?_, fun j hj i hi => ?_⟩
    · exact (n1 j (by omega)).trans (by rw [hgp j hj]; rfl)
    · exact (n2 j (by omega) i hi).trans (by rw [hgp j hj]; rfl)
  · intro o' q' A' b c' k1 k2
    exact hp o' q' A' _ k1 k2
theorem fr_nxt_Sg {C : List Nat} (hF : fr_FW D) (hC : fr_Sg S D C) (hl : C.length ≤ 1) (hall : C.length < 1 → ∀ x, x < 864 → fr_Wt S D x = true → x ∈ C) : (C = [] ∧ fr_nxt S D none = none) ∨ ∃ c, C = [c] ∧ fr_nxt S D none = some c := by
  match C, hl, hC, hall with
  | [], _, hC, hall =>
    have := fr_Sg_all hF hC (hall (by decide)) 0 (Nat.le_refl _)
    exact Or.inl ⟨rfl, this⟩
  | [c], _, hC, _ =>
    have := fr_Sg_at hF hC 0 (Nat.zero_lt_one)
    exact Or.inr ⟨c, rfl, this⟩
theorem fr_x_run15 {post : Int32 → SX → Prop} {N : Nat} (hN : N ≤ 20) (hS : fr_W1 S) (hS2 : fr_W2 S) (hS3 : fr_W3 S) :
    ∀ (k n i B : Nat) (D : fr_DR) (hx : Int32) (o : fr_FN) (q : fr_QR) (A : fr_AT) (z : fr_ZR), i + k = N → k < n → fr_Kp S B D → B + 4 * k < 2 ^ 27 → fr_XI S D q A → fr_OK o (fr_lv D) →
    (∀ (o' : fr_FN) (q' : fr_QR) (A' : fr_AT) (z' : fr_ZR), fr_XI S (fr_rn S D hx i k).1.1 q' A' → fr_OK o' (fr_lv (fr_rn S D hx i k).1.1) → post (nI (fr_rn S D hx i k).2) (fr_mX S (fr_rn S D hx i k).1.1 (fr_rn S D hx i k).1.2 o' q' z')) →
    wX_run_15 post (nI N) n (nI i) (nI (fr_ru S)) (fr_bX S) (nI (fr_lv D).length) (nI (fr_md D)) (fr_fr q) (fr_pk q) (fr_pr D) hx (fr_sa S) (fr_co S) (fr_po S) (fr_te S) (fr_ac S) (fr_cK S) (fr_cT S) (fr_cL S) (fr_cN S) (fr_tF S) (fr_tH S) (fr_tO S) (fr_vL S) (fr_vF S) (fr_aW S) (fr_aK S) (fr_aX S) (fr_aY S) (fr_aZ S) (fr_nu D) (fr_fd D) (fr_kd D) o (fr_pa q) (fr_ch q) (fr_nx q) (fr_fa q) (fr_st q) (fr_rt q) (fr_zs z) (fr_zg z) (fr_zb z) (fr_zm z) (fr_zo z) (fr_zn z) (fr_zf z) (fr_ou D) := by
  intro k
  induction k with
  | zero =>
    intro n i B D hx o q A z hi hn hK hB hX hO hp
    obtain ⟨n, rfl⟩ : ∃ m, n = m + 1 := ⟨n - 1, by omega⟩
    exact br_t (nI_le (by omega) (by omega)) (hp o q A z hX hO)
  | succ k ih =>
    intro n i B D hx o q A z hi hn hK hB hX hO hp
    obtain ⟨n, rfl⟩ : ∃ m, n = m + 1 := ⟨n - 1, by omega⟩
    refine br_f (nI_ge (by omega) (by omega)) ?_
    rw [fr_rn] at hp
    by_cases hh : hx = 0
    · rw [if_pos hh] at hp
      refine br_t hh (fr_x_rank (lim := 1) hS hS2 hX hK.1 (by omega) ?_)
      intro C b m w hC hl hall hBs
      rcases fr_nxt_Sg hK.1 hC hl hall with ⟨e1, e2⟩ | ⟨c, e1, e2⟩
      · rw [e2] at hp
        rw [e1]
        exact br_t rfl (hp o q A (fr_zr z b m w) hX hO)
      · rw [e2] at hp
        subst e1
        refine br_f (show ¬ nI 1 = 0 by decide) ?_
        obtain ⟨t, t1, t2⟩ := hBs 0 (Nat.zero_lt_one)
        have t2' : fr_Wn S D A t c := t2
        obtain ⟨p, _, _, _, _, _, _, w1, _, _, _, w2⟩ := fr_Wn_c hS hX t2'
        have hR := fr_R_le (S := S)
        have e3 : fr_zb (fr_zr z b m w) 0 = nI t := t1
        rw [e3]
        refine fr_x_fire hS hS3 hK (by omega) hX hO t2' ?_
        intro o' q' A' z' k1 k2
        exact nm_r (nI_1 i) (ih n (i + 1) (B + 4) _ _ o' q' A' z' (by omega) (by omega) (fr_Kp_fi hS3 (by omega) hK w2 (by omega) hx) (by omega) k1 k2 hp)
    · rw [if_neg hh] at hp
      exact br_f hh (hp o q A z hX hO)
end
end
section
def fr_DS (S : fr_SR) (ds : fr_FN) : Prop := ∀ r, r < fr_ru S → ∀ a, 4 * r ≤ a → a < 4 * r + fr_an S r → (fr_aW S a = 3 → ∃ k, k < 4 ∧ fr_aK S a = nI k ∧ ds a = nI (10 + k)) ∧ (fr_aW S a ≠ 3 → ds a = fr_aW S a)
def fr_vv (vr : fr_FN) (v0 v1 v2 v3 : Int32) : fr_FN := upd (upd (upd (upd vr 0 v0) 1 v1) 2 v2) 3 v3
def fr_VC (S : fr_SR) (fd0 : fr_FN) (r : Nat) (g : Nat → Nat) (vr : fr_FN) : Prop := fr_VB S fd0 r (5 * r + fr_cn S r) (4 * (5 * r + fr_cn S r)) g vr
theorem fr_VC_vv {S : fr_SR} {fd0 : fr_FN} {r : Nat} {g : Nat → Nat} {v vr : fr_FN} (h : fr_VC S fd0 r g v) : fr_VC S fd0 r g (fr_vv vr (v 0) (v 1) (v 2) (v 3)) := by
  intro x hx hb
  rw [← h x hx hb]
  unfold fr_vv
  match x, hx with
  | 0, _ => rw [pk_un (by omega), pk_un (by omega), pk_un (by omega), pk_us]
  | 1, _ => rw [pk_un (by omega), pk_un (by omega), pk_us]
  | 2, _ => rw [pk_un (by omega), pk_us]
  | 3, _ => rw [pk_us]
section
variable {S : fr_SR} {bd ds : fr_FN}
theorem fr_y_vG {post : Int32 → Prop} {D : fr_DR} {hy : Int32} {hl vr fd0 : fr_FN} {r : Nat} {g : Nat → Nat} {x : Int32} (hk : fr_KN S r x) (hv : fr_VC S fd0 r g vr) (hp : post (fr_ov S fd0 r g x)) : wpY_value post (fr_mY S D hy bd ds hl vr) x := by
  by_cases hx0 : x &&& 1 = 0
  · refine br_t hx0 ?_
    rw [fr_ov, if_pos hx0] at hp
    exact hp
  · obtain ⟨y, l, fl, h1, h2, h3, h4, h5, h6, h7⟩ := hk hx0
    refine br_f hx0 ?_
    rw [h2]
    refine ⟨vp_in_nI h1 (by omega), ?_⟩
    rw [nI_clamp (by omega), hv y h1 h7]
    rw [fr_ov, if_neg hx0] at hp
    have e2 : fr_vx x = y := by unfold fr_vx; rw [h2]; exact nI_clamp (by omega)
    rw [e2] at hp
    exact hp
theorem fr_y_f161 {post : SY → Prop} {J : Int32 → Int32 → Int32 → Int32 → Int32 → Int32 → fr_FN → fr_FN → fr_FN → fr_FN → fr_FN → fr_FN → fr_FN → fr_FN → fr_FN → fr_FN → fr_FN → fr_FN → fr_FN → fr_FN → fr_FN → fr_FN → fr_FN → fr_FN → fr_FN → fr_FN → fr_FN → fr_FN → Prop} {D : fr_DR} {hy : Int32} {hl vr fd0 : fr_FN} {r a : Nat} {g : Nat → Nat} {ns : Nat → Int32} {x2 x3 x4 x5 x6 x7 x8 x9 z0 : Int32} (hS : fr_W1 S) (hF : fr_FW D) (hH : fr_HL S D hl) (hm1 : fr_md D + 1 < 2 ^ 27) (hr : r < fr_ru S) (ha1 : 4 * r ≤ a) (ha2 : a < 4 * r + fr_an S r) (ha : a < 16) (hA : fr_WA S r a) (hDS : fr_DS S ds)
    (hv : fr_VC S fd0 r g vr) (e0 : 0 < fr_pn S r → x3 = ns 0) (e1 : 1 < fr_pn S r → x4 = ns 1) (e2 : 2 < fr_pn S r → x5 = ns 2)
    (hz0 : z0 = if fr_aW S a = 0 ∨ fr_aW S a = 2 then fr_aX S a else fr_ov S fd0 r g (fr_aX S a))
    (hJ : ∀ hl' vr', fr_HL S (fr_pf S r g fd0 ns D hy a).1 hl' → J (nI (a + 1)) (nI (fr_ru S)) (fr_bY S) (nI (fr_md ((fr_pf S r g fd0 ns D hy a).1))) (fr_pr ((fr_pf S r g fd0 ns D hy a).1)) (((fr_pf S r g fd0 ns D hy a).2)) (fr_sa S) (fr_co S) (fr_po S) (fr_ac S) bd (fr_cK S) (fr_cN S) (fr_cT S) (fr_tF S) (fr_tH S) (fr_tO S) ds (fr_aX S) (fr_aY S) (fr_aZ S) (fr_nu ((fr_pf S r g fd0 ns D hy a).1)) (fr_kd ((fr_pf S r g fd0 ns D hy a).1)) (fr_fd ((fr_pf S r g fd0 ns D hy a).1)) hl' (fr_mk ((fr_pf S r g fd0 ns D hy a).1)) vr' (fr_ou ((fr_pf S r g fd0 ns D hy a).1))) :
    wY_fire_161 post J x2 x3 x4 x5 x6 x7 x8 x9 (nI a) z0 (nI (fr_ru S)) (fr_bY S) (nI (fr_md D)) (fr_pr D) hy (fr_sa S) (fr_co S) (fr_po S) (fr_ac S) bd (fr_cK S) (fr_cN S) (fr_cT S) (fr_tF S) (fr_tH S) (fr_tO S) ds (fr_aX S) (fr_aY S) (fr_aZ S) (fr_nu D) (fr_kd D) (fr_fd D) hl (fr_mk D) vr (fr_ou D) := by
  have hcl : (nI a).toNatClampNeg = a := nI_clamp (by omega)
  have hin : vp_in (nI a) 16 := vp_in_nI ha (by omega)
  have hn := (hS.2.2.1 r hr).1.2.2.2.1
  obtain ⟨d3, dn⟩ := hDS r hr a ha1 ha2
  have ea : nI a + 1 = nI (a + 1) := nI_1 a
  refine ⟨hin, ?_⟩
  rw [hcl]
  unfold fr_pf at hJ
  rcases hA with ⟨w0, x, x1, xx⟩ | ⟨w1, k1⟩ | w2 | ⟨w3, ⟨k, hk, hk2⟩, k1, k2, k3⟩
  · rw [if_pos w0] at hJ
    have ed := dn (by rw [w0]; decide)
    rw [w0] at ed
    rw [if_pos (Or.inl w0), xx] at hz0
    have ex : (fr_aX S a).toNatClampNeg = x := by rw [xx]; exact nI_clamp (by omega)
    rw [ex] at hJ
    refine br_t ed ?_
    have hgo : ∀ y, y = ns x → wY_fire_196 post J x2 x3 x4 x5 x6 x7 x8 x9 (nI a) y (nI (fr_ru S)) (fr_bY S) (nI (fr_md D)) (fr_pr D) hy (fr_sa S) (fr_co S) (fr_po S) (fr_ac S) bd (fr_cK S) (fr_cN S) (fr_cT S) (fr_tF S) (fr_tH S) (fr_tO S) ds (fr_aX S) (fr_aY S) (fr_aZ S) (fr_nu D) (fr_kd D) (fr_fd D) hl (fr_mk D) vr (fr_ou D) := by
      intro y ey
      subst ey
      exact fr_y_remove hS hF hH (fun hl' vr' h => nm_r ea (hJ hl' vr' h))
    rw [hz0]
    refine pk_eq x 0 (fun e => hgo _ ?_) (fun e => pk_eq x 1 (fun e' => hgo _ ?_) (fun e' => hgo _ ?_))
    · rw [e]; exact e0 (by omega)
    · rw [e']; exact e1 (by omega)
    · have e3 : x = 2 := by omega
      rw [e3]; exact e2 (by omega)
  · rw [if_neg (by rw [w1]; decide), if_pos w1] at hJ
    have ed := dn (by rw [w1]; decide)
    rw [w1] at ed
    rw [if_neg (by rw [w1]; decide)] at hz0
    refine br_f (by rw [ed]; decide) ⟨hin, br_t ed (nm_e ⟨pk_andIn (fr_pr D) 4 (by decide) (by omega), nm_e (nm_r ea ?_)⟩)⟩
    rw [hz0]
    exact hJ hl vr hH
  · rw [if_neg (by rw [w2]; decide), if_neg (by rw [w2]; decide), if_pos w2] at hJ
    have ed := dn (by rw [w2]; decide)
    rw [w2] at ed
    exact br_f (by rw [ed]; decide) ⟨hin, br_f (by rw [ed]; decide) ⟨hin, br_t ed (nm_r ea (hJ hl vr hH))⟩⟩
  · rw [if_neg (by rw [w3]; decide), if_neg (by rw [w3]; decide), if_neg (by rw [w3]; decide)] at hJ
    obtain ⟨k', hk', hk2', ed⟩ := d3 w3
    have n0 : ¬ ds a = 0 := by rw [ed]; exact nI_ne0 (by omega) (by omega)
    have n1 : ¬ ds a = 1 := by rw [ed]; exact fun e => by have := (nI_eq (b := 1) (by omega) (by omega)).mp e; omega
    have n2 : ¬ ds a = 2 := by rw [ed]; exact fun e => by have := (nI_eq (b := 2) (by omega) (by omega)).mp e; omega
    have ek : ds a - 10 = fr_aK S a := by
      rw [ed, hk2']
      have := pk_sub (a := 10 + k') (b := 10) (by omega)
      rw [show 10 + k' - 10 = k' by omega] at this
      exact this
    rw [if_neg (by rw [w3]; decide)] at hz0
    refine br_f n0 ⟨hin, br_f n1 ⟨hin, br_f n2 ⟨hin, hin, hin, ?_⟩⟩⟩
    rw [ek, hz0]
    unfold wpY_makeFact
    refine fr_y_vG (fd0 := fd0) (r := r) (g := g) k2 hv ?_
    refine fr_y_vG (fd0 := fd0) (r := r) (g := g) k3 hv ?_
    exact fr_y_add hS hF hH hm1 (fun hl' vr' h => nm_r ea (hJ hl' vr' h))
theorem fr_y_f72 {post : SY → Prop} {fd0 : fr_FN} {r : Nat} {g : Nat → Nat} {ns : Nat → Int32} {x3 x4 x5 : Int32} {v : fr_FN} (hS : fr_W1 S) (hS3 : fr_W3 S) (hDS : fr_DS S ds) (hr : r < fr_ru S)
    (hv : fr_VC S fd0 r g v) (e0 : 0 < fr_pn S r → x3 = ns 0) (e1 : 1 < fr_pn S r → x4 = ns 1) (e2 : 2 < fr_pn S r → x5 = ns 2) :
    ∀ (k n a B : Nat) (D : fr_DR) (hy : Int32) (hl vr : fr_FN), a + k = 4 * r + fr_an S r → 4 * r ≤ a → k < n → fr_Kp S B D → B + k < 2 ^ 27 → fr_HL S D hl →
    (∀ hl' vr', fr_HL S (fr_as S r g fd0 ns D hy a k).1 hl' → post (fr_mY S (fr_as S r g fd0 ns D hy a k).1 (fr_as S r g fd0 ns D hy a k).2 bd ds hl' vr')) →
    wY_fire_72 post (nI r) x3 x4 x5 (v 0) (v 1) (v 2) (v 3) n (nI a) (nI (fr_ru S)) (fr_bY S) (nI (fr_md D)) (fr_pr D) hy (fr_sa S) (fr_co S) (fr_po S) (fr_ac S) bd (fr_cK S) (fr_cN S) (fr_cT S) (fr_tF S) (fr_tH S) (fr_tO S) ds (fr_aX S) (fr_aY S) (fr_aZ S) (fr_nu D) (fr_kd D) (fr_fd D) hl (fr_mk D) vr (fr_ou D) := by
  have h4 := hS.1
  obtain ⟨w1, w2, w3⟩ := hS3 r hr
  have hrcl : (nI r).toNatClampNeg = r := nI_clamp (by omega)
  have e00 : 4 * nI r + fr_ac S (nI r).toNatClampNeg = nI (4 * r + fr_an S r) := by rw [hrcl, w1, fr_l4]
  have hrin : vp_in (nI r) 4 := vp_in_nI (by omega) (by omega)
  intro k
  induction k with
  | zero =>
    intro n a B D hy hl vr ha h1 hn hK hB hH hp
    obtain ⟨n, rfl⟩ : ∃ m, n = m + 1 := ⟨n - 1, by omega⟩
    exact ⟨hrin, br_t (by rw [e00]; exact nI_le (by omega) (by omega)) (hp hl vr hH)⟩
  | succ k ih =>
    intro n a B D hy hl vr ha h1 hn hK hB hH hp
    obtain ⟨n, rfl⟩ : ∃ m, n = m + 1 := ⟨n - 1, by omega⟩
    have hmd := hK.2.2
    have hcl : (nI a).toNatClampNeg = a := nI_clamp (by omega)
    have hin : vp_in (nI a) 16 := vp_in_nI (by omega) (by omega)
    have hWA := w3 a h1 (by omega)
    have hv' := fr_VC_vv (vr := vr) hv
    obtain ⟨d3, dn⟩ := hDS r hr a h1 (by omega)
    have hgo : ∀ z0, (z0 = if fr_aW S a = 0 ∨ fr_aW S a = 2 then fr_aX S a else fr_ov S fd0 r g (fr_aX S a)) → wY_fire_161 post (wY_fire_72 post (nI r) x3 x4 x5 (v 0) (v 1) (v 2) (v 3) n) (nI r) x3 x4 x5 (v 0) (v 1) (v 2) (v 3) (nI a) z0 (nI (fr_ru S)) (fr_bY S) (nI (fr_md D)) (fr_pr D) hy (fr_sa S) (fr_co S) (fr_po S) (fr_ac S) bd (fr_cK S) (fr_cN S) (fr_cT S) (fr_tF S) (fr_tH S) (fr_tO S) ds (fr_aX S) (fr_aY S) (fr_aZ S) (fr_nu D) (fr_kd D) (fr_fd D) hl (fr_mk D) ((fr_vv vr (v 0) (v 1) (v 2) (v 3))) (fr_ou D) := by
      intro z0 hz0
      refine fr_y_f161 hS hK.1 hH (by omega) hr h1 (by omega) (by omega) hWA hDS hv' e0 e1 e2 hz0 ?_
      intro hl' vr' hH'
      exact ih n (a + 1) (B + 1) _ _ hl' vr' (by omega) (by omega) (by omega) (fr_Kp_pf hK (by omega) r g fd0 ns hy a) (by omega) hH' hp
    refine ⟨hrin, br_f (by rw [e00]; exact nI_ge (by omega) (by omega)) (nm_e (nm_e (nm_e (nm_e ⟨hin, ?_⟩))))⟩
    rw [hcl]
    rcases hWA with ⟨w0, _⟩ | ⟨w1', kk⟩ | w2' | ⟨w3', ⟨k', hk', hk2'⟩, k1, k2, k3⟩
    · have ed := dn (by rw [w0]; decide)
      rw [w0] at ed
      refine br_t ed ⟨hin, ?_⟩
      rw [hcl]
      exact hgo _ (by rw [if_pos (Or.inl w0)])
    · have ed := dn (by rw [w1']; decide)
      rw [w1'] at ed
      refine br_f (by rw [ed]; decide) ⟨hin, br_f (by rw [ed]; decide) ⟨hin, ?_⟩⟩
      exact fr_y_vG (vr := fr_vv vr (v 0) (v 1) (v 2) (v 3)) kk hv' (hgo _ (by rw [if_neg (by rw [w1']; decide)]))
    · have ed := dn (by rw [w2']; decide)
      rw [w2'] at ed
      refine br_f (by rw [ed]; decide) ⟨hin, br_t ed ⟨hin, ?_⟩⟩
      rw [hcl]
      exact hgo _ (by rw [if_pos (Or.inr w2')])
    · obtain ⟨k'', hk'', hk2'', ed⟩ := d3 w3'
      have n0 : ¬ ds a = 0 := by rw [ed]; exact nI_ne0 (by omega) (by omega)
      have n2 : ¬ ds a = 2 := by rw [ed]; exact fun e => by have := (nI_eq (b := 2) (by omega) (by omega)).mp e; omega
      refine br_f n0 ⟨hin, br_f n2 ⟨hin, ?_⟩⟩
      exact fr_y_vG (vr := fr_vv vr (v 0) (v 1) (v 2) (v 3)) k1 hv' (hgo _ (by rw [if_neg (by rw [w3']; decide)]))
theorem fr_y_fire {post : SY → Prop} {D : fr_DR} {hy : Int32} {hl vr : fr_FN} {c B : Nat} (hS : fr_W1 S) (hS3 : fr_W3 S) (hDS : fr_DS S ds) (hK : fr_Kp S B D) (hB : B + 4 < 2 ^ 27) (hH : fr_HL S D hl) (hc : c < 864) (hw : fr_Wt S D c = true)
    (hp : ∀ hl' vr', fr_HL S (fr_fi S D hy c).1 hl' → post (fr_mY S (fr_fi S D hy c).1 (fr_fi S D hy c).2 bd ds hl' vr')) :
    wpY_fire post (fr_mY S (fr_dm D (upd (fr_mk D) c 1)) hy bd ds hl vr) (nI c) := by
  obtain ⟨hW, hr⟩ := fr_Wt_r hS hw
  have hR := fr_R_le (S := S)
  have h4 := hS.1
  have e216 : nI c / 216 = nI (c / 216) := pk_div (d := 216) (by omega) (by omega) (by omega)
  have hF : fr_FW (fr_dm D (upd (fr_mk D) c 1)) := hK.1
  have hK1 := fr_Kp_mark (c := c) hK hw
  have han := (hS3 _ (by omega : c / 216 < fr_ru S)).2.1
  have hnn : ∀ j, j < 3 → j < fr_pn S (c / 216) → nI (fr_nn S (fr_dm D (upd (fr_mk D) c 1)) c j) = fr_nu D (fr_pl c j) := by
    intro j hj hj2
    unfold fr_nn
    rw [if_pos hj2]
    exact (fr_nu_nv hF (fr_pl_lt c j)).1.symm
  refine ⟨by decide, nm_r e216 ?_⟩
  refine fr_y_number (D := fr_dm D (upd (fr_mk D) c 1)) (j := 0) hF hc hW (by omega) ?_
  refine fr_y_number (D := fr_dm D (upd (fr_mk D) c 1)) (j := 1) hF hc hW (by omega) ?_
  refine fr_y_number (D := fr_dm D (upd (fr_mk D) c 1)) (j := 2) hF hc hW (by omega) ?_
  refine fr_y_match (D := fr_dm D (upd (fr_mk D) c 1)) (by omega) (by omega) hW ?_
  intro v hv
  have hmt : fr_mt S (fr_dm D (upd (fr_mk D) c 1)) c = true := by
    rw [fr_mt_hd hW hF hr]
    show fr_hd S (fr_kd D) (fr_fd D) (fr_lv D) c = true
    exact fr_Wt_hd hw
  have hv' : fr_VC S (fr_fd D) (c / 216) (fr_pl c) v := hv hmt
  refine nm_e (nm_e (nm_e (nm_e (nm_r (fr_k4 _) ⟨fr_an S (c / 216) + 1, ?_⟩))))
  exact fr_y_f72 (D := fr_dm D (upd (fr_mk D) c 1)) (fd0 := fr_fd D) (g := fr_pl c) (ns := fun j => fr_nu D (fr_pl c j)) hS hS3 hDS (by omega) hv' (hnn 0 (by omega)) (hnn 1 (by omega)) (hnn 2 (by omega)) (fr_an S (c / 216)) _ (4 * (c / 216)) B (hy := hy) (hl := hl) (vr := v) rfl (Nat.le_refl _) (Nat.lt_succ_self _) hK1 (by omega) hH hp
theorem fr_y_run20 {post : Int32 → SY → Prop} {N : Nat} (hN : N ≤ 20) (hS : fr_W1 S) (hS3 : fr_W3 S) (hDS : fr_DS S ds) :
    ∀ (k n i B : Nat) (D : fr_DR) (hy : Int32) (hl vr : fr_FN), i + k = N → k < n → fr_Kp S B D → B + 4 * k < 2 ^ 27 → fr_HL S D hl →
    (∀ hl' vr', fr_HL S (fr_rn S D hy i k).1.1 hl' → post (nI (fr_rn S D hy i k).2) (fr_mY S (fr_rn S D hy i k).1.1 (fr_rn S D hy i k).1.2 bd ds hl' vr')) →
    wY_run_20 post (nI N) n (nI i) (nI (fr_ru S)) (fr_bY S) (nI (fr_md D)) (fr_pr D) hy (fr_sa S) (fr_co S) (fr_po S) (fr_ac S) bd (fr_cK S) (fr_cN S) (fr_cT S) (fr_tF S) (fr_tH S) (fr_tO S) ds (fr_aX S) (fr_aY S) (fr_aZ S) (fr_nu D) (fr_kd D) (fr_fd D) hl (fr_mk D) vr (fr_ou D) := by
  intro k
  induction k with
  | zero =>
    intro n i B D hy hl vr hi hn hK hB hH hp
    obtain ⟨n, rfl⟩ : ∃ m, n = m + 1 := ⟨n - 1, by omega⟩
    exact br_t (nI_le (by omega) (by omega)) (hp hl vr hH)
  | succ k ih =>
    intro n i B D hy hl vr hi hn hK hB hH hp
    obtain ⟨n, rfl⟩ : ∃ m, n = m + 1 := ⟨n - 1, by omega⟩
    refine br_f (nI_ge (by omega) (by omega)) ?_
    rw [fr_rn] at hp
    by_cases hh : hy = 0
    · rw [if_pos hh] at hp
      refine br_t hh (fr_y_next none hS hK.1 hH (fun x hx => by cases hx) ?_)
      cases e : fr_nxt S D none with
      | none =>
        rw [e] at hp
        exact br_f (by decide) (hp hl vr hH)
      | some c =>
        rw [e] at hp
        obtain ⟨h1, h2⟩ := fr_nxt_W hK.1 e
        have hR := fr_R_le (S := S)
        have hr := (fr_Wt_r hS h2).2
        refine br_t (nI_pos' (by omega)) ⟨vp_in_nI h1 (by omega), nm_r (e' := upd (fr_mk D) c 1) (by show upd (fr_mk D) (nI c).toNatClampNeg _ = _; rw [nI_clamp (by omega), fr_nb1]) (nm_r (nI_1 i) ?_)⟩
        refine fr_y_fire hS hS3 hDS hK (by omega) hH h1 h2 ?_
        intro hl' vr' hH'
        exact ih n (i + 1) (B + 4) _ _ hl' vr' (by omega) (by omega) (fr_Kp_fi hS3 (by omega) hK h2 (by omega) hy) (by omega) hH' hp
    · rw [if_neg hh] at hp
      exact br_f hh (hp hl vr hH)
end
end
section
/-- two tables of rules that agree on rule r -/
def fr_Ae (S S' : fr_SR) (r : Nat) : Prop :=
  (fr_co S' r = fr_co S r ∧ fr_po S' r = fr_po S r) ∧
  (∀ c, 5 * r ≤ c → c < 5 * r + 5 → fr_cK S' c = fr_cK S c ∧ fr_cT S' c = fr_cT S c ∧ fr_cL S' c = fr_cL S c ∧ fr_cN S' c = fr_cN S c) ∧
  (∀ i, 20 * r ≤ i → i < 20 * r + 20 → fr_tF S' i = fr_tF S i ∧ fr_tH S' i = fr_tH S i ∧ fr_tO S' i = fr_tO S i) ∧
  (∀ x, x < 4 → fr_vL S' (4 * r + x) = fr_vL S (4 * r + x) ∧ fr_vF S' (4 * r + x) = fr_vF S (4 * r + x))
section
variable {S S' : fr_SR} {r : Nat}
theorem fr_Ae_cn (h : fr_Ae S S' r) : fr_cn S' r = fr_cn S r := by unfold fr_cn; rw [h.1.1]
theorem fr_Ae_pn (h : fr_Ae S S' r) : fr_pn S' r = fr_pn S r := by unfold fr_pn; rw [h.1.2]
theorem fr_Ae_tn (h : fr_Ae S S' r) {c : Nat} (h1 : 5 * r ≤ c) (h2 : c < 5 * r + 5) : fr_tn S' c = fr_tn S c := by unfold fr_tn; rw [(h.2.1 c h1 h2).2.1]
theorem fr_Ae_ng (h : fr_Ae S S' r) {c : Nat} (h1 : 5 * r ≤ c) (h2 : c < 5 * r + 5) : fr_ng S' c = fr_ng S c := by unfold fr_ng; rw [(h.2.1 c h1 h2).2.2.2]
theorem fr_Ae_pc (h : fr_Ae S S' r) {j : Nat} (hj : j ≤ 5) : fr_pc S' r j = fr_pc S r j := by
  unfold fr_pc
  refine fr_cc_congr _ _ (fun c h1 h2 => ?_)
  rw [fr_Ae_ng h h1 (by omega)]
theorem fr_Ae_Bd (h : fr_Ae S S' r) (hW : fr_WR S r) {c i x : Nat} (hc : c < 5 * r + fr_cn S r) (hb : fr_Bd S r c i x) : fr_Bd S' r c i x := by
  have hcn := hW.1.2.1
  obtain ⟨c', i', b1, b2, b3, b4, b5, b6, b7⟩ := hb
  have htn := (hW.2 c' b1 (by omega)).2.1
  have h1 := h.2.2.1 i' (by omega) (by omega)
  exact ⟨c', i', b1, b2, b3, by rw [fr_Ae_tn h b1 (by omega)]; exact b4, b5, by rw [h1.2.1]; exact b6, by rw [h1.2.2]; exact b7⟩
theorem fr_Ae_WR (h : fr_Ae S S' r) (hW : fr_WR S r) : fr_WR S' r := by
  have hcn := hW.1.2.1
  obtain ⟨⟨w1, w2, w3, w4, w5, w6⟩, hC⟩ := hW
  have ec := fr_Ae_cn h
  have ep := fr_Ae_pn h
  refine ⟨⟨by rw [h.1.1, ec]; exact w1, by rw [ec]; exact w2, by rw [h.1.2, ep]; exact w3, by rw [ep]; exact w4, by rw [ec, ep, fr_Ae_pc h (by omega)]; exact w5, by rw [ec, ep]; exact w6⟩, ?_⟩
  intro c h1 h2
  rw [ec] at h2
  obtain ⟨a1, a2, a3, a4, a5⟩ := hC c h1 h2
  have hc := h.2.1 c h1 (by omega)
  have et := fr_Ae_tn h h1 (by omega : c < 5 * r + 5)
  refine ⟨by rw [hc.2.1, et]; exact a1, by rw [et]; exact a2, by rw [hc.2.2.2]; exact a3, by rw [hc.2.2.1, fr_Ae_pc h (by omega)]; exact a4, ?_⟩
  intro i i1 i2
  rw [et] at i2
  obtain ⟨⟨fl, hh, k1, k2, k3, k4⟩, t3, tn⟩ := a5 i i1 i2
  have hi := h.2.2.1 i (by omega) (by omega)
  refine ⟨⟨fl, hh, by rw [hi.1]; exact k1, k2, by rw [hi.2.1]; exact k3, k4⟩, ?_, ?_⟩
  · intro e
    rw [hi.2.1] at e
    obtain ⟨n0, x, x1, x2, x3, x4⟩ := t3 e
    have hx := h.2.2.2 x x1
    exact ⟨by rw [hc.2.2.2]; exact n0, x, x1, by rw [hi.2.2]; exact x2, by rw [hx.1, hc.2.2.1]; exact x3, by rw [hx.2, hi.1]; exact x4⟩
  · intro e1 e2
    rw [hi.2.1] at e1
    rw [hi.2.2] at e2
    obtain ⟨x, x1, x2, x3⟩ := tn e1 e2
    exact ⟨x, x1, by rw [hi.2.2]; exact x2, fr_Ae_Bd h ⟨⟨w1, w2, w3, w4, w5, w6⟩, hC⟩ h2 x3⟩
theorem fr_Ae_ts (h : fr_Ae S S' r) (hW : fr_WR S r) {fd : fr_FN} {g : Nat → Nat} {f c i : Nat} (h1 : 5 * r ≤ c) (h2 : c < 5 * r + fr_cn S r) (h3 : 4 * c ≤ i) (h4 : i < 4 * c + fr_tn S c) : fr_ts S' fd r g f i = fr_ts S fd r g f i := by
  have hcn := hW.1.2.1
  have hWC := hW.2 c h1 h2
  have htn := hWC.2.1
  have hi := h.2.2.1 i (by omega) (by omega)
  unfold fr_ts
  rw [hi.2.1, hi.1, hi.2.2]
  by_cases h5 : fr_tH S i = 3
  · rw [if_pos h5, if_pos h5]
  · rw [if_neg h5, if_neg h5]
    congr 1
    unfold fr_ov
    by_cases h6 : fr_tO S i &&& 1 = 0
    · rw [if_pos h6, if_pos h6]
    · rw [if_neg h6, if_neg h6]
      obtain ⟨x, x1, x2, _⟩ := (hWC.2.2.2.2 i h3 h4).2.2 h5 h6
      have e7 : fr_vx (fr_tO S i) = x := by unfold fr_vx; rw [x2]; exact nI_clamp (by omega)
      have hx := h.2.2.2 x x1
      rw [e7]
      unfold fr_vl fr_vf
      rw [hx.1, hx.2]
theorem fr_Ae_ps (h : fr_Ae S S' r) (hW : fr_WR S r) {kd fd : fr_FN} {g : Nat → Nat} {f c : Nat} (h1 : 5 * r ≤ c) (h2 : c < 5 * r + fr_cn S r) : fr_ps S' kd fd r c f g = fr_ps S kd fd r c f g := by
  have hcn := hW.1.2.1
  unfold fr_ps
  rw [(h.2.1 c h1 (by omega)).1, fr_Ae_tn h h1 (by omega), fr_al_congr _ _ (fun i h3 h4 => fr_Ae_ts h hW h1 h2 h3 h4)]
theorem fr_Ae_bl (h : fr_Ae S S' r) (hW : fr_WR S r) {kd fd : fr_FN} {f : Nat} {p : List Nat} : fr_bl S' kd fd r f p = fr_bl S kd fd r f p := by
  have hcn := hW.1.2.1
  unfold fr_bl
  rw [fr_Ae_cn h]
  refine fr_cc_congr _ _ (fun c h1 h2 => ?_)
  unfold fr_bq
  rw [fr_Ae_ng h h1 (by omega), (h.2.1 c h1 (by omega)).2.2.1, fr_Ae_ps h hW h1 h2]
theorem fr_Ae_ct (h : fr_Ae S S' r) (hW : fr_WR S r) {kd fd : fr_FN} {lv : List Nat} {p : List Nat} : fr_ct S' kd fd lv r p = fr_ct S kd fd lv r p :=
  fr_sum_congr (fun _ _ => fr_Ae_bl h hW)
theorem fr_fs_congr {P Q : Nat → Bool} : ∀ (k i : Nat), (∀ j, i ≤ j → j < i + k → P j = Q j) → fr_fs P i k = fr_fs Q i k := by
  intro k
  induction k with
  | zero => intro i _; rfl
  | succ k ih =>
    intro i h
    rw [fr_fs, fr_fs, h i (by omega) (by omega), ih (i + 1) (fun j h1 h2 => h j (by omega) (by omega))]
theorem fr_Ae_pA (h : fr_Ae S S' r) (hW : fr_WR S r) (d : Nat) : fr_pA S' r d = fr_pA S r d := by
  have hcn := hW.1.2.1
  unfold fr_pA
  rw [fr_Ae_cn h]
  refine fr_fs_congr _ _ (fun c h1 h2 => ?_)
  rw [fr_Ae_ng h h1 (by omega), (h.2.1 c h1 (by omega)).2.2.1]
theorem fr_Ae_ex (h : fr_Ae S S' r) (hW : fr_WR S r) {kd fd : fr_FN} {f : Nat} {p : List Nat} (hl : p.length < 2 ^ 31) : fr_ex S' kd fd r p f = fr_ex S kd fd r p f := by
  unfold fr_ex
  rw [fr_Ae_pA h hW]
  cases e : fr_pA S r p.length with
  | none => rfl
  | some c =>
    obtain ⟨c1, c2, _⟩ := fr_pA_some hW e hl
    exact fr_Ae_ps h hW c1 c2
theorem fr_Ae_RT (h : fr_Ae S S' r) (hW : fr_WR S r) {kd fd : fr_FN} {lv : List Nat} {mk st : fr_FN} {A : fr_AT} {p : List Nat} {t : Nat} (hl : p.length < 2 ^ 31) (hR : fr_RT S kd fd lv (fr_Mk S mk) A st r p t) : fr_RT S' kd fd lv (fr_Mk S' mk) A st r p t := by
  have em : fr_Mk S' mk r p = fr_Mk S mk r p := by unfold fr_Mk; rw [fr_Ae_pn h]
  unfold fr_RT at hR ⊢
  rw [fr_Ae_ct h hW, em]
  refine ⟨hR.1, fun x => ?_⟩
  rw [fr_Ae_ex h hW hl]
  exact hR.2 x
theorem fr_Ae_sm (h : fr_Ae S S' r) (hW : fr_WR S r) {kd fd : fr_FN} {lv : List Nat} : ∀ {p : List Nat}, p.length < 2 ^ 31 → fr_sm S' kd fd lv r p = fr_sm S kd fd lv r p := by
  intro p
  induction p with
  | nil => intro _; rfl
  | cons f p ih =>
    intro hl
    rw [List.length_cons] at hl
    rw [fr_sm, fr_sm, ih (by omega), fr_Ae_ct h hW, fr_Ae_ex h hW (by omega)]
end
theorem fr_Ae_hd {S S' : fr_SR} {kd fd : fr_FN} {lv : List Nat} {c : Nat} (hr : c / 216 < fr_R S) (hr' : c / 216 < fr_R S') (h : fr_Ae S S' (c / 216)) (hW : fr_WR S (c / 216)) : fr_hd S' kd fd lv c = fr_hd S kd fd lv c := by
  have hpn := hW.1.2.2.2.1
  unfold fr_hd
  rw [decide_eq_true hr, decide_eq_true hr', fr_Ae_pn h, fr_Ae_sm h hW (by rw [fr_pth_len]; omega), fr_Ae_ct h hW]
/-- a change of the rule under construction alone -/
theorem fr_chg {S S' : fr_SR} {D : fr_DR} {q : fr_QR} {A : fr_AT} {hl : fr_FN} (hS : fr_W1 S) (hR : fr_R S' = fr_R S) (hA : ∀ r, r < fr_R S → fr_Ae S S' r) (hX : fr_XI S D q A) (hM : fr_MW S D) (hH : fr_HL S D hl) : fr_XI S' D q A ∧ fr_MW S' D ∧ fr_HL S' D hl := by
  have hRl := fr_R_le (S := S)
  have hhd : ∀ c, c < 864 → fr_hd S' (fr_kd D) (fr_fd D) (fr_lv D) c = fr_hd S (fr_kd D) (fr_fd D) (fr_lv D) c := by
    intro c _
    rcases Nat.lt_or_ge (c / 216) (fr_R S) with h | h
    · exact fr_Ae_hd h (by rw [hR]; exact h) (hA _ h) (hS.2.2.1 _ (by omega))
    · rw [fr_hd_ge (by omega), fr_hd_ge (by omega)]
  refine ⟨⟨hX.1, fun r => by rw [hR]; exact hX.2.1 r, fun r p t e => ?_⟩, fun c hc hne => by rw [hhd c hc]; exact hM c hc hne, fun c hc => by rw [hhd c hc]; exact hH c hc⟩
  obtain ⟨hr, _⟩ := fr_XI_sm hX e
  have hl3 := (hX.1.1.1 _ _ _ e).2.1
  exact fr_Ae_RT (hA r hr) (hS.2.2.1 r (by omega)) (by omega) (hX.2.2 r p t e)
def fr_W4 (S : fr_SR) : Prop := ∀ r, r < fr_ru S → ∀ x, x < 4 → fr_vL S (4 * r + x) = -1 ∨ ∃ c i, 5 * r ≤ c ∧ c < 5 * r + fr_cn S r ∧ 4 * c ≤ i ∧ i < 4 * c + fr_tn S c ∧ fr_tH S i = 3 ∧ fr_tO S i = nI x
def fr_W6 (S : fr_SR) : Prop :=
  (∀ r, fr_ru S ≤ r → r < 4 → fr_co S r = 0 ∧ fr_po S r = 0 ∧ fr_ac S r = 0 ∧ fr_te S r = 0) ∧
  (∀ r j, r < 4 → j < 5 → fr_cn S r ≤ j → fr_cT S (5 * r + j) = 0) ∧
  (∀ r j, r < 4 → j < 4 → fr_an S r ≤ j → fr_aY S (4 * r + j) = 0 ∧ fr_aZ S (4 * r + j) = 0)
def fr_BD (S : fr_SR) (bd : fr_FN) : Prop := ∀ r, r < fr_ru S → ∃ b, b < 16 ∧ bd r = nI b ∧ ∀ x, x < 4 → (b.testBit x = true ↔ ¬ fr_vL S (4 * r + x) < 0)
def fr_St (S : fr_SR) (bd ds : fr_FN) : Prop := fr_W1 S ∧ fr_W2 S ∧ fr_W3 S ∧ fr_W4 S ∧ fr_W6 S ∧ fr_BD S bd ∧ fr_DS S ds
def fr_Dy (S : fr_SR) (D : fr_DR) (o : fr_FN) (q : fr_QR) (A : fr_AT) (hl : fr_FN) (B : Nat) : Prop := fr_Kp S B D ∧ fr_XI S D q A ∧ fr_OK o (fr_lv D) ∧ fr_HL S D hl
theorem fr_chgD {S S' : fr_SR} {D : fr_DR} {o : fr_FN} {q : fr_QR} {A : fr_AT} {hl : fr_FN} {B : Nat} (hS : fr_W1 S) (hR : fr_R S' = fr_R S) (hA : ∀ r, r < fr_R S → fr_Ae S S' r) (h : fr_Dy S D o q A hl B) : fr_Dy S' D o q A hl B := by
  obtain ⟨⟨k1, k2, k3⟩, hX, hO, hH⟩ := h
  obtain ⟨x1, x2, x3⟩ := fr_chg hS hR hA hX k2 hH
  exact ⟨⟨k1, x2, k3⟩, x1, hO, x3⟩
end
section
theorem fr_cc_mem {L : List Nat} (hn : L.Nodup) (h6 : ∀ x, x ∈ L → x < 6) : fr_cc (fun g => decide (g ∈ L)) 0 6 = L.length := by
  rw [fr_cc_len]
  refine Nat.le_antisymm (List.Nodup.length_le_of_subset (List.Nodup.sublist List.filter_sublist (List.nodup_range' ..)) ?_) (List.Nodup.length_le_of_subset hn ?_)
  · intro x hx
    rw [List.mem_filter] at hx
    exact of_decide_eq_true hx.2
  · intro x hx
    rw [List.mem_filter, List.mem_range'_1]
    have := h6 x hx
    exact ⟨by omega, decide_eq_true hx⟩
theorem fr_or3 {m c : Nat} (hm : m < 2 ^ 27) (hc : c < 8) : (nI m <<< ((3 : Int32) &&& 31)) ||| nI c = nI (c + 8 * m) := by
  rw [pk_shlN ((3 : Int32) &&& 31) 3 (by decide) (by omega)]
  have e : nI (m * 2 ^ 3) ||| nI c = nI (m * 2 ^ 3 ||| c) := by
    apply Int32.toBitVec_inj.1
    show BitVec.ofNat 32 _ ||| BitVec.ofNat 32 _ = BitVec.ofNat 32 _
    exact BitVec.ofNat_or.symm
  rw [e, Nat.mul_comm, ← Nat.two_pow_add_eq_or_of_lt (i := 3) (by omega) m]
  exact congrArg nI (by omega)
def fr_fq (D : fr_DR) (f w : Nat) : Int32 := if w = 0 then fr_nu D f else if w = 1 then fr_kd D f else fr_fd D (3 * f + w - 2)
theorem fr_take_iff {D : fr_DR} (hF : fr_FW D) {i : Nat} (hi : i < (fr_lv D).length) (g : Nat) : g ∈ (fr_lv D).take i ↔ g ∈ fr_lv D ∧ fr_nv D g < fr_nv D ((fr_lv D).getD i 0) := by
  have hpw : ((fr_lv D).take i ++ (fr_lv D).drop i).Pairwise (fun a b => fr_nv D a < fr_nv D b) := by rw [List.take_append_drop]; exact hF.2.2.2.1
  rw [fr_drop hi] at hpw
  have h1 := List.pairwise_append.mp hpw
  have h2 := List.pairwise_cons.mp h1.2.1
  constructor
  · intro hm
    exact ⟨List.mem_of_mem_take hm, h1.2.2 g hm _ List.mem_cons_self⟩
  · rintro ⟨hm, hlt⟩
    have hm' : g ∈ (fr_lv D).take i ++ (fr_lv D).drop i := by rw [List.take_append_drop]; exact hm
    rw [fr_drop hi] at hm'
    rcases List.mem_append.mp hm' with h | h
    · exact h
    · rcases List.mem_cons.mp h with e | h
      · rw [e] at hlt; omega
      · have := h2.1 g h; omega
section
variable {S : fr_SR} {D : fr_DR} {hx hy : Int32} {o : fr_FN} {q : fr_QR} {A : fr_AT} {z : fr_ZR} {bd ds hl vr : fr_FN}
theorem fr_x_facts {post : Int32 → Prop} (hF : fr_FW D) (hp : post (nI ((fr_lv D).length + 8 * fr_md D))) : wpX_facts post (fr_mX S D hx o q z) := by
  have hlen := fr_LV_len hF.1
  show post ((nI (fr_md D) <<< ((3 : Int32) &&& 31)) ||| nI (fr_lv D).length)
  rw [fr_or3 hF.2.2.2.2 (by omega)]
  exact hp
theorem fr_y_facts {post : Int32 → Prop} (hF : fr_FW D) (hp : post (nI ((fr_lv D).length + 8 * fr_md D))) : wpY_facts post (fr_mY S D hy bd ds hl vr) := by
  have hloop : ∀ (k n g a : Nat), g + k = 6 → k < n → a + fr_cc (fun g => decide (g ∈ fr_lv D)) g k = (fr_lv D).length → wY_facts_4 post (nI (fr_ru S)) (fr_bY S) (nI (fr_md D)) (fr_pr D) hy (fr_sa S) (fr_co S) (fr_po S) (fr_ac S) bd (fr_cK S) (fr_cN S) (fr_cT S) (fr_tF S) (fr_tH S) (fr_tO S) ds (fr_aX S) (fr_aY S) (fr_aZ S) (fr_nu D) (fr_kd D) (fr_fd D) hl (fr_mk D) vr (fr_ou D) n (nI a) (nI g) := by
    intro k
    induction k with
    | zero =>
      intro n g a hg hn ha
      obtain ⟨n, rfl⟩ : ∃ m, n = m + 1 := ⟨n - 1, by omega⟩
      refine br_t (nI_le (a := 6) (by omega) (by omega)) ?_
      have e : nI a + 8 * nI (fr_md D) = nI (a + 8 * fr_md D) := by
        show nI a + nI 8 * nI (fr_md D) = _
        rw [pk_mul, nI_add]
      rw [e]
      have ha' : a = (fr_lv D).length := ha
      rw [ha']
      exact hp
    | succ k ih =>
      intro n g a hg hn ha
      obtain ⟨n, rfl⟩ : ∃ m, n = m + 1 := ⟨n - 1, by omega⟩
      rw [fr_cc] at ha
      refine br_f (nI_ge (b := 6) (by omega) (by omega)) ⟨vp_in_nI (by omega) (by omega), ?_⟩
      rw [nI_clamp (by omega)]
      refine br_c (fun e => ?_) (fun e => ?_)
      · have hno := (fr_FW_mem hF (f := g) (by omega)).mp e
        rw [if_neg (by rw [decide_eq_false hno]; decide), Nat.zero_add] at ha
        exact nm_r (nI_1 g) (ih n (g + 1) a (by omega) (by omega) ha)
      · have hm : g ∈ fr_lv D := Classical.byContradiction fun hno => e ((fr_FW_mem hF (f := g) (by omega)).mpr hno)
        rw [if_pos (decide_eq_true hm), ← Nat.add_assoc] at ha
        exact nm_r (nI_1 a) (nm_r (nI_1 g) (ih n (g + 1) (a + 1) (by omega) (by omega) ha))
  exact ⟨7, hloop 6 7 0 0 (by omega) (by omega) (by rw [Nat.zero_add]; exact fr_cc_mem hF.1.1 hF.1.2)⟩
theorem fr_fq_idx {f w : Nat} (hw : ¬ w = 0) (hw1 : ¬ w = 1) : nI f * 3 + nI w - 2 = nI (3 * f + w - 2) := by
  rw [fr_m3]
  exact pk_sub (b := 2) (by omega)
theorem fr_fq_idy {f w : Nat} (hw : ¬ w = 0) (hw1 : ¬ w = 1) : 3 * nI f + nI w - 2 = nI (3 * f + w - 2) := by
  rw [fr_l3]
  exact pk_sub (b := 2) (by omega)
theorem fr_x_fact {post : Int32 → Prop} {x w : Int32} (hF : fr_FW D) (hO : fr_OK o (fr_lv D))
    (h0 : (x < 0 ∨ (∃ i, i < 2 ^ 31 ∧ x = nI i ∧ (fr_lv D).length ≤ i) ∨ w < 0 ∨ 4 < w) → post (-1))
    (h1 : ∀ i j, i < (fr_lv D).length → j ≤ 4 → x = nI i → w = nI j → post (fr_fq D ((fr_lv D).getD i 0) j)) : wpX_fact post (fr_mX S D hx o q z) x w := by
  have hlen := fr_LV_len hF.1
  refine br_c (fun e => h0 (Or.inl e)) (fun e => ?_)
  obtain ⟨i, hi, ex⟩ := nI_of e
  subst ex
  refine pk_le (fr_lv D).length i (fun e1 => h0 (Or.inr (Or.inl ⟨i, hi, rfl, e1⟩))) (fun e1 => ?_)
  refine br_c (fun e2 => h0 (Or.inr (Or.inr (Or.inl e2)))) (fun e2 => br_c (fun e3 => ?_) (fun e3 => h0 (Or.inr (Or.inr (Or.inr (Int32.not_le.mp e3))))))
  obtain ⟨j, hj, ew⟩ := nI_of2 (M := 4) (n := 4) (by decide) e2 e3
  subst ew
  have hp := h1 i j e1 hj rfl rfl
  have hf := hF.1.2 _ (fr_getD_mem e1)
  unfold fr_fq at hp
  refine ⟨vp_in_nI (by omega) (by omega), nm_r (e' := nI ((fr_lv D).getD i 0)) (by rw [nI_clamp (by omega)]; exact hO i e1) ?_⟩
  refine pk_eq j 0 (fun e4 => ⟨vp_in_nI hf (by omega), ?_⟩) (fun e4 => pk_eq j 1 (fun e5 => ⟨vp_in_nI hf (by omega), ?_⟩) (fun e5 => ?_))
  · rw [if_pos e4] at hp
    rw [nI_clamp (by omega)]
    exact hp
  · rw [if_neg e4, if_pos e5] at hp
    rw [nI_clamp (by omega)]
    exact hp
  · rw [if_neg e4, if_neg e5] at hp
    rw [fr_fq_idx e4 e5]
    refine ⟨vp_in_nI (by omega) (by omega), ?_⟩
    rw [nI_clamp (by omega)]
    exact hp
theorem fr_y_fact {post : Int32 → Prop} {x w : Int32} (hF : fr_FW D)
    (h0 : (x < 0 ∨ (∃ i, i < 2 ^ 31 ∧ x = nI i ∧ (fr_lv D).length ≤ i) ∨ w < 0 ∨ 4 < w) → post (-1))
    (h1 : ∀ i j, i < (fr_lv D).length → j ≤ 4 → x = nI i → w = nI j → post (fr_fq D ((fr_lv D).getD i 0) j)) : wpY_fact post (fr_mY S D hy bd ds hl vr) x w := by
  have hlen := fr_LV_len hF.1
  have hmd := hF.2.2.2.2
  refine br_c (fun e => h0 (Or.inr (Or.inr (Or.inl e)))) (fun e => br_c (fun e1 => h0 (Or.inr (Or.inr (Or.inr e1)))) (fun e1 => br_c (fun e2 => ?_) (fun e2 => h0 (Or.inl (Int32.not_le.mp e2)))))
  obtain ⟨j, hj, ew⟩ := nI_of2 (M := 4) (n := 4) (by decide) e (Int32.not_lt.mp e1)
  subst ew
  obtain ⟨i, hi, ex⟩ := nI_of (Int32.not_lt.mpr e2)
  subst ex
  -- the count of older facts
  have h29 : ∀ (J : Int32 → Prop) (f : Nat), f < 6 → (f ∉ fr_lv D → J (nI (f + 1))) → (∀ m, m < (fr_lv D).length → (fr_lv D).getD m 0 = f → m ≠ i → J (nI (f + 1))) →
      ∀ (k n g a : Nat), g + k = 6 → k < n → (f ∈ fr_lv D → ∃ m, m < (fr_lv D).length ∧ (fr_lv D).getD m 0 = f ∧ a + fr_cc (fun g => decide (g ∈ (fr_lv D).take m)) g k = m) → a + k < 100 → wY_fact_29 post J (nI i) (nI j) (nI f) (nI (fr_ru S)) (fr_bY S) (nI (fr_md D)) (fr_pr D) hy (fr_sa S) (fr_co S) (fr_po S) (fr_ac S) bd (fr_cK S) (fr_cN S) (fr_cT S) (fr_tF S) (fr_tH S) (fr_tO S) ds (fr_aX S) (fr_aY S) (fr_aZ S) (fr_nu D) (fr_kd D) (fr_fd D) hl (fr_mk D) vr (fr_ou D) n (nI a) (nI g) := by
    intro J f hf hJ0 hJ1 k
    have hfcl : (nI f).toNatClampNeg = f := nI_clamp (by omega)
    have hfin : vp_in (nI f) 6 := vp_in_nI hf (by omega)
    induction k with
    | zero =>
      intro n g a hg hn hm hb
      obtain ⟨n, rfl⟩ : ∃ m, n = m + 1 := ⟨n - 1, by omega⟩
      refine br_t (nI_le (a := 6) (by omega) (by omega)) ⟨hfin, ?_⟩
      rw [hfcl]
      refine br_c (fun e3 => nm_r (nI_1 f) (hJ0 ((fr_FW_mem hF hf).mp e3))) (fun e3 => ?_)
      have hfl : f ∈ fr_lv D := Classical.byContradiction fun hno => e3 ((fr_FW_mem hF hf).mpr hno)
      obtain ⟨m, m1, m2, m3⟩ := hm hfl
      have m3' : a = m := m3
      refine pk_eq a i (fun e4 => ?_) (fun e4 => nm_r (nI_1 f) (hJ1 m m1 m2 (by omega)))
      have hp := h1 i j (by omega) hj rfl rfl
      have efi : (fr_lv D).getD i 0 = f := by rw [← m2]; exact congrArg (fun t => (fr_lv D).getD t 0) (by omega)
      rw [efi] at hp
      unfold fr_fq at hp
      refine pk_eq j 0 (fun e4 => ⟨hfin, ?_⟩) (fun e4 => pk_eq j 1 (fun e5 => ⟨hfin, ?_⟩) (fun e5 => ?_))
      · rw [if_pos e4] at hp
        exact hp
      · rw [if_neg e4, if_pos e5] at hp
        exact hp
      · rw [if_neg e4, if_neg e5] at hp
        rw [fr_fq_idy e4 e5]
        refine ⟨vp_in_nI (by omega) (by omega), ?_⟩
        rw [nI_clamp (by omega)]
        exact hp
    | succ k ih =>
      intro n g a hg hn hm hb
      obtain ⟨n, rfl⟩ : ∃ m, n = m + 1 := ⟨n - 1, by omega⟩
      have hgcl : (nI g).toNatClampNeg = g := nI_clamp (by omega)
      have hgin : vp_in (nI g) 6 := vp_in_nI (by omega) (by omega)
      have ng := fr_nu_nv hF (f := g) (by omega)
      have nf := fr_nu_nv hF hf
      have hskip : ¬ (g ∈ fr_lv D ∧ fr_nv D g < fr_nv D f) → wY_fact_29 post J (nI i) (nI j) (nI f) (nI (fr_ru S)) (fr_bY S) (nI (fr_md D)) (fr_pr D) hy (fr_sa S) (fr_co S) (fr_po S) (fr_ac S) bd (fr_cK S) (fr_cN S) (fr_cT S) (fr_tF S) (fr_tH S) (fr_tO S) ds (fr_aX S) (fr_aY S) (fr_aZ S) (fr_nu D) (fr_kd D) (fr_fd D) hl (fr_mk D) vr (fr_ou D) n (nI a) (nI (g + 1)) := by
        intro hno
        refine ih n (g + 1) a (by omega) (by omega) (fun hfl => ?_) (by omega)
        obtain ⟨m, m1, m2, m3⟩ := hm hfl
        refine ⟨m, m1, m2, ?_⟩
        rw [fr_cc, if_neg (fun h => hno (by have := (fr_take_iff hF m1 g).mp (of_decide_eq_true h); rw [m2] at this; exact this)), Nat.zero_add] at m3
        exact m3
      refine br_f (nI_ge (b := 6) (by omega) (by omega)) ⟨hgin, ?_⟩
      rw [hgcl]
      refine br_c (fun e3 => nm_r (nI_1 g) (hskip (fun h => (fr_FW_mem hF (f := g) (by omega)).mp e3 h.1))) (fun e3 => ⟨hgin, hfin, ?_⟩)
      have hgl : g ∈ fr_lv D := Classical.byContradiction fun hno => e3 ((fr_FW_mem hF (f := g) (by omega)).mpr hno)
      rw [hfcl, ng.1, nf.1]
      refine pk_le (fr_nv D f) (fr_nv D g) (fun e4 => nm_r (nI_1 g) (hskip (fun h => by omega))) (fun e4 => ?_)
      refine nm_r (nI_1 a) (nm_r (nI_1 g) (ih n (g + 1) (a + 1) (by omega) (by omega) (fun hfl => ?_) (by omega)))
      obtain ⟨m, m1, m2, m3⟩ := hm hfl
      refine ⟨m, m1, m2, ?_⟩
      rw [fr_cc, if_pos (decide_eq_true ((fr_take_iff hF m1 g).mpr ⟨hgl, by rw [m2]; exact e4⟩)), ← Nat.add_assoc] at m3
      exact m3
  have h17 : ∀ (k n f : Nat), f + k = 6 → k < n → (i < (fr_lv D).length → f ≤ (fr_lv D).getD i 0) → wY_fact_17 post (nI i) (nI j) (nI (fr_ru S)) (fr_bY S) (nI (fr_md D)) (fr_pr D) hy (fr_sa S) (fr_co S) (fr_po S) (fr_ac S) bd (fr_cK S) (fr_cN S) (fr_cT S) (fr_tF S) (fr_tH S) (fr_tO S) ds (fr_aX S) (fr_aY S) (fr_aZ S) (fr_nu D) (fr_kd D) (fr_fd D) hl (fr_mk D) vr (fr_ou D) n (nI f) := by
    intro k
    induction k with
    | zero =>
      intro n f hf hn hge
      obtain ⟨n, rfl⟩ : ∃ m, n = m + 1 := ⟨n - 1, by omega⟩
      refine br_t (nI_le (a := 6) (by omega) (by omega)) (h0 (Or.inr (Or.inl ⟨i, hi, rfl, ?_⟩)))
      rcases Nat.lt_or_ge i (fr_lv D).length with h | h
      · have h2 := hge h
        have := hF.1.2 _ (fr_getD_mem h)
        omega
      · exact h
    | succ k ih =>
      intro n f hf hn hge
      obtain ⟨n, rfl⟩ : ∃ m, n = m + 1 := ⟨n - 1, by omega⟩
      refine br_f (nI_ge (b := 6) (by omega) (by omega)) ⟨7, ?_⟩
      refine h29 _ f (by omega) (fun hno => ?_) (fun m m1 m2 m3 => ?_) 6 7 0 0 (by omega) (by omega) ?_ (by omega)
      · refine ih n (f + 1) (by omega) (by omega) (fun h => ?_)
        have h2 := hge h
        have : (fr_lv D).getD i 0 ≠ f := fun e => hno (e ▸ fr_getD_mem h)
        omega
      · refine ih n (f + 1) (by omega) (by omega) (fun h => ?_)
        have h2 := hge h
        have : (fr_lv D).getD i 0 ≠ f := by
          intro e3
          rcases Nat.lt_trichotomy m i with hh | hh | hh
          · have := fr_take_no hF.1.1 h
            refine this ?_
            rw [e3, ← m2]
            have hm' := fr_getD_mem (lv := (fr_lv D).take i) (i := m) (by rw [List.length_take]; omega)
            rw [fr_take_getD hh] at hm'
            exact hm'
          · exact m3 hh
          · have := fr_take_no hF.1.1 m1
            refine this ?_
            rw [m2, ← e3]
            have hm' := fr_getD_mem (lv := (fr_lv D).take m) (i := i) (by rw [List.length_take]; omega)
            rw [fr_take_getD hh] at hm'
            exact hm'
        omega
      · intro hfl
        obtain ⟨m, hm, e3⟩ := List.mem_iff_getElem.mp hfl
        refine ⟨m, hm, ?_, ?_⟩
        · rw [List.getD_eq_getElem?_getD, List.getElem?_eq_getElem hm]
          exact e3
        · rw [Nat.zero_add, fr_cc_mem (List.Nodup.sublist (List.take_sublist _ _) hF.1.1) (fun x hx' => hF.1.2 x (List.mem_of_mem_take hx')), List.length_take]
          omega
  exact ⟨7, h17 6 7 0 (by omega) (by omega) (fun _ => Nat.zero_le _)⟩
def fr_fv (S : fr_SR) (D : fr_DR) (k j : Nat) : Int32 := match fr_at S D k with
  | none => 0
  | some c => nI (fr_nn S D c j)
def fr_rv (S : fr_SR) (D : fr_DR) (k : Nat) : Int32 := match fr_at S D k with
  | none => -1
  | some c => nI (c / 216)
theorem fr_rank_at {C : List Nat} {k : Nat} (hF : fr_FW D) (hC : fr_Sg S D C) (hl : C.length ≤ k + 1) (hall : C.length < k + 1 → ∀ x, x < 864 → fr_Wt S D x = true → x ∈ C) : (k < C.length ∧ fr_at S D k = some (C.getD k 0)) ∨ (C.length ≤ k ∧ fr_at S D k = none) := by
  rcases Nat.lt_or_ge k C.length with h | h
  · left
    refine ⟨h, ?_⟩
    rw [fr_Sg_at hF hC k h, List.getElem?_eq_getElem h, List.getD_eq_getElem?_getD, List.getElem?_eq_getElem h]
    rfl
  · exact Or.inr ⟨h, fr_Sg_all hF hC (hall (by omega)) k h⟩
theorem fr_x_ruleAt {post : Int32 → SX → Prop} {x : Int32} (hS : fr_W1 S) (hS2 : fr_W2 S) (hX : fr_XI S D q A) (hF : fr_FW D)
    (h0 : (x < 0 ∨ 15 < x) → post (-1) (fr_mX S D hx o q z)) (h1 : ∀ k, k < 16 → x = nI k → ∀ b m w, post (fr_rv S D k) (fr_mX S D hx o q (fr_zr z b m w))) : wpX_ruleAt post (fr_mX S D hx o q z) x := by
  refine br_c (fun e => h0 (Or.inl e)) (fun e => br_c (fun e2 => ?_) (fun e2 => h0 (Or.inr (Int32.not_le.mp e2))))
  obtain ⟨k, hk, ex⟩ := nI_of2 (M := 15) (n := 15) (by decide) e e2
  subst ex
  have hp := h1 k (by omega) rfl
  rw [nI_1]
  refine fr_x_rank hS hS2 hX hF (by omega) ?_
  intro C b m w hC hl hall hB
  have hp := hp b m w
  unfold fr_rv at hp
  rcases fr_rank_at hF hC hl hall with ⟨h2, h3⟩ | ⟨h2, h3⟩
  · rw [h3] at hp
    obtain ⟨t, t1, t2⟩ := hB k h2
    obtain ⟨p, a1, _⟩ := fr_Wn_c hS hX t2
    refine br_t (nI_lt h2 (by omega)) ⟨vp_in_nI (by omega) (by omega), ?_⟩
    rw [nI_clamp (by omega)]
    have e3 : fr_zb (fr_zr z b m w) k = nI t := t1
    rw [e3]
    exact fr_x_ruleOf hX.1 hX.2.1 a1 hp
  · rw [h3] at hp
    exact br_f (nI_nlt h2 (by omega)) hp
theorem fr_x_factAt {post : Int32 → SX → Prop} {x y : Int32} (hS : fr_W1 S) (hS2 : fr_W2 S) (hX : fr_XI S D q A) (hF : fr_FW D)
    (h0 : (x < 0 ∨ 15 < x ∨ y < 0) → post 0 (fr_mX S D hx o q z)) (h1 : ∀ k j, k < 16 → j < 2 ^ 31 → x = nI k → y = nI j → ∀ b m w, post (fr_fv S D k j) (fr_mX S D hx o q (fr_zr z b m w))) : wpX_factAt post (fr_mX S D hx o q z) x y := by
  refine br_c (fun e => h0 (Or.inl e)) (fun e => br_c (fun e2 => h0 (Or.inr (Or.inl e2))) (fun e2 => br_c (fun e3 => ?_) (fun e3 => h0 (Or.inr (Or.inr (Int32.not_le.mp e3))))))
  obtain ⟨k, hk, ex⟩ := nI_of2 (M := 15) (n := 15) (by decide) e (Int32.not_lt.mp e2)
  subst ex
  obtain ⟨j, hj, ey⟩ := nI_of (Int32.not_lt.mpr e3)
  subst ey
  have hp := h1 k j (by omega) hj rfl rfl
  rw [nI_1]
  refine fr_x_rank hS hS2 hX hF (by omega) ?_
  intro C b m w hC hl hall hB
  have hp := hp b m w
  unfold fr_fv at hp
  rcases fr_rank_at hF hC hl hall with ⟨h2, h3⟩ | ⟨h2, h3⟩
  · rw [h3] at hp
    have hp : post (nI (fr_nn S D (C.getD k 0) j)) (fr_mX S D hx o q (fr_zr z b m w)) := hp
    obtain ⟨t, t1, t2⟩ := hB k h2
    obtain ⟨p, a1, a2, a3, a4, a5, a6, a7, a8, a9, a10, a11⟩ := fr_Wn_c hS hX t2
    have hkcl : (nI k).toNatClampNeg = k := nI_clamp (by omega)
    have e4 : fr_zb (fr_zr z b m w) k = nI t := t1
    refine br_t (nI_lt h2 (by omega)) ⟨vp_in_nI (by omega) (by omega), ?_⟩
    rw [hkcl, e4]
    refine fr_x_depth hX.1 a1 ?_
    unfold fr_nn at hp
    refine pk_lt j p.length (fun e5 => ⟨vp_in_nI (by omega) (by omega), ?_⟩) (fun e5 => ?_)
    · rw [if_pos (by omega)] at hp
      have hg := fr_gv_lt a6 j
      refine fr_x_given hX.1 a1 e5 ⟨vp_in_nI hg (by omega), ?_⟩
      rw [nI_clamp (by omega)]
      have e6 : fr_gv p j = fr_pl (C.getD k 0) j := by rw [a2, fr_pth_gv _ _ _ (by omega)]
      show post (fr_nu D (fr_gv p j)) _
      rw [(fr_nu_nv hF hg).1, e6]
      exact hp
    · rw [if_neg (by omega)] at hp
      exact hp
  · rw [h3] at hp
    exact br_f (nI_nlt h2 (by omega)) hp
theorem fr_y_ruleAt {post : Int32 → Prop} {x : Int32} (hS : fr_W1 S) (hF : fr_FW D) (hH : fr_HL S D hl)
    (h0 : (x < 0 ∨ 15 < x) → post (-1)) (h1 : ∀ k, k < 16 → x = nI k → post (fr_rv S D k)) : wpY_ruleAt post (fr_mY S D hy bd ds hl vr) x := by
  unfold wpY_ruleAt
  refine fr_y_at hS hF hH (fun e => br_f (by decide) (h0 e)) (fun k hk e => ?_)
  have hp := h1 k hk e
  unfold fr_rv at hp
  cases e2 : fr_at S D k with
  | none =>
    rw [e2] at hp
    exact br_f (by decide) hp
  | some c =>
    rw [e2] at hp
    obtain ⟨c1, c2⟩ := fr_at_W hF e2
    refine br_t (nI_pos' (by omega)) ⟨by decide, ?_⟩
    have e216 : nI c / 216 = nI (c / 216) := pk_div (d := 216) (by omega) (by omega) (by omega)
    show post (nI c / 216)
    rw [e216]
    exact hp
theorem fr_y_factAt {post : Int32 → Prop} {x y : Int32} (hS : fr_W1 S) (hF : fr_FW D) (hH : fr_HL S D hl)
    (h0 : (x < 0 ∨ 15 < x ∨ y < 0) → post 0) (h1 : ∀ k j, k < 16 → j < 2 ^ 31 → x = nI k → y = nI j → post (fr_fv S D k j)) : wpY_factAt post (fr_mY S D hy bd ds hl vr) x y := by
  unfold wpY_factAt
  refine fr_y_at hS hF hH (fun e => br_t (by decide) (h0 (by rcases e with e | e; exact Or.inl e; exact Or.inr (Or.inl e)))) (fun k hk e => ?_)
  cases e2 : fr_at S D k with
  | none =>
    refine br_t (by decide) ?_
    by_cases hy0 : y < 0
    · exact h0 (Or.inr (Or.inr hy0))
    · obtain ⟨j, hj, ey⟩ := nI_of hy0
      have hp := h1 k j hk hj e ey
      unfold fr_fv at hp
      rw [e2] at hp
      exact hp
  | some c =>
    obtain ⟨c1, c2⟩ := fr_at_W hF e2
    have hW := (fr_Wt_r hS c2).1
    refine br_f (nI_pos (by omega)) (br_c (fun e3 => h0 (Or.inr (Or.inr e3))) (fun e3 => ?_))
    obtain ⟨j, hj, ey⟩ := nI_of e3
    subst ey
    have hp := h1 k j hk hj e rfl
    unfold fr_fv at hp
    rw [e2] at hp
    refine pk_le j 2 (fun e4 => fr_y_number hF c1 hW (by omega) hp) (fun e4 => ?_)
    have hp : post (nI (fr_nn S D c j)) := hp
    unfold fr_nn at hp
    have := hW.1.2.2.2.1
    rw [if_neg (by omega)] at hp
    exact hp
end
end
section
def fr_Rw (S : fr_SR) (bd ds : fr_FN) (r : Nat) : Prop :=
  fr_WR S r ∧ fr_te S r = nI (fr_tc S r) ∧
  (fr_ac S r = nI (fr_an S r) ∧ fr_an S r ≤ 4 ∧ ∀ a, 4 * r ≤ a → a < 4 * r + fr_an S r → fr_WA S r a ∧ (fr_aW S a = 3 → ∃ k, k < 4 ∧ fr_aK S a = nI k ∧ ds a = nI (10 + k)) ∧ (fr_aW S a ≠ 3 → ds a = fr_aW S a)) ∧
  (∀ x, x < 4 → fr_vL S (4 * r + x) = -1 ∨ ∃ c i, 5 * r ≤ c ∧ c < 5 * r + fr_cn S r ∧ 4 * c ≤ i ∧ i < 4 * c + fr_tn S c ∧ fr_tH S i = 3 ∧ fr_tO S i = nI x) ∧
  (∃ b, b < 16 ∧ bd r = nI b ∧ ∀ x, x < 4 → (b.testBit x = true ↔ ¬ fr_vL S (4 * r + x) < 0))
def fr_Sx (S : fr_SR) (bd ds : fr_FN) : Prop :=
  (fr_ru S ≤ 4 ∧ (fr_bd S = true → 0 < fr_ru S)) ∧ (∀ r, r < fr_ru S → fr_Rw S bd ds r) ∧ (∀ r, r < fr_R S → 0 < fr_pn S r) ∧ fr_W6 S
theorem fr_Sx_W1 {S : fr_SR} {bd ds : fr_FN} (h : fr_Sx S bd ds) : fr_W1 S := ⟨h.1.1, h.1.2, fun r hr => (h.2.1 r hr).1, h.2.2.1⟩
theorem fr_Sx_W2 {S : fr_SR} {bd ds : fr_FN} (h : fr_Sx S bd ds) : fr_W2 S := fun r hr => (h.2.1 r hr).2.1
theorem fr_Sx_W3 {S : fr_SR} {bd ds : fr_FN} (h : fr_Sx S bd ds) : fr_W3 S := fun r hr => ⟨(h.2.1 r hr).2.2.1.1, (h.2.1 r hr).2.2.1.2.1, fun a h1 h2 => ((h.2.1 r hr).2.2.1.2.2 a h1 h2).1⟩
theorem fr_Sx_DS {S : fr_SR} {bd ds : fr_FN} (h : fr_Sx S bd ds) : fr_DS S ds := fun r hr a h1 h2 => ((h.2.1 r hr).2.2.1.2.2 a h1 h2).2
theorem fr_su_congr {f g : Nat → Nat} : ∀ (k i : Nat), (∀ j, i ≤ j → j < i + k → f j = g j) → fr_su f i k = fr_su g i k := by
  intro k
  induction k with
  | zero => intro i _; rfl
  | succ k ih =>
    intro i h
    rw [fr_su, fr_su, h i (by omega) (by omega), ih (i + 1) (fun j h1 h2 => h j (by omega) (by omega))]
theorem fr_Ae_tc {S S' : fr_SR} {r : Nat} (h : fr_Ae S S' r) (hW : fr_WR S r) : fr_tc S' r = fr_tc S r := by
  have hcn := hW.1.2.1
  have e := fr_Ae_cn h
  have e2 := fr_su_congr (f := fr_tn S') (g := fr_tn S) (fr_cn S r) (5 * r) (fun j h1 h2 => fr_Ae_tn h h1 (by omega))
  unfold fr_tc
  rw [e]
  exact e2
theorem fr_Ae_KN {S S' : fr_SR} {r : Nat} {x : Int32} (h : fr_Ae S S' r) (hW : fr_WR S r) (hk : fr_KN S r x) : fr_KN S' r x := by
  have hcn := hW.1.2.1
  intro hx
  obtain ⟨y, l, fl, y1, y2, y3, y4, y5, y6, y7⟩ := hk hx
  have hv := h.2.2.2 y y1
  refine ⟨y, l, fl, y1, y2, by rw [hv.1]; exact y3, by rw [fr_Ae_pn h]; exact y4, by rw [hv.2]; exact y5, y6, ?_⟩
  rw [fr_Ae_cn h]
  obtain ⟨c', i', b1, b2, b3, b4, b5, b6, b7⟩ := y7
  have htn := (hW.2 c' b1 (by omega)).2.1
  have hi := h.2.2.1 i' (by omega) (by omega)
  exact ⟨c', i', b1, b2, b3, by rw [fr_Ae_tn h b1 (by omega)]; exact b4, b5, by rw [hi.2.1]; exact b6, by rw [hi.2.2]; exact b7⟩
/-- rule r is the same in both -/
def fr_Af (S S' : fr_SR) (bd bd' ds ds' : fr_FN) (r : Nat) : Prop :=
  fr_Ae S S' r ∧ fr_te S' r = fr_te S r ∧ fr_ac S' r = fr_ac S r ∧ bd' r = bd r ∧
  ∀ a, 4 * r ≤ a → a < 4 * r + 4 → fr_aW S' a = fr_aW S a ∧ fr_aK S' a = fr_aK S a ∧ fr_aX S' a = fr_aX S a ∧ fr_aY S' a = fr_aY S a ∧ fr_aZ S' a = fr_aZ S a ∧ ds' a = ds a
theorem fr_Ae_WA {S S' : fr_SR} {r a : Nat} (h : fr_Ae S S' r) (hW : fr_WR S r) (e1 : fr_aW S' a = fr_aW S a) (e2 : fr_aK S' a = fr_aK S a) (e3 : fr_aX S' a = fr_aX S a) (e4 : fr_aY S' a = fr_aY S a) (e5 : fr_aZ S' a = fr_aZ S a) (hA : fr_WA S r a) : fr_WA S' r a := by
  unfold fr_WA
  rw [e1, e2, e3, e4, e5, fr_Ae_pn h]
  rcases hA with ⟨w0, w⟩ | ⟨w1, k1⟩ | w2 | ⟨w3, k, k1, k2, k3⟩
  · exact Or.inl ⟨w0, w⟩
  · exact Or.inr (Or.inl ⟨w1, fr_Ae_KN h hW k1⟩)
  · exact Or.inr (Or.inr (Or.inl w2))
  · exact Or.inr (Or.inr (Or.inr ⟨w3, k, fr_Ae_KN h hW k1, fr_Ae_KN h hW k2, fr_Ae_KN h hW k3⟩))
theorem fr_Ae_W4 {S S' : fr_SR} {r : Nat} (h : fr_Ae S S' r) (hW : fr_WR S r) (h4 : ∀ x, x < 4 → fr_vL S (4 * r + x) = -1 ∨ ∃ c i, 5 * r ≤ c ∧ c < 5 * r + fr_cn S r ∧ 4 * c ≤ i ∧ i < 4 * c + fr_tn S c ∧ fr_tH S i = 3 ∧ fr_tO S i = nI x) :
    ∀ x, x < 4 → fr_vL S' (4 * r + x) = -1 ∨ ∃ c i, 5 * r ≤ c ∧ c < 5 * r + fr_cn S' r ∧ 4 * c ≤ i ∧ i < 4 * c + fr_tn S' c ∧ fr_tH S' i = 3 ∧ fr_tO S' i = nI x := by
  have hcn := hW.1.2.1
  intro x hx
  rw [(h.2.2.2 x hx).1, fr_Ae_cn h]
  rcases h4 x hx with e | ⟨c, i, a1, a2, a3, a4, a5, a6⟩
  · exact Or.inl e
  · right
    have htn := (hW.2 c a1 a2).2.1
    have hi := h.2.2.1 i (by omega) (by omega)
    exact ⟨c, i, a1, a2, a3, by rw [fr_Ae_tn h a1 (by omega)]; exact a4, by rw [hi.2.1]; exact a5, by rw [hi.2.2]; exact a6⟩
theorem fr_Af_Rw {S S' : fr_SR} {bd bd' ds ds' : fr_FN} {r : Nat} (h : fr_Af S S' bd bd' ds ds' r) (hR : fr_Rw S bd ds r) : fr_Rw S' bd' ds' r := by
  obtain ⟨hA, f1, f2, f3, f4⟩ := h
  obtain ⟨hW, r1, ⟨r2, r3, r4⟩, r5, b, r6, r7, r8⟩ := hR
  have ean : fr_an S' r = fr_an S r := by unfold fr_an; rw [f2]
  refine ⟨fr_Ae_WR hA hW, by rw [f1, fr_Ae_tc hA hW]; exact r1, ⟨by rw [f2, ean]; exact r2, by rw [ean]; exact r3, ?_⟩, fr_Ae_W4 hA hW r5, b, r6, by rw [f3]; exact r7, fun x hx => by rw [(hA.2.2.2 x hx).1]; exact r8 x hx⟩
  intro a h1 h2
  rw [ean] at h2
  obtain ⟨e1, e2, e3, e4, e5, e6⟩ := f4 a h1 (by omega)
  obtain ⟨w1, w2, w3⟩ := r4 a h1 h2
  exact ⟨fr_Ae_WA hA hW e1 e2 e3 e4 e5 w1, by rw [e1, e2, e6]; exact w2, by rw [e1, e6]; exact w3⟩
theorem fr_upd_id {f : fr_FN} {k : Nat} {v : Int32} (h : f k = v) : upd f k v = f := by
  funext j
  by_cases e : j = k
  · rw [e, pk_us, h]
  · rw [pk_un e]
/-! rule -/
def fr_vk (vL : fr_FN) (r : Nat) : Nat → fr_FN
  | 0 => vL
  | k + 1 => upd (fr_vk vL r k) (4 * r + k) (-1)
theorem fr_vk_out {vL : fr_FN} {r j : Nat} : ∀ k : Nat, (j < 4 * r ∨ 4 * r + k ≤ j) → fr_vk vL r k j = vL j := by
  intro k
  induction k with
  | zero => intro _; rfl
  | succ k ih => intro h; rw [fr_vk, pk_un (by omega)]; exact ih (by omega)
theorem fr_vk_in {vL : fr_FN} {r j : Nat} : ∀ k : Nat, 4 * r ≤ j → j < 4 * r + k → fr_vk vL r k j = -1 := by
  intro k
  induction k with
  | zero => intro h1 h2; omega
  | succ k ih =>
    intro h1 h2
    rw [fr_vk]
    by_cases e : j = 4 * r + k
    · rw [e, pk_us]
    · rw [pk_un e]; exact ih h1 (by omega)
def fr_S1 (S : fr_SR) (v : Int32) : fr_SR := (fr_ru S + 1, true, upd (fr_sa S) (fr_ru S) v, fr_co S, fr_po S, fr_te S, fr_ac S, fr_cK S, fr_cT S, fr_cL S, fr_cN S, fr_tF S, fr_tH S, fr_tO S, fr_vk (fr_vL S) (fr_ru S) 4, fr_vF S, fr_aW S, fr_aK S, fr_aX S, fr_aY S, fr_aZ S)
theorem fr_S1_Sx {S : fr_SR} {bd ds : fr_FN} {v : Int32} (h : fr_Sx S bd ds) (hb : fr_bd S = false) (h4 : fr_ru S ≠ 4) : fr_Sx (fr_S1 S v) (upd bd (fr_ru S) 0) ds ∧ fr_R (fr_S1 S v) = fr_R S ∧ ∀ r, r < fr_R S → fr_Ae S (fr_S1 S v) r := by
  obtain ⟨⟨w1, w2⟩, w3, w4, w5⟩ := h
  have hR : fr_R S = fr_ru S := by unfold fr_R; rw [hb]; rfl
  have hR' : fr_R (fr_S1 S v) = fr_ru S := rfl
  have hAe : ∀ r, r < fr_ru S → fr_Ae S (fr_S1 S v) r := by
    intro r hr
    refine ⟨⟨rfl, rfl⟩, fun _ _ _ => ⟨rfl, rfl, rfl, rfl⟩, fun _ _ _ => ⟨rfl, rfl, rfl⟩, fun x hx => ⟨?_, rfl⟩⟩
    exact fr_vk_out 4 (by omega)
  refine ⟨⟨⟨by show fr_ru S + 1 ≤ 4; omega, fun _ => Nat.succ_pos _⟩, ?_, ?_, ?_⟩, by rw [hR', hR], by rw [hR]; exact hAe⟩
  · intro r hr
    have hr' : r < fr_ru S + 1 := hr
    by_cases e : r = fr_ru S
    · subst e
      obtain ⟨z1, z2, z3, z4⟩ := w5.1 (fr_ru S) (Nat.le_refl _) (by omega)
      have ecn : fr_cn (fr_S1 S v) (fr_ru S) = 0 := by show (fr_co S (fr_ru S)).toNatClampNeg = 0; rw [z1]; rfl
      have epn : fr_pn (fr_S1 S v) (fr_ru S) = 0 := by show (fr_po S (fr_ru S)).toNatClampNeg = 0; rw [z2]; rfl
      have ean : fr_an (fr_S1 S v) (fr_ru S) = 0 := by show (fr_ac S (fr_ru S)).toNatClampNeg = 0; rw [z3]; rfl
      refine ⟨⟨⟨by rw [ecn]; exact z1, by omega, by rw [epn]; exact z2, by omega, by rw [ecn, epn]; rfl, by omega⟩, fun c c1 c2 => by omega⟩, ?_, ⟨by rw [ean]; exact z3, by omega, fun a a1 a2 => by omega⟩, ?_, 0, by omega, pk_us, ?_⟩
      · have : fr_tc (fr_S1 S v) (fr_ru S) = 0 := by unfold fr_tc; rw [ecn]; rfl
        rw [this]
        exact z4
      · intro x hx
        exact Or.inl (fr_vk_in 4 (by omega) (by omega))
      · intro x hx
        have e2 : fr_vL (fr_S1 S v) (4 * fr_ru S + x) = -1 := fr_vk_in 4 (by omega) (by omega)
        rw [e2, Nat.zero_testBit]
        constructor
        · intro h; cases h
        · intro h; exact absurd (by decide) h
    · refine fr_Af_Rw (S := S) (bd := bd) (ds := ds) ⟨hAe r (by omega), rfl, rfl, pk_un e, fun _ _ _ => ⟨rfl, rfl, rfl, rfl, rfl, rfl⟩⟩ (w3 r (by omega))
  · intro r hr
    rw [hR'] at hr
    exact w4 r (by rw [hR]; exact hr)
  · exact ⟨fun r h1 h2 => w5.1 r (by have : fr_ru S + 1 ≤ r := h1; omega) h2, w5.2.1, w5.2.2⟩
section
variable {S : fr_SR} {D : fr_DR} {hx hy : Int32} {o : fr_FN} {q : fr_QR} {z : fr_ZR} {bd ds hl vr : fr_FN}
theorem fr_x_rule {post : Int32 → SX → Prop} {v : Int32} (h4 : fr_ru S ≤ 4) (hb0 : fr_bd S = true → 0 < fr_ru S)
    (h0 : (fr_bd S = true ∨ fr_ru S = 4 ∨ v < (-9) ∨ 9 < v) → post (-1) (fr_mX S D hx o q z))
    (h1 : ¬ (fr_bd S = true ∨ fr_ru S = 4 ∨ v < (-9) ∨ 9 < v) → post (nI (fr_ru S)) (fr_mX (fr_S1 S (vp_nar .byte v.toInt8.toInt32)) D hx o q z)) : wpX_rule post (fr_mX S D hx o q z) v := by
  by_cases hb : fr_bd S = true
  · have e : fr_bX S = nI (fr_ru S - 1) := by unfold fr_bX; rw [if_pos hb]
    exact br_t (by rw [e]; exact nI_pos' (by omega)) (h0 (Or.inl hb))
  · have e : fr_bX S = -1 := by unfold fr_bX; rw [if_neg hb]
    refine br_f (by rw [e]; decide) (pk_eq (fr_ru S) 4 (fun e1 => h0 (Or.inr (Or.inl e1))) (fun e1 => ?_))
    refine br_c (fun e2 => h0 (Or.inr (Or.inr (Or.inl e2)))) (fun e2 => br_c (fun e3 => ?_) (fun e3 => h0 (Or.inr (Or.inr (Or.inr (Int32.not_le.mp e3))))))
    have hp := h1 (by rintro (h | h | h | h); exact hb h; exact e1 h; exact e2 h; exact absurd e3 (Int32.not_le.mpr h))
    refine ⟨vp_in_nI (by omega) (by omega), nm_r (e' := upd (fr_sa S) (fr_ru S) (vp_nar .byte v.toInt8.toInt32)) (by rw [nI_clamp (by omega)]) (nm_r (fr_n4 _) ⟨5, ?_⟩)⟩
    have e44 : nI (fr_ru S) * 4 + 4 = nI (4 * fr_ru S + 4) := fr_m4 (fr_ru S) 4
    have hloop : ∀ (k n i : Nat), i + k = 4 → k < n → wX_rule_47 post (nI (fr_ru S)) (fr_bX S) (nI (fr_lv D).length) (nI (fr_md D)) (fr_fr q) (fr_pk q) (fr_pr D) hx n (nI (4 * fr_ru S + i)) (upd (fr_sa S) (fr_ru S) (vp_nar .byte v.toInt8.toInt32)) (fr_co S) (fr_po S) (fr_te S) (fr_ac S) (fr_cK S) (fr_cT S) (fr_cL S) (fr_cN S) (fr_tF S) (fr_tH S) (fr_tO S) (fr_vk (fr_vL S) (fr_ru S) i) (fr_vF S) (fr_aW S) (fr_aK S) (fr_aX S) (fr_aY S) (fr_aZ S) (fr_nu D) (fr_fd D) (fr_kd D) o (fr_pa q) (fr_ch q) (fr_nx q) (fr_fa q) (fr_st q) (fr_rt q) (fr_zs z) (fr_zg z) (fr_zb z) (fr_zm z) (fr_zo z) (fr_zn z) (fr_zf z) (fr_ou D) := by
      intro k
      induction k with
      | zero =>
        intro n i hi hn
        obtain ⟨n, rfl⟩ : ∃ m, n = m + 1 := ⟨n - 1, by omega⟩
        have : i = 4 := by omega
        subst this
        exact br_t (by rw [e44]; exact nI_le (by omega) (by omega)) (nm_r (e' := nI (fr_ru S + 1)) (nI_1 _) hp)
      | succ k ih =>
        intro n i hi hn
        obtain ⟨n, rfl⟩ : ∃ m, n = m + 1 := ⟨n - 1, by omega⟩
        refine br_f (by rw [e44]; exact nI_ge (by omega) (by omega)) ⟨vp_in_nI (by omega) (by omega), nm_r (e' := fr_vk (fr_vL S) (fr_ru S) (i + 1)) (by rw [nI_clamp (by omega), vp_nar_byte]; rfl) (nm_r (e' := nI (4 * fr_ru S + (i + 1))) (nI_1 _) (ih n (i + 1) (by omega) (by omega)))⟩
    exact hloop 4 5 0 (by omega) (by omega)
theorem fr_y_rule {post : Int32 → SY → Prop} {v : Int32} (hS : fr_Sx S bd ds)
    (h0 : (fr_bd S = true ∨ fr_ru S = 4 ∨ v < (-9) ∨ 9 < v) → post (-1) (fr_mY S D hy bd ds hl vr))
    (h1 : ¬ (fr_bd S = true ∨ fr_ru S = 4 ∨ v < (-9) ∨ 9 < v) → post (nI (fr_ru S)) (fr_mY (fr_S1 S (vp_nar .byte v.toInt8.toInt32)) D hy (upd bd (fr_ru S) 0) ds hl vr)) : wpY_rule post (fr_mY S D hy bd ds hl vr) v := by
  have h4 := hS.1.1
  by_cases hb : fr_bd S = true
  · have e : fr_bY S = 1 := by unfold fr_bY; rw [if_pos hb]
    exact br_f (by rw [e]; decide) (h0 (Or.inl hb))
  · have e : fr_bY S = 0 := by unfold fr_bY; rw [if_neg hb]
    refine br_t e (pk_eq (fr_ru S) 4 (fun e1 => h0 (Or.inr (Or.inl e1))) (fun e1 => ?_))
    refine br_c (fun e2 => h0 (Or.inr (Or.inr (Or.inl e2)))) (fun e2 => br_c (fun e3 => ?_) (fun e3 => h0 (Or.inr (Or.inr (Or.inr (Int32.not_le.mp e3))))))
    have hp := h1 (by rintro (h | h | h | h); exact hb h; exact e1 h; exact e2 h; exact absurd e3 (Int32.not_le.mpr h))
    have hcl : (nI (fr_ru S)).toNatClampNeg = fr_ru S := nI_clamp (by omega)
    have hin : vp_in (nI (fr_ru S)) 4 := vp_in_nI (by omega) (by omega)
    obtain ⟨z1, z2, z3, z4⟩ := hS.2.2.2.1 (fr_ru S) (Nat.le_refl _) (by omega)
    refine ⟨hin, nm_r (e' := upd (fr_sa S) (fr_ru S) (vp_nar .byte v.toInt8.toInt32)) (by rw [hcl]) ⟨hin, nm_r (e' := fr_co S) (by rw [hcl, fr_b0]; exact fr_upd_id z1) ⟨hin, nm_r (e' := fr_po S) (by rw [hcl, fr_b0]; exact fr_upd_id z2) ⟨hin, nm_r (e' := fr_ac S) (by rw [hcl, fr_b0]; exact fr_upd_id z3) ⟨hin, nm_r (e' := upd bd (fr_ru S) 0) (by rw [hcl, fr_b0]) (nm_r (e' := nI (fr_ru S + 1)) (nI_1 _) hp)⟩⟩⟩⟩⟩
end
end
section
def fr_b (S : fr_SR) : Nat := fr_ru S - 1
def fr_c0 (S : fr_SR) : Nat := 5 * fr_b S + fr_cn S (fr_b S)
def fr_S2 (S : fr_SR) (k n : Int32) (po : fr_FN) : fr_SR := (fr_ru S, fr_bd S, fr_sa S, upd (fr_co S) (fr_b S) (nI (fr_cn S (fr_b S) + 1)), po, fr_te S, fr_ac S, upd (fr_cK S) (fr_c0 S) k, fr_cT S, upd (fr_cL S) (fr_c0 S) (nI (fr_pn S (fr_b S))), upd (fr_cN S) (fr_c0 S) n, fr_tF S, fr_tH S, fr_tO S, fr_vL S, fr_vF S, fr_aW S, fr_aK S, fr_aX S, fr_aY S, fr_aZ S)
theorem fr_su_add {f : Nat → Nat} : ∀ (k i m : Nat), fr_su f i (k + m) = fr_su f i k + fr_su f (i + k) m := by
  intro k
  induction k with
  | zero => intro i m; rw [Nat.zero_add, Nat.add_zero]; exact (Nat.zero_add _).symm
  | succ k ih =>
    intro i m
    rw [show k + 1 + m = (k + m) + 1 by omega, fr_su, fr_su, ih (i + 1) m, show i + (k + 1) = i + 1 + k by omega]
    omega
theorem fr_bd_R {S : fr_SR} (h : fr_bd S = true) : fr_R S = fr_b S := by unfold fr_R fr_b; rw [if_pos h]
theorem fr_S2_Sx {S : fr_SR} {bd ds po : fr_FN} {k n : Int32} (h : fr_Sx S bd ds) (hb : fr_bd S = true) (ha : fr_an S (fr_b S) = 0)
    (hn : (n = 0 ∧ fr_pn S (fr_b S) ≠ 3 ∧ po = upd (fr_po S) (fr_b S) (nI (fr_pn S (fr_b S) + 1))) ∨ (n = 1 ∧ fr_cn S (fr_b S) ≠ fr_pn S (fr_b S) + 2 ∧ po = fr_po S)) :
    fr_Sx (fr_S2 S k n po) bd ds ∧ fr_R (fr_S2 S k n po) = fr_R S ∧ ∀ r, r < fr_R S → fr_Ae S (fr_S2 S k n po) r := by
  obtain ⟨⟨w1, w2⟩, w3, w4, w5⟩ := h
  have hru := w2 hb
  have hR : fr_R S = fr_b S := fr_bd_R hb
  have hR' : fr_R (fr_S2 S k n po) = fr_R S := rfl
  have hbe : fr_b S = fr_ru S - 1 := rfl
  have hRw := w3 (fr_b S) (by omega)
  obtain ⟨hW, r1, ⟨r2, r3, r4⟩, r5, bb, r6, r7, r8⟩ := hRw
  obtain ⟨⟨q1, q2, q3, q4, q5, q6⟩, qC⟩ := hW
  have hpo : ∀ r, r ≠ fr_b S → po r = fr_po S r := by
    intro r hr
    rcases hn with ⟨_, _, e⟩ | ⟨_, _, e⟩
    · rw [e, pk_un hr]
    · rw [e]
  have hc0 : fr_c0 S = 5 * fr_b S + fr_cn S (fr_b S) := rfl
  have hcn5 : fr_cn S (fr_b S) < 5 := by omega
  have hAe : ∀ r, r ≠ fr_b S → r < 4 → fr_Ae S (fr_S2 S k n po) r := by
    intro r hr hr4
    refine ⟨⟨pk_un hr, hpo r hr⟩, fun c c1 c2 => ?_, fun _ _ _ => ⟨rfl, rfl, rfl⟩, fun x hx => ⟨rfl, rfl⟩⟩
    have hc : c ≠ fr_c0 S := by omega
    exact ⟨pk_un hc, rfl, pk_un hc, pk_un hc⟩
  have hbb : ∀ c, c < fr_c0 S → fr_cN (fr_S2 S k n po) c = fr_cN S c ∧ fr_cL (fr_S2 S k n po) c = fr_cL S c := fun c hc => ⟨pk_un (by omega), pk_un (by omega)⟩
  have hpc : ∀ j, j ≤ fr_cn S (fr_b S) → fr_pc (fr_S2 S k n po) (fr_b S) j = fr_pc S (fr_b S) j := by
    intro j hj
    unfold fr_pc
    refine fr_cc_congr _ _ (fun c c1 c2 => ?_)
    unfold fr_ng
    rw [(hbb c (by omega)).1]
  have ecn : fr_cn (fr_S2 S k n po) (fr_b S) = fr_cn S (fr_b S) + 1 := by
    show (upd (fr_co S) (fr_b S) _ (fr_b S)).toNatClampNeg = _
    rw [pk_us]
    exact nI_clamp (by omega)
  have epn : fr_pn (fr_S2 S k n po) (fr_b S) = fr_pn S (fr_b S) + (if n = 0 then 1 else 0) ∧ po (fr_b S) = nI (fr_pn S (fr_b S) + (if n = 0 then 1 else 0)) := by
    have : po (fr_b S) = nI (fr_pn S (fr_b S) + (if n = 0 then 1 else 0)) := by
      rcases hn with ⟨e0, _, e⟩ | ⟨e0, _, e⟩
      · rw [e, pk_us, if_pos e0]
      · rw [e, if_neg (by rw [e0]; decide), Nat.add_zero]
        exact q3
    refine ⟨?_, this⟩
    show (po (fr_b S)).toNatClampNeg = _
    rw [this]
    exact nI_clamp (by split <;> omega)
  have ecN0 : fr_cN (fr_S2 S k n po) (fr_c0 S) = n := pk_us
  have epc1 : fr_pc (fr_S2 S k n po) (fr_b S) (fr_cn S (fr_b S) + 1) = fr_pn S (fr_b S) + (if n = 0 then 1 else 0) := by
    have hs := fr_pc_s (S := fr_S2 S k n po) (r := fr_b S) (c := fr_c0 S) (by omega)
    rw [show fr_c0 S + 1 - 5 * fr_b S = fr_cn S (fr_b S) + 1 by omega, show fr_c0 S - 5 * fr_b S = fr_cn S (fr_b S) by omega, hpc _ (Nat.le_refl _), q5] at hs
    rw [hs]
    unfold fr_ng
    rw [ecN0]
    rcases hn with ⟨e0, _, _⟩ | ⟨e0, _, _⟩
    · rw [e0]; rfl
    · rw [e0]; rfl
  have htn0 : fr_cT S (fr_c0 S) = 0 := w5.2.1 (fr_b S) (fr_cn S (fr_b S)) (by omega) hcn5 (Nat.le_refl _)
  have etn0 : fr_tn (fr_S2 S k n po) (fr_c0 S) = 0 := by show (fr_cT S (fr_c0 S)).toNatClampNeg = 0; rw [htn0]; rfl
  refine ⟨⟨⟨w1, w2⟩, ?_, ?_, ?_⟩, hR', by rw [hR]; exact fun r hr => hAe r (by omega) (by omega)⟩
  · intro r hr
    have hr' : r < fr_ru S := hr
    by_cases e : r = fr_b S
    · subst e
      refine ⟨⟨⟨by rw [ecn]; exact pk_us, by omega, by rw [epn.1]; exact epn.2, ?_, by rw [ecn, epn.1]; exact epc1, ?_⟩, ?_⟩, ?_, ⟨r2, r3, ?_⟩, ?_, bb, r6, r7, r8⟩
      · rw [epn.1]
        rcases hn with ⟨e0, e1, _⟩ | ⟨e0, _, _⟩
        · rw [if_pos e0]; omega
        · rw [if_neg (by rw [e0]; decide)]; omega
      · rw [ecn, epn.1]
        rcases hn with ⟨e0, e1, _⟩ | ⟨e0, e1, _⟩
        · rw [if_pos e0]; omega
        · rw [if_neg (by rw [e0]; decide)]; omega
      · intro c c1 c2
        rw [ecn] at c2
        by_cases ec : c = fr_c0 S
        · subst ec
          refine ⟨by rw [etn0]; exact htn0, by omega, ?_, ?_, fun i i1 i2 => by rw [etn0] at i2; omega⟩
          · rw [ecN0]
            rcases hn with ⟨e0, _, _⟩ | ⟨e0, _, _⟩
            · exact Or.inl e0
            · exact Or.inr e0
          · show upd (fr_cL S) (fr_c0 S) _ (fr_c0 S) = _
            rw [pk_us, show fr_c0 S - 5 * fr_b S = fr_cn S (fr_b S) by omega, hpc _ (Nat.le_refl _), q5]
        · obtain ⟨a1, a2, a3, a4, a5⟩ := qC c c1 (by omega)
          obtain ⟨e1, e2⟩ := hbb c (by omega)
          refine ⟨a1, a2, by rw [e1]; exact a3, by rw [e2, hpc _ (by omega)]; exact a4, fun i i1 i2 => ?_⟩
          obtain ⟨t1, t2, t3⟩ := a5 i i1 i2
          exact ⟨t1, by rw [e1, e2]; exact t2, t3⟩
      · have : fr_tc (fr_S2 S k n po) (fr_b S) = fr_tc S (fr_b S) := by
          unfold fr_tc
          rw [ecn, fr_su_add]
          show fr_su (fr_tn S) _ _ + (fr_tn (fr_S2 S k n po) (fr_c0 S) + 0) = _
          rw [etn0]
          rfl
        rw [this]
        exact r1
      · intro a a1 a2
        have : fr_an (fr_S2 S k n po) (fr_b S) = 0 := ha
        omega
      · intro x hx
        rcases r5 x hx with e | ⟨c, i, a1, a2, a3⟩
        · exact Or.inl e
        · exact Or.inr ⟨c, i, a1, by rw [ecn]; omega, a3⟩
    · exact fr_Af_Rw (S := S) (bd := bd) (ds := ds) ⟨hAe r e (by omega), rfl, rfl, rfl, fun _ _ _ => ⟨rfl, rfl, rfl, rfl, rfl, rfl⟩⟩ (w3 r (by omega))
  · intro r hr
    rw [hR', hR] at hr
    rw [fr_Ae_pn (hAe r (by omega) (by omega))]
    exact w4 r (by omega)
  · refine ⟨fun r h1 h2 => ?_, fun r j h1 h2 h3 => ?_, w5.2.2⟩
    · have h1' : fr_ru S ≤ r := h1
      obtain ⟨z1, z2, z3, z4⟩ := w5.1 r h1' h2
      refine ⟨?_, ?_, z3, z4⟩
      · show upd (fr_co S) (fr_b S) _ r = 0
        rw [pk_un (by omega)]
        exact z1
      · show po r = 0
        rw [hpo r (by omega)]
        exact z2
    · by_cases e : r = fr_b S
      · subst e
        rw [ecn] at h3
        exact w5.2.1 _ j h1 h2 (by omega)
      · rw [fr_Ae_cn (hAe r e h1)] at h3
        exact w5.2.1 r j h1 h2 h3
section
variable {S : fr_SR} {D : fr_DR} {hx hy : Int32} {o : fr_FN} {q : fr_QR} {z : fr_ZR} {bd ds hl vr : fr_FN}
def fr_Cf (S : fr_SR) (k n : Int32) : Prop := fr_bd S = false ∨ k < 0 ∨ 3 < k ∨ fr_an S (fr_b S) ≠ 0 ∨ (n = 0 ∧ fr_pn S (fr_b S) = 3) ∨ (n = 1 ∧ fr_cn S (fr_b S) = fr_pn S (fr_b S) + 2)
def fr_Cp (S : fr_SR) (n : Int32) (po : fr_FN) : Prop := (n = 0 ∧ fr_pn S (fr_b S) ≠ 3 ∧ po = upd (fr_po S) (fr_b S) (nI (fr_pn S (fr_b S) + 1))) ∨ (n = 1 ∧ fr_cn S (fr_b S) ≠ fr_pn S (fr_b S) + 2 ∧ po = fr_po S)
theorem fr_bXt (h : fr_bd S = true) : fr_bX S = nI (fr_b S) := by unfold fr_bX fr_b; rw [if_pos h]
theorem fr_bXf (h : fr_bd S = false) : fr_bX S = -1 := by unfold fr_bX; rw [h]; rfl
theorem fr_bYt (h : fr_bd S = true) : fr_bY S = 1 := by unfold fr_bY; rw [if_pos h]
theorem fr_bYf (h : fr_bd S = false) : fr_bY S = 0 := by unfold fr_bY; rw [h]; rfl
theorem fr_x_condition {post : Int32 → SX → Prop} {k n : Int32} (hS : fr_Sx S bd ds) (hn01 : n = 0 ∨ n = 1)
    (h0 : fr_Cf S k n → post 0 (fr_mX S D hx o q z))
    (h1 : ∀ po, ¬ fr_Cf S k n → fr_Cp S n po → post 1 (fr_mX (fr_S2 S k n po) D hx o q z)) : wpX_condition post (fr_mX S D hx o q z) k n := by
  cases hb : fr_bd S with
  | false => exact br_t (by rw [fr_bXf hb]; decide) (h0 (Or.inl hb))
  | true =>
    have hru := hS.1.2 hb
    have h4 := hS.1.1
    have hbe : fr_b S = fr_ru S - 1 := rfl
    obtain ⟨hW, r1, ⟨r2, r3, r4⟩, _⟩ := hS.2.1 (fr_b S) (by omega)
    obtain ⟨⟨q1, q2, q3, q4, q5, q6⟩, qC⟩ := hW
    have hcl : (fr_bX S).toNatClampNeg = fr_b S := by rw [fr_bXt hb]; exact nI_clamp (by omega)
    have hin : vp_in (fr_bX S) 4 := by rw [fr_bXt hb]; exact vp_in_nI (by omega) (by omega)
    refine br_f (by rw [fr_bXt hb]; exact nI_pos (by omega)) (br_c (fun e1 => h0 (Or.inr (Or.inl e1))) (fun e1 => br_c (fun e2 => h0 (Or.inr (Or.inr (Or.inl e2)))) (fun e2 => ⟨hin, ?_⟩)))
    obtain ⟨j, hj, ek⟩ := nI_of2 (M := 3) (n := 3) (by decide) e1 (Int32.not_lt.mp e2)
    rw [hcl, r2]
    refine pk_le (fr_an S (fr_b S)) 0 (fun e3 => ⟨hin, nm_r q1 ⟨hin, nm_r q3 ?_⟩⟩) (fun e3 => h0 (Or.inr (Or.inr (Or.inr (Or.inl (by omega))))))
    have h69 : ¬ fr_Cf S k n → wX_condition_69 post k n (fr_bX S) (nI (fr_cn S (fr_b S))) (nI (fr_pn S (fr_b S))) (nI (fr_ru S)) (fr_bX S) (nI (fr_lv D).length) (nI (fr_md D)) (fr_fr q) (fr_pk q) (fr_pr D) hx (fr_sa S) (fr_co S) (fr_po S) (fr_te S) (fr_ac S) (fr_cK S) (fr_cT S) (fr_cL S) (fr_cN S) (fr_tF S) (fr_tH S) (fr_tO S) (fr_vL S) (fr_vF S) (fr_aW S) (fr_aK S) (fr_aX S) (fr_aY S) (fr_aZ S) (fr_nu D) (fr_fd D) (fr_kd D) o (fr_pa q) (fr_ch q) (fr_nx q) (fr_fa q) (fr_st q) (fr_rt q) (fr_zs z) (fr_zg z) (fr_zb z) (fr_zm z) (fr_zo z) (fr_zn z) (fr_zf z) (fr_ou D) := by
      intro hno
      have hcn5 : fr_cn S (fr_b S) < 5 := by
        rcases hn01 with e | e
        · have : fr_pn S (fr_b S) ≠ 3 := fun e4 => hno (Or.inr (Or.inr (Or.inr (Or.inr (Or.inl ⟨e, e4⟩)))))
          omega
        · have : fr_cn S (fr_b S) ≠ fr_pn S (fr_b S) + 2 := fun e4 => hno (Or.inr (Or.inr (Or.inr (Or.inr (Or.inr ⟨e, e4⟩)))))
          omega
      have ec : fr_bX S * 5 + nI (fr_cn S (fr_b S)) = nI (fr_c0 S) := by rw [fr_bXt hb, fr_m5]; rfl
      have hc0 : fr_c0 S = 5 * fr_b S + fr_cn S (fr_b S) := rfl
      have hcin : vp_in (nI (fr_c0 S)) 20 := vp_in_nI (by omega) (by omega)
      have hccl : (nI (fr_c0 S)).toNatClampNeg = fr_c0 S := nI_clamp (by omega)
      have hnb : vp_nar .boolean n = n := by rcases hn01 with e | e <;> (rw [e]; rfl)
      unfold wX_condition_69
      rw [ec, hccl, hcl]
      refine ⟨hcin, nm_r (e' := upd (fr_cK S) (fr_c0 S) k) (by rw [ek, fr_b88 (by omega)]) ⟨hcin, nm_r (e' := upd (fr_cN S) (fr_c0 S) n) (by rw [hnb]) ⟨hcin, nm_r (e' := upd (fr_cL S) (fr_c0 S) (nI (fr_pn S (fr_b S)))) (by rw [fr_b88 (by omega)]) ⟨hin, hin, nm_r (e' := upd (fr_co S) (fr_b S) (nI (fr_cn S (fr_b S) + 1))) (by rw [q1, nI_1, fr_b88 (by omega)]) ?_⟩⟩⟩⟩
      rcases hn01 with e | e
      · have hp3 : fr_pn S (fr_b S) ≠ 3 := fun e4 => hno (Or.inr (Or.inr (Or.inr (Or.inr (Or.inl ⟨e, e4⟩)))))
        refine br_t e ⟨hin, hin, nm_r (e' := upd (fr_po S) (fr_b S) (nI (fr_pn S (fr_b S) + 1))) (by rw [q3, nI_1, fr_b88 (by omega)]) ?_⟩
        exact h1 (upd (fr_po S) (fr_b S) (nI (fr_pn S (fr_b S) + 1))) hno (Or.inl ⟨e, hp3, rfl⟩)
      · have hp3 : fr_cn S (fr_b S) ≠ fr_pn S (fr_b S) + 2 := fun e4 => hno (Or.inr (Or.inr (Or.inr (Or.inr (Or.inr ⟨e, e4⟩)))))
        exact br_f (by rw [e]; decide) (h1 (fr_po S) hno (Or.inr ⟨e, hp3, rfl⟩))
    have hnf : (n = 0 ∧ fr_pn S (fr_b S) ≠ 3) ∨ (n = 1 ∧ fr_cn S (fr_b S) ≠ fr_pn S (fr_b S) + 2) → ¬ fr_Cf S k n := by
      rintro hh (h | h | h | h | ⟨h, h'⟩ | ⟨h, h'⟩)
      · rw [hb] at h; cases h
      · exact e1 h
      · exact e2 h
      · omega
      · rcases hh with ⟨a, b⟩ | ⟨a, b⟩
        · exact b h'
        · rw [a] at h; exact absurd h (by decide)
      · rcases hh with ⟨a, b⟩ | ⟨a, b⟩
        · rw [a] at h; exact absurd h (by decide)
        · exact b h'
    have esub : nI (fr_cn S (fr_b S)) - nI (fr_pn S (fr_b S)) = nI (fr_cn S (fr_b S) - fr_pn S (fr_b S)) := by
      refine pk_sub ?_
      rw [← q5]
      exact fr_cc_le _ _
    have hpc : fr_pn S (fr_b S) ≤ fr_cn S (fr_b S) := by rw [← q5]; exact fr_cc_le _ _
    rcases hn01 with e | e
    · refine br_t e (pk_eq (fr_pn S (fr_b S)) 3 (fun e4 => h0 (Or.inr (Or.inr (Or.inr (Or.inr (Or.inl ⟨e, e4⟩)))))) (fun e4 => h69 (hnf (Or.inl ⟨e, e4⟩))))
    · refine br_f (by rw [e]; decide) ?_
      rw [esub]
      exact pk_eq (fr_cn S (fr_b S) - fr_pn S (fr_b S)) 2 (fun e4 => h0 (Or.inr (Or.inr (Or.inr (Or.inr (Or.inr ⟨e, by omega⟩)))))) (fun e4 => h69 (hnf (Or.inr ⟨e, by omega⟩)))
theorem fr_ru1 (hS : fr_Sx S bd ds) (hb : fr_bd S = true) : nI (fr_ru S) - 1 = nI (fr_b S) := pk_sub (b := 1) (hS.1.2 hb)
theorem fr_y_condition {post : Int32 → SY → Prop} {k n : Int32} (hS : fr_Sx S bd ds) (hn01 : n = 0 ∨ n = 1)
    (h0 : fr_Cf S k n → post 0 (fr_mY S D hy bd ds hl vr))
    (h1 : ∀ po, ¬ fr_Cf S k n → fr_Cp S n po → post 1 (fr_mY (fr_S2 S k n po) D hy bd ds hl vr)) : wpY_condition post (fr_mY S D hy bd ds hl vr) k n := by
  cases hb : fr_bd S with
  | false =>
    exact nm_e (br_t (fr_bYf hb) (h0 (Or.inl hb)))
  | true =>
    have hru := hS.1.2 hb
    have h4 := hS.1.1
    have hbe : fr_b S = fr_ru S - 1 := rfl
    obtain ⟨hW, r1, ⟨r2, r3, r4⟩, _⟩ := hS.2.1 (fr_b S) (by omega)
    obtain ⟨⟨q1, q2, q3, q4, q5, q6⟩, qC⟩ := hW
    have hcl : (nI (fr_b S)).toNatClampNeg = fr_b S := nI_clamp (by omega)
    have hin : vp_in (nI (fr_b S)) 4 := vp_in_nI (by omega) (by omega)
    refine nm_r (fr_ru1 hS hb) (br_f (by rw [fr_bYt hb]; decide) (br_c (fun e1 => h0 (Or.inr (Or.inl e1))) (fun e1 => br_c (fun e2 => h0 (Or.inr (Or.inr (Or.inl e2)))) (fun e2 => ⟨hin, ?_⟩))))
    obtain ⟨j, hj, ek⟩ := nI_of2 (M := 3) (n := 3) (by decide) e1 (Int32.not_lt.mp e2)
    rw [hcl, r2]
    refine pk_le (fr_an S (fr_b S)) 0 (fun e3 => ?_) (fun e3 => h0 (Or.inr (Or.inr (Or.inr (Or.inl (by omega))))))
    have h70 : ¬ fr_Cf S k n → wY_condition_70 post k n (nI (fr_b S)) (nI (fr_ru S)) (fr_bY S) (nI (fr_md D)) (fr_pr D) hy (fr_sa S) (fr_co S) (fr_po S) (fr_ac S) bd (fr_cK S) (fr_cN S) (fr_cT S) (fr_tF S) (fr_tH S) (fr_tO S) ds (fr_aX S) (fr_aY S) (fr_aZ S) (fr_nu D) (fr_kd D) (fr_fd D) hl (fr_mk D) vr (fr_ou D) := by
      intro hno
      have hcn5 : fr_cn S (fr_b S) < 5 := by
        rcases hn01 with e | e
        · have : fr_pn S (fr_b S) ≠ 3 := fun e4 => hno (Or.inr (Or.inr (Or.inr (Or.inr (Or.inl ⟨e, e4⟩)))))
          omega
        · have : fr_cn S (fr_b S) ≠ fr_pn S (fr_b S) + 2 := fun e4 => hno (Or.inr (Or.inr (Or.inr (Or.inr (Or.inr ⟨e, e4⟩)))))
          omega
      have ec : 5 * nI (fr_b S) + fr_co S (fr_b S) = nI (fr_c0 S) := by rw [q1, fr_l5]; rfl
      have hc0 : fr_c0 S = 5 * fr_b S + fr_cn S (fr_b S) := rfl
      have hcin : vp_in (nI (fr_c0 S)) 20 := vp_in_nI (by omega) (by omega)
      have hccl : (nI (fr_c0 S)).toNatClampNeg = fr_c0 S := nI_clamp (by omega)
      have hnb : vp_nar .boolean n = n := by rcases hn01 with e | e <;> (rw [e]; rfl)
      have htn0 : fr_cT S (fr_c0 S) = 0 := hS.2.2.2.2.1 (fr_b S) (fr_cn S (fr_b S)) (by omega) hcn5 (Nat.le_refl _)
      unfold wY_condition_70
      rw [hcl]
      refine ⟨hin, hin, nm_r (e' := upd (fr_co S) (fr_b S) (nI (fr_cn S (fr_b S) + 1))) (by rw [q1, nI_1, fr_b88 (by omega)]) (nm_r ec ⟨hcin, nm_r (e' := upd (fr_cK S) (fr_c0 S) k) (by rw [hccl, ek, fr_b88 (by omega)]) ⟨hcin, nm_r (e' := upd (fr_cN S) (fr_c0 S) n) (by rw [hccl, hnb]) ⟨hcin, nm_r (e' := fr_cT S) (by rw [hccl, fr_b0]; exact fr_upd_id htn0) ?_⟩⟩⟩)⟩
      rcases hn01 with e | e
      · have hp3 : fr_pn S (fr_b S) ≠ 3 := fun e4 => hno (Or.inr (Or.inr (Or.inr (Or.inr (Or.inl ⟨e, e4⟩)))))
        refine br_t e ⟨hin, hin, nm_r (e' := upd (fr_po S) (fr_b S) (nI (fr_pn S (fr_b S) + 1))) (by rw [q3, nI_1, fr_b88 (by omega)]) ?_⟩
        exact h1 (upd (fr_po S) (fr_b S) (nI (fr_pn S (fr_b S) + 1))) hno (Or.inl ⟨e, hp3, rfl⟩)
      · have hp3 : fr_cn S (fr_b S) ≠ fr_pn S (fr_b S) + 2 := fun e4 => hno (Or.inr (Or.inr (Or.inr (Or.inr (Or.inr ⟨e, e4⟩)))))
        exact br_f (by rw [e]; decide) (h1 (fr_po S) hno (Or.inr ⟨e, hp3, rfl⟩))
    have hnf : (n = 0 ∧ fr_pn S (fr_b S) ≠ 3) ∨ (n = 1 ∧ fr_cn S (fr_b S) ≠ fr_pn S (fr_b S) + 2) → ¬ fr_Cf S k n := by
      rintro hh (h | h | h | h | ⟨h, h'⟩ | ⟨h, h'⟩)
      · rw [hb] at h; cases h
      · exact e1 h
      · exact e2 h
      · omega
      · rcases hh with ⟨a, b⟩ | ⟨a, b⟩
        · exact b h'
        · rw [a] at h; exact absurd h (by decide)
      · rcases hh with ⟨a, b⟩ | ⟨a, b⟩
        · rw [a] at h; exact absurd h (by decide)
        · exact b h'
    have hpc : fr_pn S (fr_b S) ≤ fr_cn S (fr_b S) := by rw [← q5]; exact fr_cc_le _ _
    have esub : fr_co S (fr_b S) - fr_po S (fr_b S) = nI (fr_cn S (fr_b S) - fr_pn S (fr_b S)) := by
      rw [q1, q3]
      exact pk_sub hpc
    rcases hn01 with e | e
    · refine br_t e ⟨hin, ?_⟩
      exact pk_eq (fr_pn S (fr_b S)) 3 (fun e4 => h0 (Or.inr (Or.inr (Or.inr (Or.inr (Or.inl ⟨e, e4⟩)))))) (fun e4 => h70 (hnf (Or.inl ⟨e, e4⟩))) q3
    · refine br_f (by rw [e]; decide) ⟨hin, hin, ?_⟩
      rw [esub]
      exact pk_eq (fr_cn S (fr_b S) - fr_pn S (fr_b S)) 2 (fun e4 => h0 (Or.inr (Or.inr (Or.inr (Or.inr (Or.inr ⟨e, by omega⟩)))))) (fun e4 => h70 (hnf (Or.inr ⟨e, by omega⟩)))
end
end
section
theorem fr_bit0 : ∀ b, b < 16 → ∀ x, x < 4 → (((nI b >>> (nI x &&& 31)) &&& 1) = 0 ↔ b.testBit x = false) := by decide +kernel
theorem fr_bit1 : ∀ b, b < 16 → ∀ x, x < 4 → (vp_nar .byte (nI b ||| ((1 : Int32) <<< (nI x &&& 31))).toInt8.toInt32 = nI (b ||| 2 ^ x) ∧ b ||| 2 ^ x < 16) := by
  intro b hb x hx
  rw [vp_nar_byte]
  revert b x
  decide +kernel
theorem fr_bit2 : ∀ b, b < 16 → ∀ x, x < 4 → ∀ y, y < 4 → ((b ||| 2 ^ x).testBit y = true ↔ (y = x ∨ b.testBit y = true)) := by decide +kernel
def fr_Kw (S : fr_SR) (v : Int32) : Prop := v &&& 1 = 0 ∨ ∃ x, x < 4 ∧ v >>> ((1 : Int32) &&& 31) = nI x ∧ ¬ fr_vL S (4 * fr_b S + x) < 0
def fr_c1 (S : fr_SR) : Nat := 5 * fr_b S + fr_cn S (fr_b S) - 1
def fr_t0 (S : fr_SR) : Nat := 4 * fr_c1 S + fr_tn S (fr_c1 S)
def fr_S3 (S : fr_SR) (f hw x : Int32) (vL vF : fr_FN) : fr_SR := (fr_ru S, fr_bd S, fr_sa S, fr_co S, fr_po S, upd (fr_te S) (fr_b S) (nI (fr_tc S (fr_b S) + 1)), fr_ac S, fr_cK S, upd (fr_cT S) (fr_c1 S) (nI (fr_tn S (fr_c1 S) + 1)), fr_cL S, fr_cN S, upd (fr_tF S) (fr_t0 S) f, upd (fr_tH S) (fr_t0 S) hw, upd (fr_tO S) (fr_t0 S) x, vL, vF, fr_aW S, fr_aK S, fr_aX S, fr_aY S, fr_aZ S)
def fr_Tp (S : fr_SR) (bd : fr_FN) (f hw x : Int32) (vL vF bd' : fr_FN) : Prop :=
  (hw = 3 ∧ fr_cN S (fr_c1 S) = 0 ∧ ∃ y bb, y < 4 ∧ x = nI y ∧ fr_vL S (4 * fr_b S + y) < 0 ∧ vL = upd (fr_vL S) (4 * fr_b S + y) (fr_cL S (fr_c1 S)) ∧ vF = upd (fr_vF S) (4 * fr_b S + y) f ∧ bb < 16 ∧ bd (fr_b S) = nI bb ∧ bd' = upd bd (fr_b S) (nI (bb ||| 2 ^ y))) ∨
  (hw ≠ 3 ∧ fr_Kw S x ∧ vL = fr_vL S ∧ vF = fr_vF S ∧ bd' = bd)
theorem fr_S3_Sx {S : fr_SR} {bd bd' ds vL vF : fr_FN} {f hw x : Int32} (h : fr_Sx S bd ds) (hb : fr_bd S = true) (ha : fr_an S (fr_b S) = 0) (hc : fr_cn S (fr_b S) ≠ 0) (ht : fr_tn S (fr_c1 S) ≠ 4)
    (hf : ∃ j, j < 3 ∧ f = nI j) (hh : ∃ j, j < 4 ∧ hw = nI j) (hT : fr_Tp S bd f hw x vL vF bd') :
    fr_Sx (fr_S3 S f hw x vL vF) bd' ds ∧ fr_R (fr_S3 S f hw x vL vF) = fr_R S ∧ ∀ r, r < fr_R S → fr_Ae S (fr_S3 S f hw x vL vF) r := by
  obtain ⟨⟨w1, w2⟩, w3, w4, w5⟩ := h
  have hru := w2 hb
  have hR : fr_R S = fr_b S := fr_bd_R hb
  have hR' : fr_R (fr_S3 S f hw x vL vF) = fr_R S := rfl
  have hbe : fr_b S = fr_ru S - 1 := rfl
  have hRw := w3 (fr_b S) (by omega)
  obtain ⟨hW, r1, ⟨r2, r3, r4⟩, r5, bb, r6, r7, r8⟩ := hRw
  have hW0 := hW
  obtain ⟨⟨q1, q2, q3, q4, q5, q6⟩, qC⟩ := hW
  have hc1 : fr_c1 S = 5 * fr_b S + fr_cn S (fr_b S) - 1 := rfl
  have ht0 : fr_t0 S = 4 * fr_c1 S + fr_tn S (fr_c1 S) := rfl
  have hWc := qC (fr_c1 S) (by omega) (by omega)
  have htn4 := hWc.2.1
  have hvL : ∀ j, (j < 4 * fr_b S ∨ 4 * fr_b S + 4 ≤ j) → vL j = fr_vL S j ∧ vF j = fr_vF S j := by
    intro j hj
    rcases hT with ⟨_, _, y, b2, y1, _, _, e1, e2, _⟩ | ⟨_, _, e1, e2, _⟩
    · rw [e1, e2, pk_un (by omega), pk_un (by omega)]; exact ⟨rfl, rfl⟩
    · rw [e1, e2]; exact ⟨rfl, rfl⟩
  have hbd : ∀ r, r ≠ fr_b S → bd' r = bd r := by
    intro r hr
    rcases hT with ⟨_, _, y, b2, _, _, _, _, _, _, _, e⟩ | ⟨_, _, _, _, e⟩
    · rw [e, pk_un hr]
    · rw [e]
  have hAe : ∀ r, r ≠ fr_b S → fr_Ae S (fr_S3 S f hw x vL vF) r := by
    intro r hr
    refine ⟨⟨rfl, rfl⟩, fun c c1 c2 => ⟨rfl, pk_un (by omega), rfl, rfl⟩, fun i i1 i2 => ?_, fun y hy => hvL _ (by omega)⟩
    have hi : i ≠ fr_t0 S := by omega
    exact ⟨pk_un hi, pk_un hi, pk_un hi⟩
  have etn : ∀ c, c ≠ fr_c1 S → fr_tn (fr_S3 S f hw x vL vF) c = fr_tn S c := by
    intro c hc
    show (upd (fr_cT S) (fr_c1 S) _ c).toNatClampNeg = _
    rw [pk_un hc]
    rfl
  have etn1 : fr_tn (fr_S3 S f hw x vL vF) (fr_c1 S) = fr_tn S (fr_c1 S) + 1 := by
    show (upd (fr_cT S) (fr_c1 S) _ (fr_c1 S)).toNatClampNeg = _
    rw [pk_us]
    exact nI_clamp (by omega)
  have etnle : ∀ c, fr_tn S c ≤ fr_tn (fr_S3 S f hw x vL vF) c := by
    intro c
    by_cases e : c = fr_c1 S
    · rw [e, etn1]; omega
    · rw [etn c e]; exact Nat.le_refl _
  have eH : ∀ i, i ≠ fr_t0 S → fr_tH (fr_S3 S f hw x vL vF) i = fr_tH S i ∧ fr_tO (fr_S3 S f hw x vL vF) i = fr_tO S i ∧ fr_tF (fr_S3 S f hw x vL vF) i = fr_tF S i := fun i hi => ⟨pk_un hi, pk_un hi, pk_un hi⟩
  have eH0 : fr_tH (fr_S3 S f hw x vL vF) (fr_t0 S) = hw ∧ fr_tO (fr_S3 S f hw x vL vF) (fr_t0 S) = x ∧ fr_tF (fr_S3 S f hw x vL vF) (fr_t0 S) = f := ⟨pk_us, pk_us, pk_us⟩
  -- a test of an old condition isn't the new one
  have hold : ∀ c i, 5 * fr_b S ≤ c → c < 5 * fr_b S + fr_cn S (fr_b S) → 4 * c ≤ i → i < 4 * c + fr_tn S c → i ≠ fr_t0 S ∧ i < fr_t0 S := by
    intro c i c1 c2 i1 i2
    have h1 := (qC c c1 c2).2.1
    by_cases e : c = fr_c1 S
    · rw [e] at i2; omega
    · omega
  have hBd : ∀ c i y, c < 5 * fr_b S + fr_cn S (fr_b S) → fr_Bd S (fr_b S) c i y → fr_Bd (fr_S3 S f hw x vL vF) (fr_b S) c i y := by
    intro c i y hcc hbd
    obtain ⟨c', i', b1, b2, b3, b4, b5, b6, b7⟩ := hbd
    have h1 := hold c' i' b1 (by omega) b3 b4
    obtain ⟨e1, e2, _⟩ := eH i' h1.1
    have := etnle c'
    exact ⟨c', i', b1, b2, b3, by omega, b5, by rw [e1]; exact b6, by rw [e2]; exact b7⟩
  have ecn : fr_cn (fr_S3 S f hw x vL vF) (fr_b S) = fr_cn S (fr_b S) := rfl
  refine ⟨⟨⟨w1, w2⟩, ?_, ?_, ?_⟩, hR', by rw [hR]; exact fun r hr => hAe r (by omega)⟩
  · intro r hr
    have hr' : r < fr_ru S := hr
    by_cases e : r = fr_b S
    · subst e
      refine ⟨⟨⟨q1, q2, q3, q4, q5, q6⟩, ?_⟩, ?_, ⟨r2, r3, ?_⟩, ?_, ?_⟩
      · intro c c1 c2
        have c2' : c < 5 * fr_b S + fr_cn S (fr_b S) := c2
        obtain ⟨a1, a2, a3, a4, a5⟩ := qC c c1 c2'
        have hWT : ∀ i, 4 * c ≤ i → i < 4 * c + fr_tn S c → fr_WT (fr_S3 S f hw x vL vF) (fr_b S) c i := by
          intro i i1 i2
          obtain ⟨⟨fl, k, k1, k2, k3, k4⟩, t3, tn⟩ := a5 i i1 i2
          obtain ⟨e1, e2, e3⟩ := eH i (hold c i c1 c2' i1 i2).1
          refine ⟨⟨fl, k, by rw [e3]; exact k1, k2, by rw [e1]; exact k3, k4⟩, ?_, ?_⟩
          · intro ee
            rw [e1] at ee
            obtain ⟨n0, y, y1, y2, y3, y4⟩ := t3 ee
            have hv : vL (4 * fr_b S + y) = fr_vL S (4 * fr_b S + y) ∧ vF (4 * fr_b S + y) = fr_vF S (4 * fr_b S + y) := by
              rcases hT with ⟨_, _, y', b2, z1, _, z3, f1, f2, _⟩ | ⟨_, _, f1, f2, _⟩
              · have hne : y ≠ y' := by
                  rintro rfl
                  rw [y3, a4] at z3
                  have hm := fr_pc_mono (S := S) (r := fr_b S) (a := c - 5 * fr_b S) (b := fr_cn S (fr_b S)) (by omega)
                  exact nI_pos (by omega) z3
                rw [f1, f2, pk_un (by omega), pk_un (by omega)]
                exact ⟨rfl, rfl⟩
              · rw [f1, f2]; exact ⟨rfl, rfl⟩
            exact ⟨n0, y, y1, by rw [e2]; exact y2, hv.1.trans y3, by rw [e3]; exact hv.2.trans y4⟩
          · intro ee1 ee2
            rw [e1] at ee1
            rw [e2] at ee2
            obtain ⟨y, y1, y2, y3⟩ := tn ee1 ee2
            exact ⟨y, y1, by rw [e2]; exact y2, hBd c i y c2' y3⟩
        by_cases ec : c = fr_c1 S
        · subst ec
          refine ⟨by rw [etn1]; exact pk_us, by rw [etn1]; omega, a3, a4, fun i i1 i2 => ?_⟩
          rw [etn1] at i2
          by_cases ei : i = fr_t0 S
          · subst ei
            obtain ⟨e1, e2, e3⟩ := eH0
            obtain ⟨j, j1, j2⟩ := hf
            obtain ⟨k, k1, k2⟩ := hh
            refine ⟨⟨j, k, by rw [e3]; exact j2, j1, by rw [e1]; exact k2, k1⟩, ?_, ?_⟩
            · intro ee
              rw [e1] at ee
              rcases hT with ⟨_, z0, y', b2, z1, z2, z3, f1, f2, _⟩ | ⟨hne, _⟩
              · refine ⟨z0, y', z1, by rw [e2]; exact z2, ?_, ?_⟩
                · show vL _ = _
                  rw [f1, pk_us]
                  rfl
                · rw [e3]
                  show vF _ = f
                  rw [f2, pk_us]
              · exact absurd ee hne
            · intro ee1 ee2
              rw [e1] at ee1
              rw [e2] at ee2 ⊢
              rcases hT with ⟨h3, _⟩ | ⟨_, hk, _⟩
              · exact absurd h3 ee1
              · rcases hk with hk | ⟨y, y1, y2, y3⟩
                · exact absurd hk ee2
                · refine ⟨y, y1, y2, ?_⟩
                  rcases r5 y y1 with e4 | ⟨c', i', b1, b2, b3, b4, b5, b6⟩
                  · rw [e4] at y3; exact absurd (by decide) y3
                  · have h1 := hold c' i' b1 b2 b3 b4
                    obtain ⟨g1, g2, _⟩ := eH i' h1.1
                    have := etnle c'
                    exact ⟨c', i', b1, by omega, b3, by omega, h1.2, by rw [g1]; exact b5, by rw [g2]; exact b6⟩
          · exact hWT i i1 (by omega)
        · refine ⟨?_, by rw [etn c ec]; exact a2, a3, a4, fun i i1 i2 => hWT i i1 (by rw [etn c ec] at i2; exact i2)⟩
          rw [etn c ec]
          show upd (fr_cT S) (fr_c1 S) _ c = _
          rw [pk_un ec]
          exact a1
      · have : fr_tc (fr_S3 S f hw x vL vF) (fr_b S) = fr_tc S (fr_b S) + 1 := by
          unfold fr_tc
          rw [ecn]
          obtain ⟨m, hm⟩ : ∃ m, fr_cn S (fr_b S) = m + 1 := ⟨fr_cn S (fr_b S) - 1, by omega⟩
          have hcm : 5 * fr_b S + m = fr_c1 S := by omega
          rw [hm, fr_su_add, fr_su_add, hcm]
          have g1 := fr_su_congr (f := fr_tn (fr_S3 S f hw x vL vF)) (g := fr_tn S) m (5 * fr_b S) (fun j h1 h2 => etn j (by omega))
          rw [g1]
          show _ + (fr_tn (fr_S3 S f hw x vL vF) (fr_c1 S) + 0) = _ + (fr_tn S (fr_c1 S) + 0) + 1
          rw [etn1]
          omega
        rw [this]
        exact pk_us
      · intro a a1 a2
        have : fr_an (fr_S3 S f hw x vL vF) (fr_b S) = 0 := ha
        omega
      · intro y hy
        rcases hT with ⟨h3, _, y', b2, z1, z2, z3, f1, f2, _⟩ | ⟨_, _, f1, _⟩
        · by_cases ey : y = y'
          · right
            subst ey
            refine ⟨fr_c1 S, fr_t0 S, by omega, by rw [ecn]; omega, by omega, by rw [etn1]; omega, by rw [eH0.1]; exact h3, by rw [eH0.2.1]; exact z2⟩
          · rcases r5 y hy with e4 | ⟨c', i', b1, b2', b3, b4, b5, b6⟩
            · left
              show vL _ = _
              rw [f1, pk_un (by omega)]
              exact e4
            · right
              have h1 := hold c' i' b1 b2' b3 b4
              obtain ⟨g1, g2, _⟩ := eH i' h1.1
              have := etnle c'
              exact ⟨c', i', b1, b2', b3, by omega, by rw [g1]; exact b5, by rw [g2]; exact b6⟩
        · rcases r5 y hy with e4 | ⟨c', i', b1, b2', b3, b4, b5, b6⟩
          · left
            show vL _ = _
            rw [f1]
            exact e4
          · right
            have h1 := hold c' i' b1 b2' b3 b4
            obtain ⟨g1, g2, _⟩ := eH i' h1.1
            have := etnle c'
            exact ⟨c', i', b1, b2', b3, by omega, by rw [g1]; exact b5, by rw [g2]; exact b6⟩
      · rcases hT with ⟨_, _, y', b2, z1, z2, z3, f1, f2, z4, z5, z6⟩ | ⟨_, _, f1, _, z6⟩
        · have hbb : b2 = bb := by
            rw [z5] at r7
            exact (nI_eq (by omega) (by omega)).mp r7
          subst hbb
          refine ⟨b2 ||| 2 ^ y', (fr_bit1 b2 r6 y' z1).2, by rw [z6, pk_us], fun y hy => ?_⟩
          rw [fr_bit2 b2 r6 y' z1 y hy]
          show _ ↔ ¬ vL (4 * fr_b S + y) < 0
          rw [f1]
          by_cases ey : y = y'
          · rw [ey, pk_us, hWc.2.2.2.1]
            have hm := fr_pc_mono (S := S) (r := fr_b S) (a := fr_c1 S - 5 * fr_b S) (b := fr_cn S (fr_b S)) (by omega)
            exact ⟨fun _ => nI_pos (by omega), fun _ => Or.inl rfl⟩
          · rw [pk_un (by omega), ← r8 y hy]
            exact ⟨fun h => by rcases h with h | h; exact absurd h ey; exact h, fun h => Or.inr h⟩
        · refine ⟨bb, r6, by rw [z6]; exact r7, fun y hy => ?_⟩
          show _ ↔ ¬ vL (4 * fr_b S + y) < 0
          rw [f1]
          exact r8 y hy
    · refine fr_Af_Rw (S := S) (bd := bd) (ds := ds) ⟨hAe r e, pk_un e, rfl, hbd r e, fun _ _ _ => ⟨rfl, rfl, rfl, rfl, rfl, rfl⟩⟩ (w3 r (by omega))
  · intro r hr
    exact w4 r (by rw [hR'] at hr; exact hr)
  · refine ⟨fun r h1 h2 => ?_, fun r j h1 h2 h3 => ?_, w5.2.2⟩
    · have h1' : fr_ru S ≤ r := h1
      obtain ⟨z1, z2, z3, z4⟩ := w5.1 r h1' h2
      refine ⟨z1, z2, z3, ?_⟩
      show upd (fr_te S) (fr_b S) _ r = 0
      rw [pk_un (by omega)]
      exact z4
    · have h3' : fr_cn S r ≤ j := h3
      show upd (fr_cT S) (fr_c1 S) _ (5 * r + j) = 0
      rw [pk_un]
      · exact w5.2.1 r j h1 h2 h3'
      · intro e
        by_cases er : r = fr_b S
        · rw [er] at e h3'; omega
        · omega
section
variable {S : fr_SR} {D : fr_DR} {hx hy : Int32} {o : fr_FN} {q : fr_QR} {z : fr_ZR} {bd ds hl vr : fr_FN}
theorem fr_x_known {post : Int32 → Prop} {v : Int32} (hS : fr_Sx S bd ds) (hb : fr_bd S = true) (h1 : fr_Kw S v → post 1) (h0 : ¬ fr_Kw S v → post 0) : wpX_known post (fr_mX S D hx o q z) v := by
  have hru := hS.1.2 hb
  have h4 := hS.1.1
  have hbe : fr_b S = fr_ru S - 1 := rfl
  refine nm_e (br_c (fun e => h1 (Or.inl e)) (fun e => br_c (fun e1 => h0 ?_) (fun e1 => ?_)))
  · rintro (h | ⟨x, x1, x2, _⟩)
    · exact e h
    · rw [x2] at e1; exact nI_pos (by omega) e1
  · obtain ⟨x, hx', ex⟩ := nI_of e1
    rw [ex]
    refine pk_le 4 x (fun e2 => h0 ?_) (fun e2 => ?_)
    · rintro (h | ⟨y, y1, y2, _⟩)
      · exact e h
      · rw [ex, nI_eq (by omega) (by omega)] at y2; omega
    · rw [fr_bXt hb, fr_m4]
      refine ⟨vp_in_nI (by omega) (by omega), ?_⟩
      rw [nI_clamp (by omega)]
      refine br_c (fun e3 => h0 ?_) (fun e3 => h1 (Or.inr ⟨x, e2, ex, e3⟩))
      rintro (h | ⟨y, y1, y2, y3⟩)
      · exact e h
      · rw [ex, nI_eq (by omega) (by omega)] at y2
        rw [← y2] at y3
        exact y3 e3
theorem fr_y_known {post : Int32 → Prop} {v : Int32} (hS : fr_Sx S bd ds) (hb : fr_bd S = true) (h1 : fr_Kw S v → post 1) (h0 : ¬ fr_Kw S v → post 0) : wpY_known post (fr_mY S D hy bd ds hl vr) v := by
  have hru := hS.1.2 hb
  have h4 := hS.1.1
  have hbe : fr_b S = fr_ru S - 1 := rfl
  obtain ⟨_, _, _, _, bb, r6, r7, r8⟩ := hS.2.1 (fr_b S) (by omega)
  refine nm_e (br_c (fun e => h1 (Or.inl e)) (fun e => br_c (fun e1 => h0 ?_) (fun e1 => ?_)))
  · rintro (h | ⟨x, x1, x2, _⟩)
    · exact e h
    · rw [x2] at e1; exact nI_pos (by omega) e1
  · obtain ⟨x, hx', ex⟩ := nI_of e1
    rw [ex]
    refine pk_lt 3 x (fun e2 => h0 ?_) (fun e2 => ?_)
    · rintro (h | ⟨y, y1, y2, _⟩)
      · exact e h
      · rw [ex, nI_eq (by omega) (by omega)] at y2; omega
    · rw [fr_ru1 hS hb]
      refine ⟨vp_in_nI (by omega) (by omega), ?_⟩
      rw [nI_clamp (by omega), r7]
      refine br_c (fun e3 => h0 ?_) (fun e3 => h1 (Or.inr ⟨x, by omega, ex, ?_⟩))
      · rw [fr_bit0 bb r6 x (by omega)] at e3
        rintro (h | ⟨y, y1, y2, y3⟩)
        · exact e h
        · rw [ex, nI_eq (by omega) (by omega)] at y2
          rw [← y2, ← r8 x (by omega), e3] at y3
          cases y3
      · rw [fr_bit0 bb r6 x (by omega)] at e3
        exact (r8 x (by omega)).mp (by cases h : bb.testBit x with | true => rfl | false => exact absurd h e3)
end
end
section
section
variable {S : fr_SR} {D : fr_DR} {hx hy : Int32} {o : fr_FN} {q : fr_QR} {z : fr_ZR} {bd ds hl vr : fr_FN}
def fr_Tf (S : fr_SR) (f hw x : Int32) : Prop :=
  fr_bd S = false ∨ fr_cn S (fr_b S) = 0 ∨ fr_an S (fr_b S) ≠ 0 ∨ (f < 0 ∨ 2 < f) ∨ (hw < 0 ∨ 3 < hw) ∨ fr_tn S (fr_c1 S) = 4 ∨
  (hw = 3 ∧ ¬ (fr_cN S (fr_c1 S) = 0 ∧ ∃ y, y < 4 ∧ x = nI y ∧ fr_vL S (4 * fr_b S + y) < 0)) ∨ (hw ≠ 3 ∧ ¬ fr_Kw S x)
def fr_Tv (S : fr_SR) (f hw x : Int32) (vL vF : fr_FN) : Prop :=
  (hw = 3 ∧ fr_cN S (fr_c1 S) = 0 ∧ ∃ y, y < 4 ∧ x = nI y ∧ fr_vL S (4 * fr_b S + y) < 0 ∧ vL = upd (fr_vL S) (4 * fr_b S + y) (fr_cL S (fr_c1 S)) ∧ vF = upd (fr_vF S) (4 * fr_b S + y) f) ∨
  (hw ≠ 3 ∧ fr_Kw S x ∧ vL = fr_vL S ∧ vF = fr_vF S)
theorem fr_x_test {post : Int32 → SX → Prop} {f hw x : Int32} (hS : fr_Sx S bd ds)
    (h0 : fr_Tf S f hw x → post 0 (fr_mX S D hx o q z))
    (h1 : ∀ vL vF, ¬ fr_Tf S f hw x → fr_Tv S f hw x vL vF → post 1 (fr_mX (fr_S3 S f hw x vL vF) D hx o q z)) : wpX_test post (fr_mX S D hx o q z) f hw x := by
  cases hb : fr_bd S with
  | false => exact br_t (by rw [fr_bXf hb]; decide) (h0 (Or.inl hb))
  | true =>
    have hru := hS.1.2 hb
    have h4 := hS.1.1
    have hbe : fr_b S = fr_ru S - 1 := rfl
    have hc1 : fr_c1 S = 5 * fr_b S + fr_cn S (fr_b S) - 1 := rfl
    have ht0 : fr_t0 S = 4 * fr_c1 S + fr_tn S (fr_c1 S) := rfl
    obtain ⟨hW, r1, ⟨r2, r3, r4⟩, _⟩ := hS.2.1 (fr_b S) (by omega)
    have htc := fr_tc_lt hW
    obtain ⟨⟨q1, q2, q3, q4, q5, q6⟩, qC⟩ := hW
    have hcl : (fr_bX S).toNatClampNeg = fr_b S := by rw [fr_bXt hb]; exact nI_clamp (by omega)
    have hin : vp_in (fr_bX S) 4 := by rw [fr_bXt hb]; exact vp_in_nI (by omega) (by omega)
    refine br_f (by rw [fr_bXt hb]; exact nI_pos (by omega)) ⟨hin, ?_⟩
    rw [hcl, q1, r2]
    refine pk_eq (fr_cn S (fr_b S)) 0 (fun e1 => h0 (Or.inr (Or.inl e1))) (fun e1 => ⟨hin, ?_⟩)
    refine pk_lt 0 (fr_an S (fr_b S)) (fun e2 => h0 (Or.inr (Or.inr (Or.inl (by omega))))) (fun e2 => ?_)
    refine br_c (fun e3 => h0 (Or.inr (Or.inr (Or.inr (Or.inl (Or.inl e3)))))) (fun e3 => br_c (fun e4 => h0 (Or.inr (Or.inr (Or.inr (Or.inl (Or.inr e4)))))) (fun e4 => ?_))
    refine br_c (fun e5 => h0 (Or.inr (Or.inr (Or.inr (Or.inr (Or.inl (Or.inl e5))))))) (fun e5 => br_c (fun e6 => ⟨hin, ?_⟩) (fun e6 => h0 (Or.inr (Or.inr (Or.inr (Or.inr (Or.inl (Or.inr (Int32.not_le.mp e6)))))))))
    obtain ⟨fj, hfj, ef⟩ := nI_of2 (M := 2) (n := 2) (by decide) e3 (Int32.not_lt.mp e4)
    obtain ⟨hj, hhj, eh⟩ := nI_of2 (M := 3) (n := 3) (by decide) e5 e6
    have hWc := qC (fr_c1 S) (by omega) (by omega)
    have htn4 := hWc.2.1
    have ec : fr_bX S * 5 + nI (fr_cn S (fr_b S)) - 1 = nI (fr_c1 S) := by
      rw [fr_bXt hb, fr_m5]
      exact pk_sub (b := 1) (by omega)
    have hcin : vp_in (nI (fr_c1 S)) 20 := vp_in_nI (by omega) (by omega)
    have hccl : (nI (fr_c1 S)).toNatClampNeg = fr_c1 S := nI_clamp (by omega)
    refine nm_r ec ⟨hcin, ?_⟩
    rw [hccl, hWc.1]
    refine pk_eq (fr_tn S (fr_c1 S)) 4 (fun e7 => h0 (Or.inr (Or.inr (Or.inr (Or.inr (Or.inr (Or.inl e7))))))) (fun e7 => ?_)
    have h161 : ∀ vL vF, ¬ fr_Tf S f hw x → fr_Tv S f hw x vL vF → wX_test_161 post f hw x (fr_bX S) (nI (fr_c1 S)) (nI (fr_ru S)) (fr_bX S) (nI (fr_lv D).length) (nI (fr_md D)) (fr_fr q) (fr_pk q) (fr_pr D) hx (fr_sa S) (fr_co S) (fr_po S) (fr_te S) (fr_ac S) (fr_cK S) (fr_cT S) (fr_cL S) (fr_cN S) (fr_tF S) (fr_tH S) (fr_tO S) vL vF (fr_aW S) (fr_aK S) (fr_aX S) (fr_aY S) (fr_aZ S) (fr_nu D) (fr_fd D) (fr_kd D) o (fr_pa q) (fr_ch q) (fr_nx q) (fr_fa q) (fr_st q) (fr_rt q) (fr_zs z) (fr_zg z) (fr_zb z) (fr_zm z) (fr_zo z) (fr_zn z) (fr_zf z) (fr_ou D) := by
      intro vL vF hno hT
      have et : nI (fr_c1 S) * 4 + fr_cT S (fr_c1 S) = nI (fr_t0 S) := by rw [hWc.1, fr_m4]; rfl
      have htin : vp_in (nI (fr_t0 S)) 80 := vp_in_nI (by omega) (by omega)
      have htcl : (nI (fr_t0 S)).toNatClampNeg = fr_t0 S := nI_clamp (by omega)
      unfold wX_test_161
      rw [hccl, hcl]
      refine ⟨hcin, hcin, nm_r (e' := upd (fr_cT S) (fr_c1 S) (nI (fr_tn S (fr_c1 S) + 1))) (by rw [hWc.1, nI_1, fr_b88 (by omega)]) (nm_r et ⟨htin, nm_r (e' := upd (fr_tF S) (fr_t0 S) f) (by rw [htcl, ef, fr_b88 (by omega)]) ⟨htin, nm_r (e' := upd (fr_tH S) (fr_t0 S) hw) (by rw [htcl, eh, fr_b88 (by omega)]) ⟨htin, nm_r (e' := upd (fr_tO S) (fr_t0 S) x) (by rw [htcl]) ⟨hin, hin, nm_r (e' := upd (fr_te S) (fr_b S) (nI (fr_tc S (fr_b S) + 1))) (by rw [r1, nI_1, fr_b88 (by omega)]) (h1 vL vF hno hT)⟩⟩⟩⟩)⟩
    have hbase : ∀ P : Prop, fr_Tf S f hw x → (fr_bd S = false ∨ fr_cn S (fr_b S) = 0 ∨ fr_an S (fr_b S) ≠ 0 ∨ (f < 0 ∨ 2 < f) ∨ (hw < 0 ∨ 3 < hw) ∨ fr_tn S (fr_c1 S) = 4 → P) → ((hw = 3 ∧ ¬ (fr_cN S (fr_c1 S) = 0 ∧ ∃ y, y < 4 ∧ x = nI y ∧ fr_vL S (4 * fr_b S + y) < 0)) → P) → ((hw ≠ 3 ∧ ¬ fr_Kw S x) → P) → P := by
      rintro P (h | h | h | h | h | h | h | h) a b c
      · exact a (Or.inl h)
      · exact a (Or.inr (Or.inl h))
      · exact a (Or.inr (Or.inr (Or.inl h)))
      · exact a (Or.inr (Or.inr (Or.inr (Or.inl h))))
      · exact a (Or.inr (Or.inr (Or.inr (Or.inr (Or.inl h)))))
      · exact a (Or.inr (Or.inr (Or.inr (Or.inr (Or.inr h)))))
      · exact b h
      · exact c h
    have hgood : ¬ (fr_bd S = false ∨ fr_cn S (fr_b S) = 0 ∨ fr_an S (fr_b S) ≠ 0 ∨ (f < 0 ∨ 2 < f) ∨ (hw < 0 ∨ 3 < hw) ∨ fr_tn S (fr_c1 S) = 4) := by
      rintro (h | h | h | h | h | h)
      · rw [hb] at h; cases h
      · exact e1 h
      · omega
      · rcases h with h | h
        · exact e3 h
        · exact e4 h
      · rcases h with h | h
        · exact e5 h
        · exact absurd e6 (Int32.not_le.mpr h)
      · exact e7 h
    by_cases h3 : hw = 3
    · have h3' : (3 : Int32) ≤ hw := by rw [h3]; decide
      have hfail : ¬ (fr_cN S (fr_c1 S) = 0 ∧ ∃ y, y < 4 ∧ x = nI y ∧ fr_vL S (4 * fr_b S + y) < 0) → post 0 (fr_mX S D hx o q z) := fun hno => h0 (Or.inr (Or.inr (Or.inr (Or.inr (Or.inr (Or.inr (Or.inl ⟨h3, hno⟩)))))))
      refine br_t h3' ⟨hcin, br_c (fun e8 => ?_) (fun e8 => hfail (fun h => e8 h.1))⟩
      refine br_c (fun e9 => hfail ?_) (fun e9 => br_c (fun e10 => hfail ?_) (fun e10 => ?_))
      · rintro ⟨_, y, y1, y2, _⟩
        rw [y2] at e9
        exact nI_pos (by omega) e9
      · rintro ⟨_, y, y1, y2, _⟩
        rw [y2] at e10
        exact nI_nlt (b := y) (a := 3) (by omega) (by omega) e10
      · obtain ⟨y, hy', ey⟩ := nI_of2 (M := 3) (n := 3) (by decide) e9 (Int32.not_lt.mp e10)
        have ev : fr_bX S * 4 + x = nI (4 * fr_b S + y) := by rw [fr_bXt hb, ey, fr_m4]
        have hvin : vp_in (nI (4 * fr_b S + y)) 16 := vp_in_nI (by omega) (by omega)
        have hvcl : (nI (4 * fr_b S + y)).toNatClampNeg = 4 * fr_b S + y := nI_clamp (by omega)
        rw [ev]
        refine ⟨hvin, ?_⟩
        rw [hvcl]
        refine br_c (fun e11 => ⟨hcin, hvin, ?_⟩) (fun e11 => hfail ?_)
        · have hm := fr_pc_mono (S := S) (r := fr_b S) (a := fr_c1 S - 5 * fr_b S) (b := fr_cn S (fr_b S)) (by omega)
          refine nm_r (e' := upd (fr_vL S) (4 * fr_b S + y) (fr_cL S (fr_c1 S))) (by rw [hWc.2.2.2.1, fr_b8 (by omega)]) ⟨hvin, nm_r (e' := upd (fr_vF S) (4 * fr_b S + y) f) (by rw [ef, fr_b88 (by omega)]) ?_⟩
          refine h161 _ _ ?_ (Or.inl ⟨h3, e8, y, by omega, ey, e11, rfl, rfl⟩)
          intro hT
          exact hbase False hT hgood (fun h => h.2 ⟨e8, y, by omega, ey, e11⟩) (fun h => h.1 h3)
        · rintro ⟨_, y', y1, y2, y3⟩
          rw [ey, nI_eq (by omega) (by omega)] at y2
          rw [← y2] at y3
          exact e11 y3
    · have h3' : ¬ (3 : Int32) ≤ hw := by
        rw [eh]
        intro h
        have h5 := (nI_leI (a := 3) (b := hj) (by omega) (by omega)).mp h
        exact h3 (by rw [eh, show hj = 3 by omega]; rfl)
      refine br_f h3' (fr_x_known hS hb (fun hk => ?_) (fun hk => ?_))
      · refine br_f (by decide) (h161 _ _ ?_ (Or.inr ⟨h3, hk, rfl, rfl⟩))
        intro hT
        exact hbase False hT hgood (fun h => h3 h.1) (fun h => h.2 hk)
      · exact br_t rfl (h0 (Or.inr (Or.inr (Or.inr (Or.inr (Or.inr (Or.inr (Or.inr ⟨h3, hk⟩))))))))
theorem fr_y_test {post : Int32 → SY → Prop} {f hw x : Int32} (hS : fr_Sx S bd ds)
    (h0 : fr_Tf S f hw x → post 0 (fr_mY S D hy bd ds hl vr))
    (h1 : ∀ vL vF bd', ¬ fr_Tf S f hw x → fr_Tp S bd f hw x vL vF bd' → post 1 (fr_mY (fr_S3 S f hw x vL vF) D hy bd' ds hl vr)) : wpY_test post (fr_mY S D hy bd ds hl vr) f hw x := by
  cases hb : fr_bd S with
  | false => exact nm_e (br_t (fr_bYf hb) (h0 (Or.inl hb)))
  | true =>
    have hru := hS.1.2 hb
    have h4 := hS.1.1
    have hbe : fr_b S = fr_ru S - 1 := rfl
    have hc1 : fr_c1 S = 5 * fr_b S + fr_cn S (fr_b S) - 1 := rfl
    have ht0 : fr_t0 S = 4 * fr_c1 S + fr_tn S (fr_c1 S) := rfl
    obtain ⟨hW, r1, ⟨r2, r3, r4⟩, _, bb, r6, r7, r8⟩ := hS.2.1 (fr_b S) (by omega)
    obtain ⟨⟨q1, q2, q3, q4, q5, q6⟩, qC⟩ := hW
    have hcl : (nI (fr_b S)).toNatClampNeg = fr_b S := nI_clamp (by omega)
    have hin : vp_in (nI (fr_b S)) 4 := vp_in_nI (by omega) (by omega)
    refine nm_r (fr_ru1 hS hb) (br_f (by rw [fr_bYt hb]; decide) ⟨hin, ?_⟩)
    rw [hcl, q1, r2]
    refine pk_eq (fr_cn S (fr_b S)) 0 (fun e1 => h0 (Or.inr (Or.inl e1))) (fun e1 => ⟨hin, ?_⟩)
    refine pk_le (fr_an S (fr_b S)) 0 (fun e2 => ⟨hin, ?_⟩) (fun e2 => h0 (Or.inr (Or.inr (Or.inl (by omega)))))
    have hWc := qC (fr_c1 S) (by omega) (by omega)
    have htn4 := hWc.2.1
    have ec : 5 * nI (fr_b S) + nI (fr_cn S (fr_b S)) - 1 = nI (fr_c1 S) := by
      rw [fr_l5]
      exact pk_sub (b := 1) (by omega)
    have hcin : vp_in (nI (fr_c1 S)) 20 := vp_in_nI (by omega) (by omega)
    have hccl : (nI (fr_c1 S)).toNatClampNeg = fr_c1 S := nI_clamp (by omega)
    refine nm_r ec ⟨hcin, ?_⟩
    rw [hccl, hWc.1]
    refine pk_eq (fr_tn S (fr_c1 S)) 4 (fun e7 => h0 (Or.inr (Or.inr (Or.inr (Or.inr (Or.inr (Or.inl e7))))))) (fun e7 => ?_)
    refine br_c (fun e3 => h0 (Or.inr (Or.inr (Or.inr (Or.inl (Or.inl e3)))))) (fun e3 => br_c (fun e4 => h0 (Or.inr (Or.inr (Or.inr (Or.inl (Or.inr e4)))))) (fun e4 => ?_))
    refine br_c (fun e5 => h0 (Or.inr (Or.inr (Or.inr (Or.inr (Or.inl (Or.inl e5))))))) (fun e5 => br_c (fun e6 => ?_) (fun e6 => h0 (Or.inr (Or.inr (Or.inr (Or.inr (Or.inl (Or.inr (Int32.not_le.mp e6)))))))))
    obtain ⟨fj, hfj, ef⟩ := nI_of2 (M := 2) (n := 2) (by decide) e3 (Int32.not_lt.mp e4)
    obtain ⟨hj, hhj, eh⟩ := nI_of2 (M := 3) (n := 3) (by decide) e5 e6
    have h151 : ∀ vL vF bd', ¬ fr_Tf S f hw x → fr_Tp S bd f hw x vL vF bd' → wY_test_151 post f hw x (nI (fr_c1 S)) (nI (fr_ru S)) (fr_bY S) (nI (fr_md D)) (fr_pr D) hy (fr_sa S) (fr_co S) (fr_po S) (fr_ac S) bd' (fr_cK S) (fr_cN S) (fr_cT S) (fr_tF S) (fr_tH S) (fr_tO S) ds (fr_aX S) (fr_aY S) (fr_aZ S) (fr_nu D) (fr_kd D) (fr_fd D) hl (fr_mk D) vr (fr_ou D) := by
      intro vL vF bd' hno hT
      have et : 4 * nI (fr_c1 S) + fr_cT S (fr_c1 S) = nI (fr_t0 S) := by rw [hWc.1, fr_l4]; rfl
      have htin : vp_in (nI (fr_t0 S)) 80 := vp_in_nI (by omega) (by omega)
      have htcl : (nI (fr_t0 S)).toNatClampNeg = fr_t0 S := nI_clamp (by omega)
      unfold wY_test_151
      rw [hccl]
      refine ⟨hcin, hcin, nm_r (e' := upd (fr_cT S) (fr_c1 S) (nI (fr_tn S (fr_c1 S) + 1))) (by rw [hWc.1, nI_1, fr_b88 (by omega)]) (nm_r et ⟨htin, nm_r (e' := upd (fr_tF S) (fr_t0 S) f) (by rw [htcl, ef, fr_b88 (by omega)]) ⟨htin, nm_r (e' := upd (fr_tH S) (fr_t0 S) hw) (by rw [htcl, eh, fr_b88 (by omega)]) ⟨htin, nm_r (e' := upd (fr_tO S) (fr_t0 S) x) (by rw [htcl]) (h1 vL vF bd' hno hT)⟩⟩⟩)⟩
    have hbase : ∀ P : Prop, fr_Tf S f hw x → (fr_bd S = false ∨ fr_cn S (fr_b S) = 0 ∨ fr_an S (fr_b S) ≠ 0 ∨ (f < 0 ∨ 2 < f) ∨ (hw < 0 ∨ 3 < hw) ∨ fr_tn S (fr_c1 S) = 4 → P) → ((hw = 3 ∧ ¬ (fr_cN S (fr_c1 S) = 0 ∧ ∃ y, y < 4 ∧ x = nI y ∧ fr_vL S (4 * fr_b S + y) < 0)) → P) → ((hw ≠ 3 ∧ ¬ fr_Kw S x) → P) → P := by
      rintro P (h | h | h | h | h | h | h | h) a b c
      · exact a (Or.inl h)
      · exact a (Or.inr (Or.inl h))
      · exact a (Or.inr (Or.inr (Or.inl h)))
      · exact a (Or.inr (Or.inr (Or.inr (Or.inl h))))
      · exact a (Or.inr (Or.inr (Or.inr (Or.inr (Or.inl h)))))
      · exact a (Or.inr (Or.inr (Or.inr (Or.inr (Or.inr h)))))
      · exact b h
      · exact c h
    have hgood : ¬ (fr_bd S = false ∨ fr_cn S (fr_b S) = 0 ∨ fr_an S (fr_b S) ≠ 0 ∨ (f < 0 ∨ 2 < f) ∨ (hw < 0 ∨ 3 < hw) ∨ fr_tn S (fr_c1 S) = 4) := by
      rintro (h | h | h | h | h | h)
      · rw [hb] at h; cases h
      · exact e1 h
      · omega
      · rcases h with h | h
        · exact e3 h
        · exact e4 h
      · rcases h with h | h
        · exact e5 h
        · exact absurd e6 (Int32.not_le.mpr h)
      · exact e7 h
    by_cases h3 : hw = 3
    · have hfail : ¬ (fr_cN S (fr_c1 S) = 0 ∧ ∃ y, y < 4 ∧ x = nI y ∧ fr_vL S (4 * fr_b S + y) < 0) → post 0 (fr_mY S D hy bd ds hl vr) := fun hno => h0 (Or.inr (Or.inr (Or.inr (Or.inr (Or.inr (Or.inr (Or.inl ⟨h3, hno⟩)))))))
      refine br_t h3 ⟨hcin, br_c (fun e8 => ?_) (fun e8 => hfail (fun h => e8 h.1))⟩
      refine br_c (fun e9 => hfail ?_) (fun e9 => br_c (fun e10 => hfail ?_) (fun e10 => ⟨hin, ?_⟩))
      · rintro ⟨_, y, y1, y2, _⟩
        rw [y2] at e9
        exact nI_pos (by omega) e9
      · rintro ⟨_, y, y1, y2, _⟩
        rw [y2] at e10
        exact nI_nlt (b := y) (a := 3) (by omega) (by omega) e10
      · obtain ⟨y, hy', ey⟩ := nI_of2 (M := 3) (n := 3) (by decide) e9 (Int32.not_lt.mp e10)
        have hb1 := fr_bit1 bb r6 y (by omega)
        have hb0 := fr_bit0 bb r6 y (by omega)
        rw [r7, ey]
        refine br_c (fun e11 => ⟨hin, hin, ?_⟩) (fun e11 => hfail ?_)
        · have hv : fr_vL S (4 * fr_b S + y) < 0 := by
            apply Classical.byContradiction
            intro hno
            rw [hb0] at e11
            rw [(r8 y (by omega)).mpr hno] at e11
            cases e11
          refine nm_r (e' := upd bd (fr_b S) (nI (bb ||| 2 ^ y))) (by rw [hb1.1]) ?_
          rw [← ey]
          refine h151 (upd (fr_vL S) (4 * fr_b S + y) (fr_cL S (fr_c1 S))) (upd (fr_vF S) (4 * fr_b S + y) f) _ ?_ (Or.inl ⟨h3, e8, y, bb, by omega, ey, hv, rfl, rfl, r6, r7, rfl⟩)
          intro hT
          exact hbase False hT hgood (fun h => h.2 ⟨e8, y, by omega, ey, hv⟩) (fun h => h.1 h3)
        · rintro ⟨_, y', y1, y2, y3⟩
          rw [ey, nI_eq (by omega) (by omega)] at y2
          rw [← y2] at y3
          rw [hb0] at e11
          have := (r8 y (by omega)).mp (by cases h : bb.testBit y with | true => rfl | false => exact absurd h e11)
          exact this y3
    · refine br_f h3 (fr_y_known hS hb (fun hk => ?_) (fun hk => ?_))
      · refine br_f (by decide) (h151 (fr_vL S) (fr_vF S) bd ?_ (Or.inr ⟨h3, hk, rfl, rfl, rfl⟩))
        intro hT
        exact hbase False hT hgood (fun h => h3 h.1) (fun h => h.2 hk)
      · exact br_t rfl (h0 (Or.inr (Or.inr (Or.inr (Or.inr (Or.inr (Or.inr (Or.inr ⟨h3, hk⟩))))))))
end
end
section
def fr_a0 (S : fr_SR) : Nat := 4 * fr_b S + fr_an S (fr_b S)
def fr_S4 (S : fr_SR) (w k x : Int32) (aY aZ : fr_FN) : fr_SR := (fr_ru S, fr_bd S, fr_sa S, fr_co S, fr_po S, fr_te S, upd (fr_ac S) (fr_b S) (nI (fr_an S (fr_b S) + 1)), fr_cK S, fr_cT S, fr_cL S, fr_cN S, fr_tF S, fr_tH S, fr_tO S, fr_vL S, fr_vF S, upd (fr_aW S) (fr_a0 S) w, upd (fr_aK S) (fr_a0 S) k, upd (fr_aX S) (fr_a0 S) x, aY, aZ)
def fr_Fa (S : fr_SR) : Prop := fr_bd S = true ∧ 0 < fr_pn S (fr_b S) ∧ fr_an S (fr_b S) < 4
theorem fr_Kw_KN {S : fr_SR} {bd ds : fr_FN} {x : Int32} (h : fr_Rw S bd ds (fr_b S)) (hk : fr_Kw S x) : fr_KN S (fr_b S) x := by
  obtain ⟨hW, r1, _, r5, _⟩ := h
  have hpn := hW.1.2.2.2.1
  intro hx
  rcases hk with hk | ⟨y, y1, y2, y3⟩
  · exact absurd hk hx
  · rcases r5 y y1 with e | ⟨c, i, a1, a2, a3, a4, a5, a6⟩
    · rw [e] at y3; exact absurd (by decide) y3
    · have hWC := hW.2 c a1 a2
      obtain ⟨⟨fl, hh, k1, k2, _, _⟩, t3, _⟩ := hWC.2.2.2.2 i a3 a4
      obtain ⟨n0, y', z1, z2, z3, z4⟩ := t3 a5
      have ey : y' = y := by
        rw [a6] at z2
        exact ((nI_eq (by omega) (by omega)).mp z2).symm
      subst ey
      have hlt := fr_pc_lt (S := S) (r := fr_b S) (a := c - 5 * fr_b S) (b := fr_cn S (fr_b S)) (by omega) (by rw [show 5 * fr_b S + (c - 5 * fr_b S) = c by omega]; exact n0)
      have hpp := hW.1.2.2.2.2.1
      have htn := hWC.2.1
      exact ⟨y', _, fl, y1, y2, by rw [z3]; exact hWC.2.2.2.1, by omega, by rw [z4]; exact k1, k2, c, i, a1, by omega, a3, a4, by omega, a5, a6⟩
theorem fr_S4_Sx {S : fr_SR} {bd ds aY aZ : fr_FN} {w k x d : Int32} (h : fr_Sx S bd ds) (hf : fr_Fa S)
    (hA : ((w = 0 ∧ ∃ x', x' < fr_pn S (fr_b S) ∧ x = nI x') ∨ (w = 1 ∧ fr_Kw S x) ∨ w = 2) ∧ d = w ∨ (w = 3 ∧ (∃ k', k' < 4 ∧ k = nI k' ∧ d = nI (10 + k')) ∧ fr_Kw S x ∧ fr_Kw S (aY (fr_a0 S)) ∧ fr_Kw S (aZ (fr_a0 S))))
    (hY : ∀ j, j ≠ fr_a0 S → aY j = fr_aY S j ∧ aZ j = fr_aZ S j) :
    fr_Sx (fr_S4 S w k x aY aZ) bd (upd ds (fr_a0 S) d) ∧ fr_R (fr_S4 S w k x aY aZ) = fr_R S ∧ ∀ r, r < fr_R S → fr_Ae S (fr_S4 S w k x aY aZ) r := by
  obtain ⟨⟨w1, w2⟩, w3, w4, w5⟩ := h
  obtain ⟨hb, hp0, ha4⟩ := hf
  have hru := w2 hb
  have hR' : fr_R (fr_S4 S w k x aY aZ) = fr_R S := rfl
  have hbe : fr_b S = fr_ru S - 1 := rfl
  have ha0 : fr_a0 S = 4 * fr_b S + fr_an S (fr_b S) := rfl
  have hAe : ∀ r, fr_Ae S (fr_S4 S w k x aY aZ) r := fun r => ⟨⟨rfl, rfl⟩, fun _ _ _ => ⟨rfl, rfl, rfl, rfl⟩, fun _ _ _ => ⟨rfl, rfl, rfl⟩, fun _ _ => ⟨rfl, rfl⟩⟩
  have hRw := w3 (fr_b S) (by omega)
  have hsame : ∀ a, a ≠ fr_a0 S → fr_aW (fr_S4 S w k x aY aZ) a = fr_aW S a ∧ fr_aK (fr_S4 S w k x aY aZ) a = fr_aK S a ∧ fr_aX (fr_S4 S w k x aY aZ) a = fr_aX S a ∧ fr_aY (fr_S4 S w k x aY aZ) a = fr_aY S a ∧ fr_aZ (fr_S4 S w k x aY aZ) a = fr_aZ S a ∧ upd ds (fr_a0 S) d a = ds a := fun a ha => ⟨pk_un ha, pk_un ha, pk_un ha, (hY a ha).1, (hY a ha).2, pk_un ha⟩
  refine ⟨⟨⟨w1, w2⟩, ?_, ?_, ?_⟩, hR', fun r _ => hAe r⟩
  · intro r hr
    have hr' : r < fr_ru S := hr
    by_cases e : r = fr_b S
    · subst e
      have hRw' := hRw
      obtain ⟨hW, r1, ⟨r2, r3, r4⟩, r5, bb, r6, r7, r8⟩ := hRw'
      have ean : fr_an (fr_S4 S w k x aY aZ) (fr_b S) = fr_an S (fr_b S) + 1 := by
        show (upd (fr_ac S) (fr_b S) _ (fr_b S)).toNatClampNeg = _
        rw [pk_us]
        exact nI_clamp (by omega)
      refine ⟨fr_Ae_WR (hAe _) hW, by rw [fr_Ae_tc (hAe _) hW]; exact r1, ⟨by rw [ean]; exact pk_us, by omega, ?_⟩, fr_Ae_W4 (hAe _) hW r5, bb, r6, r7, r8⟩
      intro a a1 a2
      rw [ean] at a2
      by_cases ea : a = fr_a0 S
      · subst ea
        have e1 : fr_aW (fr_S4 S w k x aY aZ) (fr_a0 S) = w := pk_us
        have e2 : fr_aK (fr_S4 S w k x aY aZ) (fr_a0 S) = k := pk_us
        have e3 : fr_aX (fr_S4 S w k x aY aZ) (fr_a0 S) = x := pk_us
        have e4 : upd ds (fr_a0 S) d (fr_a0 S) = d := pk_us
        have e5 : fr_aY (fr_S4 S w k x aY aZ) (fr_a0 S) = aY (fr_a0 S) := rfl
        have e6 : fr_aZ (fr_S4 S w k x aY aZ) (fr_a0 S) = aZ (fr_a0 S) := rfl
        have hK : ∀ v, fr_Kw S v → fr_KN (fr_S4 S w k x aY aZ) (fr_b S) v := fun v hv => fr_Ae_KN (hAe _) hW (fr_Kw_KN hRw hv)
        unfold fr_WA
        rw [e1, e2, e3, e4, e5, e6]
        rcases hA with ⟨h1 | h1 | h1, hd⟩ | ⟨h1, ⟨k', hk', hk2, hd⟩, hx, hy, hz⟩
        · exact ⟨Or.inl h1, fun h => by rw [h1.1] at h; exact absurd h (by decide), fun _ => hd⟩
        · exact ⟨Or.inr (Or.inl ⟨h1.1, hK _ h1.2⟩), fun h => by rw [h1.1] at h; exact absurd h (by decide), fun _ => hd⟩
        · exact ⟨Or.inr (Or.inr (Or.inl h1)), fun h => by rw [h1] at h; exact absurd h (by decide), fun _ => hd⟩
        · exact ⟨Or.inr (Or.inr (Or.inr ⟨h1, ⟨k', hk', hk2⟩, hK _ hx, hK _ hy, hK _ hz⟩)), fun _ => ⟨k', hk', hk2, hd⟩, fun h => absurd h1 h⟩
      · obtain ⟨e1, e2, e3, e4, e5, e6⟩ := hsame a ea
        obtain ⟨v1, v2, v3⟩ := r4 a a1 (by omega)
        exact ⟨fr_Ae_WA (hAe _) hW e1 e2 e3 e4 e5 v1, by rw [e1, e2, e6]; exact v2, by rw [e1, e6]; exact v3⟩
    · refine fr_Af_Rw (S := S) (bd := bd) (ds := ds) ⟨hAe r, rfl, pk_un e, rfl, fun a a1 a2 => hsame a (by omega)⟩ (w3 r (by omega))
  · intro r hr
    exact w4 r (by rw [hR'] at hr; exact hr)
  · refine ⟨fun r h1 h2 => ?_, w5.2.1, fun r j h1 h2 h3 => ?_⟩
    · have h1' : fr_ru S ≤ r := h1
      obtain ⟨z1, z2, z3, z4⟩ := w5.1 r h1' h2
      refine ⟨z1, z2, ?_, z4⟩
      show upd (fr_ac S) (fr_b S) _ r = 0
      rw [pk_un (by omega)]
      exact z3
    · by_cases er : r = fr_b S
      · subst er
        have ean : fr_an (fr_S4 S w k x aY aZ) (fr_b S) = fr_an S (fr_b S) + 1 := by
          show (upd (fr_ac S) (fr_b S) _ (fr_b S)).toNatClampNeg = _
          rw [pk_us]
          exact nI_clamp (by omega)
        rw [ean] at h3
        obtain ⟨y1, y2⟩ := hY (4 * fr_b S + j) (by omega)
        show aY _ = 0 ∧ aZ _ = 0
        rw [y1, y2]
        exact w5.2.2 _ j h1 h2 (by omega)
      · have ean : fr_an (fr_S4 S w k x aY aZ) r = fr_an S r := by
          show (upd (fr_ac S) (fr_b S) _ r).toNatClampNeg = _
          rw [pk_un er]
          rfl
        rw [ean] at h3
        obtain ⟨y1, y2⟩ := hY (4 * r + j) (by omega)
        show aY _ = 0 ∧ aZ _ = 0
        rw [y1, y2]
        exact w5.2.2 r j h1 h2 h3
section
variable {S : fr_SR} {D : fr_DR} {hx hy : Int32} {o : fr_FN} {q : fr_QR} {z : fr_ZR} {bd ds hl vr : fr_FN}
theorem fr_x_actionFits {post : Int32 → Prop} (hS : fr_Sx S bd ds) (h1 : fr_Fa S → post 1) (h0 : ¬ fr_Fa S → post 0) : wpX_actionFits post (fr_mX S D hx o q z) := by
  cases hb : fr_bd S with
  | false => exact br_t (by rw [fr_bXf hb]; decide) (h0 (fun h => by rw [h.1] at hb; cases hb))
  | true =>
    have hru := hS.1.2 hb
    have h4 := hS.1.1
    have hbe : fr_b S = fr_ru S - 1 := rfl
    obtain ⟨hW, r1, ⟨r2, r3, r4⟩, _⟩ := hS.2.1 (fr_b S) (by omega)
    have hcl : (fr_bX S).toNatClampNeg = fr_b S := by rw [fr_bXt hb]; exact nI_clamp (by omega)
    have hin : vp_in (fr_bX S) 4 := by rw [fr_bXt hb]; exact vp_in_nI (by omega) (by omega)
    have hpn := hW.1.2.2.2.1
    refine br_f (by rw [fr_bXt hb]; exact nI_pos (by omega)) ⟨hin, ?_⟩
    rw [hcl, hW.1.2.2.1, r2]
    refine pk_le (fr_pn S (fr_b S)) 0 (fun e => h0 (fun h => by have := h.2.1; omega)) (fun e => ⟨hin, ?_⟩)
    exact pk_le 4 (fr_an S (fr_b S)) (fun e2 => h0 (fun h => by have := h.2.2; omega)) (fun e2 => h1 ⟨hb, e, e2⟩)
theorem fr_y_noAction {post : Int32 → Prop} (hS : fr_Sx S bd ds) (h1 : fr_Fa S → post 0) (h0 : ¬ fr_Fa S → post 1) : wpY_noAction post (fr_mY S D hy bd ds hl vr) := by
  cases hb : fr_bd S with
  | false => exact br_t (fr_bYf hb) (h0 (fun h => by rw [h.1] at hb; cases hb))
  | true =>
    have hru := hS.1.2 hb
    have h4 := hS.1.1
    have hbe : fr_b S = fr_ru S - 1 := rfl
    obtain ⟨hW, r1, ⟨r2, r3, r4⟩, _⟩ := hS.2.1 (fr_b S) (by omega)
    have hcl : (nI (fr_b S)).toNatClampNeg = fr_b S := nI_clamp (by omega)
    have hin : vp_in (nI (fr_b S)) 4 := vp_in_nI (by omega) (by omega)
    have hpn := hW.1.2.2.2.1
    refine br_f (by rw [fr_bYt hb]; decide) ?_
    rw [fr_ru1 hS hb]
    refine ⟨hin, ?_⟩
    rw [hcl, hW.1.2.2.1, r2]
    refine pk_eq (fr_pn S (fr_b S)) 0 (fun e => h0 (fun h => by have := h.2.1; omega)) (fun e => ⟨hin, ?_⟩)
    exact pk_eq (fr_an S (fr_b S)) 4 (fun e2 => h0 (fun h => by have := h.2.2; omega)) (fun e2 => h1 ⟨hb, by omega, by omega⟩)
theorem fr_x_action {post : SX → Prop} {w k x : Int32} (hS : fr_Sx S bd ds) (hf : fr_Fa S) (hw : vp_nar .byte w.toInt8.toInt32 = w) (hk : vp_nar .byte k.toInt8.toInt32 = k)
    (hp : post ((nI (fr_ru S)), (fr_bX S), (nI (fr_lv D).length), (nI (fr_md D)), (fr_fr q), (fr_pk q), (fr_pr D), hx, (fr_sa S), (fr_co S), (fr_po S), (fr_te S), (upd (fr_ac S) (fr_b S) (nI (fr_an S (fr_b S) + 1))), (fr_cK S), (fr_cT S), (fr_cL S), (fr_cN S), (fr_tF S), (fr_tH S), (fr_tO S), (fr_vL S), (fr_vF S), (upd (fr_aW S) (fr_a0 S) w), (upd (fr_aK S) (fr_a0 S) k), (upd (fr_aX S) (fr_a0 S) x), (fr_aY S), (fr_aZ S), (fr_nu D), (fr_fd D), (fr_kd D), o, (fr_pa q), (fr_ch q), (fr_nx q), (fr_fa q), (fr_st q), (fr_rt q), (fr_zs z), (fr_zg z), (fr_zb z), (fr_zm z), (fr_zo z), (fr_zn z), (fr_zf z), (fr_ou D))) : wpX_action post (fr_mX S D hx o q z) w k x := by
  obtain ⟨hb, hp0, ha4⟩ := hf
  have hru := hS.1.2 hb
  have h4 := hS.1.1
  have hbe : fr_b S = fr_ru S - 1 := rfl
  obtain ⟨hW, r1, ⟨r2, r3, r4⟩, _⟩ := hS.2.1 (fr_b S) (by omega)
  have hcl : (fr_bX S).toNatClampNeg = fr_b S := by rw [fr_bXt hb]; exact nI_clamp (by omega)
  have hin : vp_in (fr_bX S) 4 := by rw [fr_bXt hb]; exact vp_in_nI (by omega) (by omega)
  have ha0 : fr_a0 S = 4 * fr_b S + fr_an S (fr_b S) := rfl
  have ea : fr_bX S * 4 + fr_ac S (fr_b S) = nI (fr_a0 S) := by rw [fr_bXt hb, r2, fr_m4]; rfl
  have hain : vp_in (nI (fr_a0 S)) 16 := vp_in_nI (by omega) (by omega)
  have hacl : (nI (fr_a0 S)).toNatClampNeg = fr_a0 S := nI_clamp (by omega)
  unfold wpX_action fr_mX
  dsimp only
  rw [hcl]
  refine ⟨hin, hin, nm_r (e' := upd (fr_ac S) (fr_b S) (nI (fr_an S (fr_b S) + 1))) (by rw [r2, nI_1, fr_b88 (by omega)]) (nm_r ea ⟨hain, nm_r (e' := upd (fr_aW S) (fr_a0 S) w) (by rw [hacl, hw]) ⟨hain, nm_r (e' := upd (fr_aK S) (fr_a0 S) k) (by rw [hacl, hk]) ⟨hain, nm_r (e' := upd (fr_aX S) (fr_a0 S) x) (by rw [hacl]) hp⟩⟩⟩)⟩
theorem fr_y_action {post : Int32 → SY → Prop} {w x y v : Int32} (hS : fr_Sx S bd ds) (hf : fr_Fa S) (hw : vp_nar .byte w.toInt8.toInt32 = w)
    (hp : post 1 ((nI (fr_ru S)), (fr_bY S), (nI (fr_md D)), (fr_pr D), hy, (fr_sa S), (fr_co S), (fr_po S), (upd (fr_ac S) (fr_b S) (nI (fr_an S (fr_b S) + 1))), bd, (fr_cK S), (fr_cN S), (fr_cT S), (fr_tF S), (fr_tH S), (fr_tO S), (upd ds (fr_a0 S) w), (upd (fr_aX S) (fr_a0 S) x), (upd (fr_aY S) (fr_a0 S) y), (upd (fr_aZ S) (fr_a0 S) v), (fr_nu D), (fr_kd D), (fr_fd D), hl, (fr_mk D), vr, (fr_ou D))) : wpY_action post (fr_mY S D hy bd ds hl vr) w x y v := by
  obtain ⟨hb, hp0, ha4⟩ := hf
  have hru := hS.1.2 hb
  have h4 := hS.1.1
  have hbe : fr_b S = fr_ru S - 1 := rfl
  obtain ⟨hW, r1, ⟨r2, r3, r4⟩, _⟩ := hS.2.1 (fr_b S) (by omega)
  have hcl : (nI (fr_b S)).toNatClampNeg = fr_b S := nI_clamp (by omega)
  have hin : vp_in (nI (fr_b S)) 4 := vp_in_nI (by omega) (by omega)
  have ha0 : fr_a0 S = 4 * fr_b S + fr_an S (fr_b S) := rfl
  have e4 : 4 * nI (fr_ru S) - 4 = nI (4 * fr_b S) := by
    rw [fr_k4]
    have := pk_sub (a := 4 * fr_ru S) (b := 4) (by omega)
    rw [show 4 * fr_ru S - 4 = 4 * fr_b S by omega] at this
    exact this
  have ea : 4 * nI (fr_ru S) - 4 + fr_ac S (fr_b S) = nI (fr_a0 S) := by rw [e4, r2, nI_add]; rfl
  have hain : vp_in (nI (fr_a0 S)) 16 := vp_in_nI (by omega) (by omega)
  have hacl : (nI (fr_a0 S)).toNatClampNeg = fr_a0 S := nI_clamp (by omega)
  unfold wpY_action fr_mY
  dsimp only
  rw [fr_ru1 hS hb, hcl]
  refine ⟨hin, hin, nm_r (e' := upd (fr_ac S) (fr_b S) (nI (fr_an S (fr_b S) + 1))) (by rw [r2, nI_1, fr_b88 (by omega)]) (nm_r ea ⟨hain, nm_r (e' := upd ds (fr_a0 S) w) (by rw [hacl, hw]) ⟨hain, nm_r (e' := upd (fr_aX S) (fr_a0 S) x) (by rw [hacl]) ⟨hain, nm_r (e' := upd (fr_aY S) (fr_a0 S) y) (by rw [hacl]) ⟨hain, nm_r (e' := upd (fr_aZ S) (fr_a0 S) v) (by rw [hacl]) hp⟩⟩⟩⟩)⟩
def fr_Mf (S : fr_SR) (k x y v : Int32) : Prop := ¬ fr_Fa S ∨ k < 0 ∨ 3 < k ∨ ¬ fr_Kw S x ∨ ¬ fr_Kw S y ∨ ¬ fr_Kw S v
theorem fr_x_make {post : Int32 → SX → Prop} {k x y v : Int32} (hS : fr_Sx S bd ds) (h0 : fr_Mf S k x y v → post 0 (fr_mX S D hx o q z))
    (h1 : ¬ fr_Mf S k x y v → post 1 (fr_mX (fr_S4 S 3 k x (upd (fr_aY S) (fr_a0 S) y) (upd (fr_aZ S) (fr_a0 S) v)) D hx o q z)) : wpX_make post (fr_mX S D hx o q z) k x y v := by
  unfold wpX_make
  refine fr_x_actionFits hS (fun hf => br_f (by decide) ?_) (fun hf => br_t rfl (h0 (Or.inl hf)))
  refine br_c (fun e1 => h0 (Or.inr (Or.inl e1))) (fun e1 => br_c (fun e2 => h0 (Or.inr (Or.inr (Or.inl e2)))) (fun e2 => ?_))
  refine fr_x_known hS hf.1 (fun hk1 => br_f (by decide) ?_) (fun hk => br_t rfl (h0 (Or.inr (Or.inr (Or.inr (Or.inl hk))))))
  refine fr_x_known hS hf.1 (fun hk2 => br_f (by decide) ?_) (fun hk => br_t rfl (h0 (Or.inr (Or.inr (Or.inr (Or.inr (Or.inl hk)))))))
  refine fr_x_known hS hf.1 (fun hk3 => br_f (by decide) ?_) (fun hk => br_t rfl (h0 (Or.inr (Or.inr (Or.inr (Or.inr (Or.inr hk)))))))
  have hp := h1 (by rintro (h | h | h | h | h | h); exact h hf; exact e1 h; exact e2 h; exact h hk1; exact h hk2; exact h hk3)
  obtain ⟨j, hj, ek⟩ := nI_of2 (M := 3) (n := 3) (by decide) e1 (Int32.not_lt.mp e2)
  have hb := hf.1
  have ha4 := hf.2.2
  have hru := hS.1.2 hb
  have h4 := hS.1.1
  have hbe : fr_b S = fr_ru S - 1 := rfl
  have ha0 : fr_a0 S = 4 * fr_b S + fr_an S (fr_b S) := rfl
  have hcl : (fr_bX S).toNatClampNeg = fr_b S := by rw [fr_bXt hb]; exact nI_clamp (by omega)
  have hin : vp_in (fr_bX S) 4 := by rw [fr_bXt hb]; exact vp_in_nI (by omega) (by omega)
  have hain : vp_in (nI (fr_a0 S)) 16 := vp_in_nI (by omega) (by omega)
  have hacl : (nI (fr_a0 S)).toNatClampNeg = fr_a0 S := nI_clamp (by omega)
  refine fr_x_action hS hf (fr_b88 (n := 3) (by omega)) (by rw [ek, fr_b88 (by omega)]) ?_
  have ea : fr_bX S * 4 + upd (fr_ac S) (fr_b S) (nI (fr_an S (fr_b S) + 1)) (fr_bX S).toNatClampNeg - 1 = nI (fr_a0 S) := by
    rw [hcl, pk_us, fr_bXt hb, fr_m4]
    exact pk_sub (b := 1) (by omega)
  exact ⟨hin, nm_r ea ⟨hain, nm_r (e' := upd (fr_aY S) (fr_a0 S) y) (by rw [hacl]) ⟨hain, nm_r (e' := upd (fr_aZ S) (fr_a0 S) v) (by rw [hacl]) hp⟩⟩⟩
theorem fr_y_make {post : Int32 → SY → Prop} {k x y v : Int32} (hS : fr_Sx S bd ds) (h0 : fr_Mf S k x y v → post 0 (fr_mY S D hy bd ds hl vr))
    (h1 : ¬ fr_Mf S k x y v → ∀ j, j < 4 → k = nI j → post 1 (fr_mY (fr_S4 S 3 k x (upd (fr_aY S) (fr_a0 S) y) (upd (fr_aZ S) (fr_a0 S) v)) D hy bd (upd ds (fr_a0 S) (nI (10 + j))) hl vr)) : wpY_make post (fr_mY S D hy bd ds hl vr) k x y v := by
  unfold wpY_make
  refine fr_y_noAction hS (fun hf => br_t rfl ?_) (fun hf => br_f (by decide) (h0 (Or.inl hf)))
  refine br_c (fun e1 => h0 (Or.inr (Or.inl e1))) (fun e1 => br_c (fun e2 => h0 (Or.inr (Or.inr (Or.inl e2)))) (fun e2 => ?_))
  refine fr_y_known hS hf.1 (fun hk1 => br_f (by decide) ?_) (fun hk => br_t rfl (h0 (Or.inr (Or.inr (Or.inr (Or.inl hk))))))
  refine fr_y_known hS hf.1 (fun hk2 => br_f (by decide) ?_) (fun hk => br_t rfl (h0 (Or.inr (Or.inr (Or.inr (Or.inr (Or.inl hk)))))))
  refine fr_y_known hS hf.1 (fun hk3 => br_f (by decide) ?_) (fun hk => br_t rfl (h0 (Or.inr (Or.inr (Or.inr (Or.inr (Or.inr hk)))))))
  obtain ⟨j, hj, ek⟩ := nI_of2 (M := 3) (n := 3) (by decide) e1 (Int32.not_lt.mp e2)
  have hp := h1 (by rintro (h | h | h | h | h | h); exact h hf; exact e1 h; exact e2 h; exact h hk1; exact h hk2; exact h hk3) j (by omega) ek
  have e10 : 10 + k = nI (10 + j) := by rw [ek]; exact nI_add 10 j
  rw [e10]
  exact fr_y_action hS hf (fr_b88 (by omega)) ⟨rfl, hp⟩
def fr_Ax (S : fr_SR) (w x : Int32) : Prop := ¬ fr_Fa S ∨ w < 0 ∨ 2 < w ∨ (w = 0 ∧ ¬ ∃ j, j < fr_pn S (fr_b S) ∧ x = nI j) ∨ (w = 1 ∧ ¬ fr_Kw S x)
theorem fr_x_act {post : Int32 → SX → Prop} {w x : Int32} (hS : fr_Sx S bd ds) (h0 : fr_Ax S w x → post 0 (fr_mX S D hx o q z))
    (h1 : ¬ fr_Ax S w x → post 1 (fr_mX (fr_S4 S w 0 x (fr_aY S) (fr_aZ S)) D hx o q z)) : wpX_act post (fr_mX S D hx o q z) w x := by
  unfold wpX_act
  refine fr_x_actionFits hS (fun hf => br_f (by decide) ?_) (fun hf => br_t rfl (h0 (Or.inl hf)))
  refine br_c (fun e1 => h0 (Or.inr (Or.inl e1))) (fun e1 => br_c (fun e2 => ?_) (fun e2 => h0 (Or.inr (Or.inr (Or.inl (Int32.not_le.mp e2))))))
  obtain ⟨j, hj, ew⟩ := nI_of2 (M := 2) (n := 2) (by decide) e1 e2
  have hb := hf.1
  have hru := hS.1.2 hb
  have h4 := hS.1.1
  have hbe : fr_b S = fr_ru S - 1 := rfl
  have hW := (hS.2.1 (fr_b S) (by omega)).1
  have hpn := hW.1.2.2.2.1
  have hcl : (fr_bX S).toNatClampNeg = fr_b S := by rw [fr_bXt hb]; exact nI_clamp (by omega)
  have hin : vp_in (fr_bX S) 4 := by rw [fr_bXt hb]; exact vp_in_nI (by omega) (by omega)
  have h54 : ¬ fr_Ax S w x → wX_act_54 post w x (nI (fr_ru S)) (fr_bX S) (nI (fr_lv D).length) (nI (fr_md D)) (fr_fr q) (fr_pk q) (fr_pr D) hx (fr_sa S) (fr_co S) (fr_po S) (fr_te S) (fr_ac S) (fr_cK S) (fr_cT S) (fr_cL S) (fr_cN S) (fr_tF S) (fr_tH S) (fr_tO S) (fr_vL S) (fr_vF S) (fr_aW S) (fr_aK S) (fr_aX S) (fr_aY S) (fr_aZ S) (fr_nu D) (fr_fd D) (fr_kd D) o (fr_pa q) (fr_ch q) (fr_nx q) (fr_fa q) (fr_st q) (fr_rt q) (fr_zs z) (fr_zg z) (fr_zb z) (fr_zm z) (fr_zo z) (fr_zn z) (fr_zf z) (fr_ou D) := fun hno => fr_x_action (post := fun u => post 1 u) hS hf (by rw [ew, fr_b88 (by omega)]) (fr_b88 (n := 0) (by omega)) (h1 hno)
  have h39 : (w = 0 → ∃ j, j < fr_pn S (fr_b S) ∧ x = nI j) → wX_act_39 post w x (nI (fr_ru S)) (fr_bX S) (nI (fr_lv D).length) (nI (fr_md D)) (fr_fr q) (fr_pk q) (fr_pr D) hx (fr_sa S) (fr_co S) (fr_po S) (fr_te S) (fr_ac S) (fr_cK S) (fr_cT S) (fr_cL S) (fr_cN S) (fr_tF S) (fr_tH S) (fr_tO S) (fr_vL S) (fr_vF S) (fr_aW S) (fr_aK S) (fr_aX S) (fr_aY S) (fr_aZ S) (fr_nu D) (fr_fd D) (fr_kd D) o (fr_pa q) (fr_ch q) (fr_nx q) (fr_fa q) (fr_st q) (fr_rt q) (fr_zs z) (fr_zg z) (fr_zb z) (fr_zm z) (fr_zo z) (fr_zn z) (fr_zf z) (fr_ou D) := by
    intro hw0
    have hno : (w = 1 → fr_Kw S x) → ¬ fr_Ax S w x := by
      rintro hk (h | h | h | h | h)
      · exact h hf
      · exact e1 h
      · exact absurd e2 (Int32.not_le.mpr h)
      · exact h.2 (hw0 h.1)
      · exact h.2 (hk h.1)
    refine br_c (fun e3 => ?_) (fun e3 => h54 (hno (fun h => absurd h e3)))
    exact fr_x_known hS hb (fun hk => br_f (by decide) (h54 (hno (fun _ => hk)))) (fun hk => br_t rfl (h0 (Or.inr (Or.inr (Or.inr (Or.inr ⟨e3, hk⟩))))))
  refine br_c (fun e3 => ?_) (fun e3 => h39 (fun h => absurd h e3))
  refine br_c (fun e4 => h0 (Or.inr (Or.inr (Or.inr (Or.inl ⟨e3, ?_⟩))))) (fun e4 => ⟨hin, ?_⟩)
  · rintro ⟨y, y1, y2⟩
    rw [y2] at e4
    exact nI_pos (by omega) e4
  · obtain ⟨y, hy', ey⟩ := nI_of e4
    rw [hcl, hW.1.2.2.1, ey]
    refine pk_le (fr_pn S (fr_b S)) y (fun e5 => h0 (Or.inr (Or.inr (Or.inr (Or.inl ⟨e3, ?_⟩))))) (fun e5 => ?_)
    · rintro ⟨y', y1, y2⟩
      rw [ey, nI_eq (by omega) (by omega)] at y2
      omega
    · rw [← ey]
      exact h39 (fun _ => ⟨y, e5, ey⟩)
theorem fr_y_act {post : Int32 → SY → Prop} {w x : Int32} (hS : fr_Sx S bd ds) (h0 : fr_Ax S w x → post 0 (fr_mY S D hy bd ds hl vr))
    (h1 : ¬ fr_Ax S w x → post 1 (fr_mY (fr_S4 S w 0 x (fr_aY S) (fr_aZ S)) D hy bd (upd ds (fr_a0 S) w) hl vr)) : wpY_act post (fr_mY S D hy bd ds hl vr) w x := by
  unfold wpY_act
  refine fr_y_noAction hS (fun hf => br_t rfl ?_) (fun hf => br_f (by decide) (h0 (Or.inl hf)))
  refine br_c (fun e1 => h0 (Or.inr (Or.inl e1))) (fun e1 => br_c (fun e2 => ?_) (fun e2 => h0 (Or.inr (Or.inr (Or.inl (Int32.not_le.mp e2))))))
  obtain ⟨j, hj, ew⟩ := nI_of2 (M := 2) (n := 2) (by decide) e1 e2
  have hb := hf.1
  have ha4 := hf.2.2
  have hru := hS.1.2 hb
  have h4 := hS.1.1
  have hbe : fr_b S = fr_ru S - 1 := rfl
  have ha0 : fr_a0 S = 4 * fr_b S + fr_an S (fr_b S) := rfl
  have hW := (hS.2.1 (fr_b S) (by omega)).1
  have hpn := hW.1.2.2.2.1
  have hcl : (nI (fr_b S)).toNatClampNeg = fr_b S := nI_clamp (by omega)
  have hin : vp_in (nI (fr_b S)) 4 := vp_in_nI (by omega) (by omega)
  obtain ⟨zy, zz⟩ := hS.2.2.2.2.2 (fr_b S) (fr_an S (fr_b S)) (by omega) ha4 (Nat.le_refl _)
  have h56 : ¬ fr_Ax S w x → wY_act_56 post w x (nI (fr_ru S)) (fr_bY S) (nI (fr_md D)) (fr_pr D) hy (fr_sa S) (fr_co S) (fr_po S) (fr_ac S) bd (fr_cK S) (fr_cN S) (fr_cT S) (fr_tF S) (fr_tH S) (fr_tO S) ds (fr_aX S) (fr_aY S) (fr_aZ S) (fr_nu D) (fr_kd D) (fr_fd D) hl (fr_mk D) vr (fr_ou D) := by
    intro hno
    refine fr_y_action hS hf (by rw [ew, fr_b88 (by omega)]) ?_
    rw [fr_upd_id (f := fr_aY S) (k := fr_a0 S) (v := 0) zy, fr_upd_id (f := fr_aZ S) (k := fr_a0 S) (v := 0) zz]
    exact ⟨rfl, h1 hno⟩
  have h41 : (w = 0 → ∃ j, j < fr_pn S (fr_b S) ∧ x = nI j) → wY_act_41 post w x (nI (fr_ru S)) (fr_bY S) (nI (fr_md D)) (fr_pr D) hy (fr_sa S) (fr_co S) (fr_po S) (fr_ac S) bd (fr_cK S) (fr_cN S) (fr_cT S) (fr_tF S) (fr_tH S) (fr_tO S) ds (fr_aX S) (fr_aY S) (fr_aZ S) (fr_nu D) (fr_kd D) (fr_fd D) hl (fr_mk D) vr (fr_ou D) := by
    intro hw0
    have hno : (w = 1 → fr_Kw S x) → ¬ fr_Ax S w x := by
      rintro hk (h | h | h | h | h)
      · exact h hf
      · exact e1 h
      · exact absurd e2 (Int32.not_le.mpr h)
      · exact h.2 (hw0 h.1)
      · exact h.2 (hk h.1)
    refine br_c (fun e3 => ?_) (fun e3 => h56 (hno (fun h => absurd h e3)))
    exact fr_y_known hS hb (fun hk => br_f (by decide) (h56 (hno (fun _ => hk)))) (fun hk => br_t rfl (h0 (Or.inr (Or.inr (Or.inr (Or.inr ⟨e3, hk⟩))))))
  refine br_c (fun e3 => ?_) (fun e3 => h41 (fun h => absurd h e3))
  refine br_c (fun e4 => h0 (Or.inr (Or.inr (Or.inr (Or.inl ⟨e3, ?_⟩))))) (fun e4 => ?_)
  · rintro ⟨y, y1, y2⟩
    rw [y2] at e4
    exact nI_pos (by omega) e4
  · obtain ⟨y, hy', ey⟩ := nI_of e4
    rw [fr_ru1 hS hb]
    refine ⟨hin, ?_⟩
    rw [hcl, hW.1.2.2.1, ey]
    refine pk_le (fr_pn S (fr_b S)) y (fun e5 => h0 (Or.inr (Or.inr (Or.inr (Or.inl ⟨e3, ?_⟩))))) (fun e5 => ?_)
    · rintro ⟨y', y1, y2⟩
      rw [ey, nI_eq (by omega) (by omega)] at y2
      omega
    · rw [← ey]
      exact h41 (fun _ => ⟨y, e5, ey⟩)
end
end
section
def fr_S0 (S : fr_SR) : fr_SR := (fr_ru S, false, fr_sa S, fr_co S, fr_po S, fr_te S, fr_ac S, fr_cK S, fr_cT S, fr_cL S, fr_cN S, fr_tF S, fr_tH S, fr_tO S, fr_vL S, fr_vF S, fr_aW S, fr_aK S, fr_aX S, fr_aY S, fr_aZ S)
theorem fr_S0_Ae {S : fr_SR} (r : Nat) : fr_Ae S (fr_S0 S) r := ⟨⟨rfl, rfl⟩, fun _ _ _ => ⟨rfl, rfl, rfl, rfl⟩, fun _ _ _ => ⟨rfl, rfl, rfl⟩, fun _ _ => ⟨rfl, rfl⟩⟩
theorem fr_S0_Sx {S : fr_SR} {bd ds : fr_FN} (h : fr_Sx S bd ds) (hb : fr_bd S = true) (hp : 0 < fr_pn S (fr_b S)) : fr_Sx (fr_S0 S) bd ds ∧ fr_R (fr_S0 S) = fr_b S + 1 := by
  obtain ⟨⟨w1, w2⟩, w3, w4, w5⟩ := h
  have hru := w2 hb
  have hbe : fr_b S = fr_ru S - 1 := rfl
  have hR : fr_R S = fr_b S := fr_bd_R hb
  have hR' : fr_R (fr_S0 S) = fr_ru S := rfl
  refine ⟨⟨⟨w1, fun h => by cases h⟩, fun r hr => ?_, fun r hr => ?_, w5⟩, by omega⟩
  · exact fr_Af_Rw (S := S) (bd := bd) (ds := ds) ⟨fr_S0_Ae r, rfl, rfl, rfl, fun _ _ _ => ⟨rfl, rfl, rfl, rfl, rfl, rfl⟩⟩ (w3 r hr)
  · rw [hR'] at hr
    by_cases e : r = fr_b S
    · rw [e]; exact hp
    · exact w4 r (by omega)
theorem fr_S0_nm {S : fr_SR} {D : fr_DR} {bd ds : fr_FN} (h : fr_Sx S bd ds) (hb : fr_bd S = true) (hp : 0 < fr_pn S (fr_b S)) (hM : fr_MW S D) : fr_nm (fr_S0 S) (fr_kd D) (fr_fd D) (fr_lv D) (fr_mk D) = fr_mk D ∧ fr_MW (fr_S0 S) D := by
  have hR : fr_R S = fr_b S := fr_bd_R hb
  have hR' := (fr_S0_Sx h hb hp).2
  have h4 := h.1.1
  have hru := h.1.2 hb
  have hbe : fr_b S = fr_ru S - 1 := rfl
  have hhd : ∀ c, c < 864 → fr_mk D c ≠ 0 → fr_hd (fr_S0 S) (fr_kd D) (fr_fd D) (fr_lv D) c = true := by
    intro c hc hne
    have h1 := hM c hc hne
    have h2 := (fr_hd_c h1).1
    rw [fr_Ae_hd h2 (by omega) (fr_S0_Ae _) (h.2.1 _ (by omega)).1]
    exact h1
  refine ⟨?_, hhd⟩
  funext c
  unfold fr_nm
  by_cases e : c < 216 * fr_R (fr_S0 S) ∧ fr_hd (fr_S0 S) (fr_kd D) (fr_fd D) (fr_lv D) c = false
  · rw [if_pos e]
    apply Classical.byContradiction
    intro hne
    have := hhd c (by omega) (fun h => hne h.symm)
    rw [e.2] at this
    cases this
  · rw [if_neg e]
section
variable {S : fr_SR} {D : fr_DR} {hx hy : Int32} {o : fr_FN} {q : fr_QR} {z : fr_ZR} {A : fr_AT} {bd ds hl vr : fr_FN}
def fr_Ff (S : fr_SR) : Prop := fr_bd S = false ∨ fr_pn S (fr_b S) = 0
theorem fr_x_finish {post : Int32 → SX → Prop} (hS : fr_Sx S bd ds) (hF : fr_FW D) (hM : fr_MW S D) (hX : fr_XI S D q A) (hO : fr_OK o (fr_lv D))
    (h0 : fr_Ff S → post 0 (fr_mX S D hx o q z))
    (h1 : ¬ fr_Ff S → ∀ (q' : fr_QR) (A' : fr_AT) (z' : fr_ZR), fr_XI (fr_S0 S) D q' A' → post 1 (fr_mX (fr_S0 S) D hx o q' z')) : wpX_finish post (fr_mX S D hx o q z) := by
  cases hb : fr_bd S with
  | false => exact br_t (by rw [fr_bXf hb]; decide) (h0 (Or.inl hb))
  | true =>
    have hru := hS.1.2 hb
    have h4 := hS.1.1
    have hbe : fr_b S = fr_ru S - 1 := rfl
    have hR : fr_R S = fr_b S := fr_bd_R hb
    obtain ⟨hW, r1, _⟩ := hS.2.1 (fr_b S) (by omega)
    have hcl : (fr_bX S).toNatClampNeg = fr_b S := by rw [fr_bXt hb]; exact nI_clamp (by omega)
    have hin : vp_in (fr_bX S) 4 := by rw [fr_bXt hb]; exact vp_in_nI (by omega) (by omega)
    have hpn := hW.1.2.2.2.1
    refine br_f (by rw [fr_bXt hb]; exact nI_pos (by omega)) ⟨hin, ?_⟩
    rw [hcl, hW.1.2.2.1]
    refine pk_eq (fr_pn S (fr_b S)) 0 (fun e => h0 (Or.inr e)) (fun e => ?_)
    have hp0 : 0 < fr_pn S (fr_b S) := by omega
    have hfin := h1 (by rintro (h | h); rw [hb] at h; cases h; exact e h)
    obtain ⟨hS0, hR0⟩ := fr_S0_Sx hS hb hp0
    have hnone : A (fr_b S) [] = none := by
      cases ea : A (fr_b S) [] with
      | none => rfl
      | some t => have := (hX.2.1 (fr_b S)).mp ⟨t, ea⟩; omega
    have hnall : ∀ p, A (fr_b S) p = none := by
      intro p
      cases ea : A (fr_b S) p with
      | none => rfl
      | some t =>
        obtain ⟨s, hs⟩ := fr_up hX.1.2.1 (List.nil_suffix) ⟨t, ea⟩
        rw [hnone] at hs
        cases hs
    obtain ⟨s, s1, s2, s3⟩ := fr_free hX.1 (r := fr_b S) (p := []) (by omega) (by simp) (fun x hx' => by cases hx') hnone
    refine fr_x_take (S := fr_S0 S) (s := s) s1 s2 fr_sm11 fr_bm1 ⟨hin, nm_r (e' := upd (fr_rt q) (fr_b S) (nI s)) (by rw [fr_s1616 (by omega)]; rfl) ?_⟩
    rw [fr_bXt hb]
    have hQ2 : fr_PQ (fr_nx q s, if fr_fr q ≤ fr_pk q then fr_pk q else fr_fr q, upd (fr_pa q) s (-1), upd (fr_ch q) s (-1), upd (fr_nx q) s (-1), upd (fr_fa q) s (-1), upd (fr_st q) s 0, upd (fr_rt q) (fr_b S) (nI s)) (fr_ins A (fr_b S) [] s) :=
      fr_ins_root hX.1 (by omega) hnone s1 s2 s3 (fun j hj => pk_un hj) (fun j hj => pk_un hj) pk_us (fun j hj => pk_un hj) (fun j hj => pk_un hj) pk_us (fun j hj => pk_un hj) pk_us rfl
    refine fr_x_extend (S := fr_S0 S) (D := D) hQ2 (fr_ins_s (A := A) (r := fr_b S) (p := []) (s := s)) (fun x => ?_) (fr_Ae_WR (fr_S0_Ae _) hW) hF.1 hO ?_
    · rw [fr_ins_n (by rintro ⟨_, e2⟩; cases e2)]
      exact hnall _
    · rintro q' A' a ⟨x1, x2, x3, x4⟩
      refine hfin q' A' _ ⟨x1, fun r => ?_, fun r p t ea => ?_⟩
      · rw [x2 r [] (fun h => h.2.2 rfl)]
        by_cases er : r = fr_b S
        · rw [er, fr_ins_s]
          exact ⟨fun _ => by omega, fun _ => ⟨s, rfl⟩⟩
        · rw [fr_ins_n (fun h => er h.1), hX.2.1 r]
          omega
      · by_cases er : r = fr_b S
        · subst er
          have hRN := x4 p t List.nil_suffix ea
          refine fr_RT_congr ?_ rfl (fun _ => rfl) hRN
          cases hm : fr_Mk (fr_S0 S) (fr_mk D) (fr_b S) p with
          | false => rfl
          | true =>
            exfalso
            obtain ⟨m1, m2, m3⟩ := fr_Mk_iff.mp hm
            have hlt := fr_cho_lt (r := fr_b S) m2
            have h2 := (fr_hd_c (hM _ (by omega) m3)).1
            rw [(fr_cho_pl (r := fr_b S) m2).1] at h2
            omega
        · have hns : ¬ fr_Sb (fr_b S) [] r p := fun h => er h.1
          have hnb : ¬ (r = fr_b S ∧ [] <:+ p) := fun h => er h.1
          rw [x2 r p hns, fr_ins_n (fun h => er h.1)] at ea
          have hst : fr_st q' t = fr_st q t := by
            rw [x3 r p t (by rw [fr_ins_n (fun h => er h.1)]; exact ea) hnb]
            exact pk_un (fun e2 => s3 r p (e2 ▸ ea))
          have hr := (fr_XI_sm hX ea).1
          have hl3 := (hX.1.1.1 _ _ _ ea).2.1
          refine fr_RT_congr rfl hst (fun x => ?_) (fr_Ae_RT (fr_S0_Ae r) (hS.2.1 r (by omega)).1 (by omega) (hX.2.2 r p t ea))
          rw [x2 r (x :: p) (fun h => er h.1), fr_ins_n (fun h => er h.1)]
theorem fr_y_finish {post : Int32 → SY → Prop} (hS : fr_Sx S bd ds) (hF : fr_FW D) (hM : fr_MW S D) (hH : fr_HL S D hl)
    (h0 : fr_Ff S → post 0 (fr_mY S D hy bd ds hl vr))
    (h1 : ¬ fr_Ff S → ∀ hl' vr', fr_HL (fr_S0 S) D hl' → post 1 (fr_mY (fr_S0 S) D hy bd ds hl' vr')) : wpY_finish post (fr_mY S D hy bd ds hl vr) := by
  cases hb : fr_bd S with
  | false => exact br_t (fr_bYf hb) (h0 (Or.inl hb))
  | true =>
    have hru := hS.1.2 hb
    have h4 := hS.1.1
    have hbe : fr_b S = fr_ru S - 1 := rfl
    have hR : fr_R S = fr_b S := fr_bd_R hb
    obtain ⟨hW, r1, _⟩ := hS.2.1 (fr_b S) (by omega)
    have hcl : (nI (fr_b S)).toNatClampNeg = fr_b S := nI_clamp (by omega)
    have hin : vp_in (nI (fr_b S)) 4 := vp_in_nI (by omega) (by omega)
    have hpn := hW.1.2.2.2.1
    refine br_f (by rw [fr_bYt hb]; decide) ?_
    rw [fr_ru1 hS hb]
    refine ⟨hin, ?_⟩
    rw [hcl, hW.1.2.2.1]
    refine pk_eq (fr_pn S (fr_b S)) 0 (fun e => h0 (Or.inr e)) (fun e => ?_)
    have hp0 : 0 < fr_pn S (fr_b S) := by omega
    have hfin := h1 (by rintro (h | h); rw [hb] at h; cases h; exact e h)
    obtain ⟨hS0, hR0⟩ := fr_S0_Sx hS hb hp0
    obtain ⟨enm, _⟩ := fr_S0_nm hS hb hp0 hM
    refine fr_y_settle (S := fr_S0 S) (D := D) (fr_Sx_W1 hS0) hF (fun c h1 h2 => fr_HL_ge hH c (by omega) h2) ?_
    intro hl' vr' hH'
    rw [enm]
    exact hfin hl' vr' hH'
end
end
section
def fr_z : fr_FN := fun _ => 0
def fr_Si : fr_SR := (0, false, fr_z, fr_z, fr_z, fr_z, fr_z, fr_z, fr_z, fr_z, fr_z, fr_z, fr_z, fr_z, fr_z, fr_z, fr_z, fr_z, fr_z, fr_z, fr_z)
def fr_Di : fr_DR := (fr_z, fr_z, fr_z, [], 0, fr_z, 0, fr_z)
def fr_Zi : fr_ZR := (fr_z, fr_z, fr_z, fr_z, fr_z, fr_z, fr_z)
def fr_Qi (nx fa : fr_FN) : fr_QR := (0, 0, fr_z, fr_z, nx, fa, fr_z, fr_z)
def fr_Ai0 : fr_AT := fun _ _ => none
theorem fr_Si_Sx (bd ds : fr_FN) : fr_Sx fr_Si bd ds := by
  have h0 : ∀ r, fr_cn fr_Si r = 0 := fun r => by show (0 : Int32).toNatClampNeg = 0; decide
  refine ⟨⟨Nat.zero_le _, fun h => by cases h⟩, fun r hr => absurd hr (Nat.not_lt_zero _), fun r hr => absurd hr (Nat.not_lt_zero _), fun r _ _ => ⟨rfl, rfl, rfl, rfl⟩, fun _ _ _ _ _ => rfl, fun _ _ _ _ _ => ⟨rfl, rfl⟩⟩
theorem fr_Qi_Fl {nx : fr_FN} (h : ∀ j, j < 1036 → nx j = nI (j + 1)) : ∀ (k i : Nat), i + k = 1036 → fr_Fl nx (nI i) (List.range' i k) := by
  intro k
  induction k with
  | zero =>
    intro i hi
    show nI i = nI 1036
    rw [show i = 1036 by omega]
  | succ k ih =>
    intro i hi
    rw [List.range'_succ]
    refine ⟨rfl, ?_⟩
    rw [h i (by omega)]
    exact ih (i + 1) (by omega)
theorem fr_Qi_PQ {nx fa : fr_FN} (h : ∀ j, j < 1036 → nx j = nI (j + 1) ∧ fa j = -2) : fr_PQ (fr_Qi nx fa) fr_Ai0 := by
  refine ⟨⟨(fun r p t e => by cases e), (fun _ _ _ _ _ e => by cases e)⟩, ⟨(fun _ _ e => by cases e), (fun _ _ _ _ e => by cases e)⟩, (fun _ _ e => by cases e), (fun _ _ _ e => by cases e), ?_, ⟨0, rfl, by omega, (fun _ _ _ e => by cases e)⟩⟩
  refine ⟨List.range' 0 1036, List.nodup_range' .., fr_Qi_Fl (fun j hj => (h j hj).1) 1036 0 (by omega), fun t ht => ?_, fun t ht hno => ?_⟩
  · rw [List.mem_range'_1] at ht
    exact ⟨by omega, (h t (by omega)).2, (fun _ _ e => by cases e)⟩
  · exfalso
    apply hno
    rw [List.mem_range'_1]
    omega
theorem fr_Di_Dy {nx fa hl : fr_FN} (h : ∀ j, j < 1036 → nx j = nI (j + 1) ∧ fa j = -2) (hh : ∀ c, hl c = 0) : fr_Dy fr_Si fr_Di fr_z (fr_Qi nx fa) fr_Ai0 hl 0 := by
  refine ⟨⟨⟨⟨List.nodup_nil, (fun x hx => by cases hx)⟩, fun _ _ _ => rfl, (fun x hx => by cases hx), List.Pairwise.nil, by decide⟩, fun c _ hne => absurd rfl hne, Nat.le_refl _⟩, ⟨fr_Qi_PQ h, fun r => ⟨(fun ⟨s, e⟩ => by cases e), fun hr => absurd hr (Nat.not_lt_zero _)⟩, (fun r p t e => by cases e)⟩, fun i hi => absurd hi (Nat.not_lt_zero _), fun c hc => ?_⟩
  rw [hh c, fr_hd_ge (by show 216 * 0 ≤ c; omega)]
  rfl
theorem fr_x_init {post : SX → Prop} (hp : ∀ nx fa, (∀ j, j < 1036 → nx j = nI (j + 1) ∧ fa j = -2) → post (fr_mX fr_Si fr_Di 0 fr_z (fr_Qi nx fa) fr_Zi)) : wpX_init post := by
  have hloop : ∀ (k n i : Nat) (nx fa : fr_FN), i + k = 1036 → k < n → (∀ j, j < i → nx j = nI (j + 1) ∧ fa j = -2) → wX_init_305 post (nI (fr_ru fr_Si)) (fr_bX fr_Si) (nI (fr_lv fr_Di).length) (nI (fr_md fr_Di)) (fr_fr (fr_Qi nx fa)) (fr_pk (fr_Qi nx fa)) (fr_pr fr_Di) 0 n (nI i) (fr_sa fr_Si) (fr_co fr_Si) (fr_po fr_Si) (fr_te fr_Si) (fr_ac fr_Si) (fr_cK fr_Si) (fr_cT fr_Si) (fr_cL fr_Si) (fr_cN fr_Si) (fr_tF fr_Si) (fr_tH fr_Si) (fr_tO fr_Si) (fr_vL fr_Si) (fr_vF fr_Si) (fr_aW fr_Si) (fr_aK fr_Si) (fr_aX fr_Si) (fr_aY fr_Si) (fr_aZ fr_Si) (fr_nu fr_Di) (fr_fd fr_Di) (fr_kd fr_Di) fr_z (fr_pa (fr_Qi nx fa)) (fr_ch (fr_Qi nx fa)) (fr_nx (fr_Qi nx fa)) (fr_fa (fr_Qi nx fa)) (fr_st (fr_Qi nx fa)) (fr_rt (fr_Qi nx fa)) (fr_zs fr_Zi) (fr_zg fr_Zi) (fr_zb fr_Zi) (fr_zm fr_Zi) (fr_zo fr_Zi) (fr_zn fr_Zi) (fr_zf fr_Zi) (fr_ou fr_Di) := by
    intro k
    induction k with
    | zero =>
      intro n i nx fa hi hn h
      obtain ⟨n, rfl⟩ : ∃ m, n = m + 1 := ⟨n - 1, by omega⟩
      exact br_t (nI_le (a := 1036) (by omega) (by omega)) (hp nx fa (fun j hj => h j (by omega)))
    | succ k ih =>
      intro n i nx fa hi hn h
      obtain ⟨n, rfl⟩ : ∃ m, n = m + 1 := ⟨n - 1, by omega⟩
      refine br_f (nI_ge (b := 1036) (by omega) (by omega)) ⟨vp_in_nI (by omega) (by omega), nm_r (e' := upd nx i (nI (i + 1))) (by rw [nI_clamp (by omega), nI_1, fr_s1616 (by omega)]; rfl) ⟨vp_in_nI (by omega) (by omega), nm_r (e' := upd fa i (-2)) (by rw [nI_clamp (by omega), fr_bm2]; rfl) (nm_r (nI_1 i) (ih n (i + 1) (upd nx i (nI (i + 1))) (upd fa i (-2)) (by omega) (by omega) (fun j hj => ?_)))⟩⟩
      by_cases e : j = i
      · rw [e, pk_us, pk_us]; exact ⟨rfl, rfl⟩
      · rw [pk_un e, pk_un e]; exact h j (by omega)
  exact ⟨1037, hloop 1036 1037 0 fr_z fr_z (by omega) (by omega) (fun j hj => absurd hj (Nat.not_lt_zero _))⟩
theorem fr_Kp_mono {S : fr_SR} {B B' : Nat} {D : fr_DR} (h : fr_Kp S B D) (hB : B ≤ B') : fr_Kp S B' D := ⟨h.1, h.2.1, Nat.le_trans h.2.2 hB⟩
theorem fr_Kp_rn {S : fr_SR} (hS : fr_W1 S) (hS3 : fr_W3 S) : ∀ (k i B : Nat) (D : fr_DR) (h : Int32), fr_Kp S B D → B + 4 * k < 2 ^ 27 → fr_Kp S (B + 4 * k) (fr_rn S D h i k).1.1 := by
  intro k
  induction k with
  | zero => intro i B D h hK _; exact hK
  | succ k ih =>
    intro i B D h hK hB
    rw [fr_rn]
    by_cases hh : h = 0
    · rw [if_pos hh]
      cases e : fr_nxt S D none with
      | none => exact fr_Kp_mono hK (by omega)
      | some c =>
        obtain ⟨h1, h2⟩ := fr_nxt_W hK.1 e
        have hR := fr_R_le (S := S)
        have hr := (fr_Wt_r hS h2).2
        have := ih (i + 1) (B + 4) _ (fr_fi S D h c).2 (fr_Kp_fi hS3 (by omega) hK h2 (by omega) h) (by omega)
        rw [show B + 4 * (k + 1) = B + 4 + 4 * k by omega]
        exact this
    · rw [if_neg hh]
      exact fr_Kp_mono hK (by omega)
end
section
/-- one table of rules S, one state of facts D for both; X keeps the pool q of partial matches, Y the choices that hold -/
def i_Rel (k : Nat) (u : SX) (v : SY) : Prop :=
  ∃ (S : fr_SR) (D : fr_DR) (hx hy : Int32) (o : fr_FN) (q : fr_QR) (z : fr_ZR) (A : fr_AT) (bd ds hl vr : fr_FN),
    u = fr_mX S D hx o q z ∧ v = fr_mY S D hy bd ds hl vr ∧ fr_Sx S bd ds ∧ fr_Dy S D o q A hl (16 * k)
theorem i_up {k : Nat} {u : SX} {v : SY} (h : i_Rel k u v) : i_Rel (k + 5) u v := by
  obtain ⟨S, D, hx, hy, o, q, z, A, bd, ds, hl, vr, e1, e2, hS, hK, hD⟩ := h
  exact ⟨S, D, hx, hy, o, q, z, A, bd, ds, hl, vr, e1, e2, hS, fr_Kp_mono hK (by omega), hD⟩
theorem i_vc0 : wpX_init (fun u => wpY_init (fun v => i_Rel 0 u v)) := by
  refine fr_x_init (fun nx fa h => ?_)
  exact ⟨fr_Si, fr_Di, 0, 0, fr_z, fr_Qi nx fa, fr_Zi, fr_Ai0, fr_z, fr_z, fr_z, fr_z, rfl, rfl, fr_Si_Sx _ _, fr_Di_Dy h (fun _ => rfl)⟩
theorem fr_rel {k : Nat} {S : fr_SR} {D : fr_DR} {hx hy : Int32} {o : fr_FN} {q : fr_QR} {z : fr_ZR} {A : fr_AT} {bd ds hl vr : fr_FN} {B : Nat} (hS : fr_Sx S bd ds) (hB : B ≤ 16 * k) (hK : fr_Kp S B D) (hX : fr_XI S D q A) (hO : fr_OK o (fr_lv D)) (hH : fr_HL S D hl) : i_Rel k (fr_mX S D hx o q z) (fr_mY S D hy bd ds hl vr) :=
  ⟨S, D, hx, hy, o, q, z, A, bd, ds, hl, vr, rfl, rfl, hS, fr_Kp_mono hK hB, hX, hO, hH⟩
theorem fr_relD {k : Nat} {S : fr_SR} {D : fr_DR} {hx hy : Int32} {o : fr_FN} {q : fr_QR} {z : fr_ZR} {A : fr_AT} {bd ds hl vr : fr_FN} {B : Nat} (hS : fr_Sx S bd ds) (hB : B ≤ 16 * k) (hD : fr_Dy S D o q A hl B) : i_Rel k (fr_mX S D hx o q z) (fr_mY S D hy bd ds hl vr) := fr_rel hS hB hD.1 hD.2.1 hD.2.2.1 hD.2.2.2
theorem i_vc_rule {k : Nat} {u : SX} {v : SY} (I : i_Rel k u v) (hk : k + 5 ≤ 2560) (v1 : Int32) : wpX_rule (fun r u' => wpY_rule (fun r' v' => r' = r ∧ i_Rel (k + 5) u' v') v v1) u v1 := by
  obtain ⟨S, D, hx, hy, o, q, z, A, bd, ds, hl, vr, rfl, rfl, hS, hD⟩ := I
  refine fr_x_rule hS.1.1 hS.1.2 (fun hf => fr_y_rule hS (fun _ => ⟨rfl, fr_relD hS (by omega) hD⟩) (fun hn => absurd hf hn)) (fun hn => fr_y_rule hS (fun hf => absurd hf hn) (fun _ => ⟨rfl, ?_⟩))
  have hb : fr_bd S = false := by
    cases h : fr_bd S with
    | false => rfl
    | true => exact absurd (Or.inl h) hn
  obtain ⟨s1, s2, s3⟩ := fr_S1_Sx (v := vp_nar .byte v1.toInt8.toInt32) hS hb (fun e => hn (Or.inr (Or.inl e)))
  exact fr_relD s1 (by omega) (fr_chgD (fr_Sx_W1 hS) s2 s3 hD)
theorem i_vc_condition {k : Nat} {u : SX} {v : SY} (I : i_Rel k u v) (hk : k + 5 ≤ 2560) (v1 : Int32) (v2 : Int32) : wpX_condition (fun r u' => wpY_condition (fun r' v' => r' = r ∧ i_Rel (k + 5) u' v') v v1 (lw_bz v2)) u v1 (lw_bz v2) := by
  obtain ⟨S, D, hx, hy, o, q, z, A, bd, ds, hl, vr, rfl, rfl, hS, hD⟩ := I
  refine fr_x_condition hS (lw_bz_01 v2) (fun hf => fr_y_condition hS (lw_bz_01 v2) (fun _ => ⟨rfl, fr_relD hS (by omega) hD⟩) (fun _ hn => absurd hf hn)) (fun po hn hp => fr_y_condition hS (lw_bz_01 v2) (fun hf => absurd hf hn) (fun po' _ hp' => ⟨rfl, ?_⟩))
  have epo : po' = po := by
    rcases hp with ⟨a, _, b⟩ | ⟨a, _, b⟩
    · rcases hp' with ⟨_, _, b'⟩ | ⟨a', _, _⟩
      · rw [b, b']
      · rw [a] at a'; exact absurd a' (by decide)
    · rcases hp' with ⟨a', _, _⟩ | ⟨_, _, b'⟩
      · rw [a] at a'; exact absurd a' (by decide)
      · rw [b, b']
  subst epo
  have hb : fr_bd S = true := by
    cases h : fr_bd S with
    | true => rfl
    | false => exact absurd (Or.inl h) hn
  have ha : fr_an S (fr_b S) = 0 := Classical.byContradiction fun h => hn (Or.inr (Or.inr (Or.inr (Or.inl h))))
  obtain ⟨s1, s2, s3⟩ := fr_S2_Sx (k := v1) hS hb ha hp
  exact fr_relD s1 (by omega) (fr_chgD (fr_Sx_W1 hS) s2 s3 hD)
theorem i_vc_test {k : Nat} {u : SX} {v : SY} (I : i_Rel k u v) (hk : k + 5 ≤ 2560) (v1 : Int32) (v2 : Int32) (v3 : Int32) : wpX_test (fun r u' => wpY_test (fun r' v' => r' = r ∧ i_Rel (k + 5) u' v') v v1 v2 v3) u v1 v2 v3 := by
  obtain ⟨S, D, hx, hy, o, q, z, A, bd, ds, hl, vr, rfl, rfl, hS, hD⟩ := I
  refine fr_x_test hS (fun hf => fr_y_test hS (fun _ => ⟨rfl, fr_relD hS (by omega) hD⟩) (fun _ _ _ hn => absurd hf hn)) (fun vL vF hn hp => fr_y_test hS (fun hf => absurd hf hn) (fun vL' vF' bd' _ hp' => ⟨rfl, ?_⟩))
  have e : vL' = vL ∧ vF' = vF := by
    rcases hp with ⟨a, _, y, y1, y2, _, b1, b2⟩ | ⟨a, _, b1, b2⟩
    · rcases hp' with ⟨_, _, y', bb, y1', y2', _, b1', b2', _⟩ | ⟨a', _⟩
      · have ey : y' = y := by
          rw [y2'] at y2
          exact (nI_eq (by omega) (by omega)).mp y2
        subst ey
        rw [b1, b2, b1', b2']
        exact ⟨rfl, rfl⟩
      · exact absurd a a'
    · rcases hp' with ⟨a', _⟩ | ⟨_, _, b1', b2', _⟩
      · exact absurd a' a
      · rw [b1, b2, b1', b2']
        exact ⟨rfl, rfl⟩
  obtain ⟨e1, e2⟩ := e
  subst e1
  subst e2
  have hb : fr_bd S = true := by
    cases h : fr_bd S with
    | true => rfl
    | false => exact absurd (Or.inl h) hn
  have hc : fr_cn S (fr_b S) ≠ 0 := fun h => hn (Or.inr (Or.inl h))
  have ha : fr_an S (fr_b S) = 0 := Classical.byContradiction fun h => hn (Or.inr (Or.inr (Or.inl h)))
  have ht : fr_tn S (fr_c1 S) ≠ 4 := fun h => hn (Or.inr (Or.inr (Or.inr (Or.inr (Or.inr (Or.inl h))))))
  obtain ⟨fj, hfj, ef⟩ := nI_of2 (x := v1) (M := 2) (n := 2) (by decide) (fun h => hn (Or.inr (Or.inr (Or.inr (Or.inl (Or.inl h)))))) (Int32.not_lt.mp (fun h => hn (Or.inr (Or.inr (Or.inr (Or.inl (Or.inr h)))))))
  obtain ⟨hj, hhj, eh⟩ := nI_of2 (x := v2) (M := 3) (n := 3) (by decide) (fun h => hn (Or.inr (Or.inr (Or.inr (Or.inr (Or.inl (Or.inl h))))))) (Int32.not_lt.mp (fun h => hn (Or.inr (Or.inr (Or.inr (Or.inr (Or.inl (Or.inr h))))))))
  obtain ⟨s1, s2, s3⟩ := fr_S3_Sx hS hb ha hc ht ⟨fj, by omega, ef⟩ ⟨hj, by omega, eh⟩ hp'
  exact fr_relD s1 (by omega) (fr_chgD (fr_Sx_W1 hS) s2 s3 hD)
theorem i_vc_make {k : Nat} {u : SX} {v : SY} (I : i_Rel k u v) (hk : k + 5 ≤ 2560) (v1 : Int32) (v2 : Int32) (v3 : Int32) (v4 : Int32) : wpX_make (fun r u' => wpY_make (fun r' v' => r' = r ∧ i_Rel (k + 5) u' v') v v1 v2 v3 v4) u v1 v2 v3 v4 := by
  obtain ⟨S, D, hx, hy, o, q, z, A, bd, ds, hl, vr, rfl, rfl, hS, hD⟩ := I
  refine fr_x_make hS (fun hf => fr_y_make hS (fun _ => ⟨rfl, fr_relD hS (by omega) hD⟩) (fun hn => absurd hf hn)) (fun hn => fr_y_make hS (fun hf => absurd hf hn) (fun _ j hj ej => ⟨rfl, ?_⟩))
  have hf : fr_Fa S := Classical.byContradiction fun h => hn (Or.inl h)
  have h1 : fr_Kw S v2 := Classical.byContradiction fun h => hn (Or.inr (Or.inr (Or.inr (Or.inl h))))
  have h2 : fr_Kw S v3 := Classical.byContradiction fun h => hn (Or.inr (Or.inr (Or.inr (Or.inr (Or.inl h)))))
  have h3 : fr_Kw S v4 := Classical.byContradiction fun h => hn (Or.inr (Or.inr (Or.inr (Or.inr (Or.inr h)))))
  obtain ⟨s1, s2, s3⟩ := fr_S4_Sx (w := 3) (k := v1) (x := v2) (d := nI (10 + j)) (aY := upd (fr_aY S) (fr_a0 S) v3) (aZ := upd (fr_aZ S) (fr_a0 S) v4) hS hf (Or.inr ⟨rfl, ⟨j, hj, ej, rfl⟩, h1, by rw [pk_us]; exact h2, by rw [pk_us]; exact h3⟩) (fun i hi => ⟨pk_un hi, pk_un hi⟩)
  exact fr_relD s1 (by omega) (fr_chgD (fr_Sx_W1 hS) s2 s3 hD)
theorem i_vc_act {k : Nat} {u : SX} {v : SY} (I : i_Rel k u v) (hk : k + 5 ≤ 2560) (v1 : Int32) (v2 : Int32) : wpX_act (fun r u' => wpY_act (fun r' v' => r' = r ∧ i_Rel (k + 5) u' v') v v1 v2) u v1 v2 := by
  obtain ⟨S, D, hx, hy, o, q, z, A, bd, ds, hl, vr, rfl, rfl, hS, hD⟩ := I
  refine fr_x_act hS (fun hf => fr_y_act hS (fun _ => ⟨rfl, fr_relD hS (by omega) hD⟩) (fun hn => absurd hf hn)) (fun hn => fr_y_act hS (fun hf => absurd hf hn) (fun _ => ⟨rfl, ?_⟩))
  have hf : fr_Fa S := Classical.byContradiction fun h => hn (Or.inl h)
  obtain ⟨j, hj, ew⟩ := nI_of2 (x := v1) (M := 2) (n := 2) (by decide) (fun h => hn (Or.inr (Or.inl h))) (Int32.not_lt.mp (fun h => hn (Or.inr (Or.inr (Or.inl h)))))
  have hA : ((v1 = 0 ∧ ∃ x', x' < fr_pn S (fr_b S) ∧ v2 = nI x') ∨ (v1 = 1 ∧ fr_Kw S v2) ∨ v1 = 2) ∧ v1 = v1 := by
    refine ⟨?_, rfl⟩
    have : j = 0 ∨ j = 1 ∨ j = 2 := by omega
    rcases this with h | h | h
    · have e0 : v1 = 0 := by rw [ew, h]; rfl
      exact Or.inl ⟨e0, Classical.byContradiction fun hh => hn (Or.inr (Or.inr (Or.inr (Or.inl ⟨e0, hh⟩))))⟩
    · have e0 : v1 = 1 := by rw [ew, h]; rfl
      exact Or.inr (Or.inl ⟨e0, Classical.byContradiction fun hh => hn (Or.inr (Or.inr (Or.inr (Or.inr ⟨e0, hh⟩))))⟩)
    · exact Or.inr (Or.inr (by rw [ew, h]; rfl))
  obtain ⟨s1, s2, s3⟩ := fr_S4_Sx (w := v1) (k := 0) (x := v2) (d := v1) (aY := fr_aY S) (aZ := fr_aZ S) hS hf (Or.inl hA) (fun i hi => ⟨rfl, rfl⟩)
  exact fr_relD s1 (by omega) (fr_chgD (fr_Sx_W1 hS) s2 s3 hD)
theorem i_vc_finish {k : Nat} {u : SX} {v : SY} (I : i_Rel k u v) (hk : k + 5 ≤ 2560) : wpX_finish (fun r u' => wpY_finish (fun r' v' => r' = r ∧ i_Rel (k + 5) u' v') v) u := by
  obtain ⟨S, D, hx, hy, o, q, z, A, bd, ds, hl, vr, rfl, rfl, hS, hK, hX, hO, hH⟩ := I
  refine fr_x_finish hS hK.1 hK.2.1 hX hO (fun hf => fr_y_finish hS hK.1 hK.2.1 hH (fun _ => ⟨rfl, fr_rel hS (by omega) hK hX hO hH⟩) (fun hn => absurd hf hn)) (fun hn q' A' z' hX' => fr_y_finish hS hK.1 hK.2.1 hH (fun hf => absurd hf hn) (fun _ hl' vr' hH' => ⟨rfl, ?_⟩))
  have hb : fr_bd S = true := by
    cases h : fr_bd S with
    | true => rfl
    | false => exact absurd (Or.inl h) hn
  have hp : 0 < fr_pn S (fr_b S) := Nat.pos_of_ne_zero (fun h => hn (Or.inr h))
  exact fr_rel (fr_S0_Sx hS hb hp).1 (by omega) ⟨hK.1, (fr_S0_nm hS hb hp hK.2.1).2, hK.2.2⟩ hX' hO hH'
theorem i_vc_add {k : Nat} {u : SX} {v : SY} (I : i_Rel k u v) (hk : k + 5 ≤ 2560) (v1 : Int32) (v2 : Int32) (v3 : Int32) (v4 : Int32) : wpX_add (fun r u' => wpY_add (fun r' v' => r' = r ∧ i_Rel (k + 5) u' v') v v1 v2 v3 v4) u v1 v2 v3 v4 := by
  obtain ⟨S, D, hx, hy, o, q, z, A, bd, ds, hl, vr, rfl, rfl, hS, hK, hX, hO, hH⟩ := I
  have hm := hK.2.2
  refine fr_x_add (fr_Sx_W1 hS) hK.1 hK.2.1 hX hO (by omega) (fun o' q' A' a c hX' hO' => fr_y_add (fr_Sx_W1 hS) hK.1 hH (by omega) (fun hl' vr' hH' => ⟨rfl, ?_⟩))
  exact fr_rel hS (by omega) (fr_Kp_add hK (by omega) _ _ _ _) hX' hO' hH'
theorem i_vc_remove {k : Nat} {u : SX} {v : SY} (I : i_Rel k u v) (hk : k + 5 ≤ 2560) (v1 : Int32) : wpX_remove (fun r u' => wpY_remove (fun r' v' => r' = r ∧ i_Rel (k + 5) u' v') v v1) u v1 := by
  obtain ⟨S, D, hx, hy, o, q, z, A, bd, ds, hl, vr, rfl, rfl, hS, hK, hX, hO, hH⟩ := I
  refine fr_x_remove (fr_Sx_W1 hS) hK.1 hK.2.1 hX hO (fun o' q' A' a c hX' hO' => fr_y_remove (fr_Sx_W1 hS) hK.1 hH (fun hl' vr' hH' => ⟨rfl, ?_⟩))
  exact fr_rel hS (by omega) (fr_Kp_rem hK _) hX' hO' hH'
theorem i_vc_run {k : Nat} {u : SX} {v : SY} (I : i_Rel k u v) (hk : k + 5 ≤ 2560) (v1 : Int32) : wpX_run (fun r u' => wpY_run (fun r' v' => r' = r ∧ i_Rel (k + 5) u' v') v v1) u v1 := by
  obtain ⟨S, D, hx, hy, o, q, z, A, bd, ds, hl, vr, rfl, rfl, hS, hK, hX, hO, hH⟩ := I
  by_cases h1 : v1 < 1
  · have h20 : v1 ≤ 20 := by
      rw [Int32.lt_iff_toInt_lt, show (1 : Int32).toInt = 1 by decide] at h1
      rw [Int32.le_iff_toInt_le, show (20 : Int32).toInt = 20 by decide]
      omega
    have h0 : v1 ≤ 0 := by
      rw [Int32.lt_iff_toInt_lt, show (1 : Int32).toInt = 1 by decide] at h1
      rw [Int32.le_iff_toInt_le, show (0 : Int32).toInt = 0 by decide]
      omega
    refine br_t h20 ⟨1, br_t h0 (br_t h1 ⟨rfl, ?_⟩)⟩
    exact fr_rel (hx := 0) hS (by omega) hK hX hO hH
  · by_cases h20 : v1 ≤ 20
    · have h0 : ¬ v1 < 0 := by
        intro h
        apply h1
        rw [Int32.lt_iff_toInt_lt, show (0 : Int32).toInt = 0 by decide] at h
        rw [Int32.lt_iff_toInt_lt, show (1 : Int32).toInt = 1 by decide]
        omega
      obtain ⟨N, hN, e⟩ := nI_of2 (M := 20) (n := 20) (by decide) h0 h20
      subst e
      refine br_t h20 ⟨N + 1, fr_x_run15 hN (fr_Sx_W1 hS) (fr_Sx_W2 hS) (fr_Sx_W3 hS) N (N + 1) 0 (16 * k) D 0 o q A z (by omega) (by omega) hK (by omega) hX hO ?_⟩
      intro o' q' A' z' hX' hO'
      refine br_f h1 (br_t h20 ⟨N + 1, fr_y_run20 hN (fr_Sx_W1 hS) (fr_Sx_W3 hS) (fr_Sx_DS hS) N (N + 1) 0 (16 * k) D 0 hl vr (by omega) (by omega) hK (by omega) hH ?_⟩)
      intro hl' vr' hH'
      exact ⟨rfl, fr_rel hS (by omega) (fr_Kp_rn (fr_Sx_W1 hS) (fr_Sx_W3 hS) N 0 (16 * k) D 0 hK (by omega)) hX' hO' hH'⟩
    · refine br_f h20 (br_f h1 (br_f h20 ⟨rfl, ?_⟩))
      exact fr_rel (hx := 0) hS (by omega) hK hX hO hH
theorem i_vc_agenda {k : Nat} {u : SX} {v : SY} (I : i_Rel k u v) (hk : k + 5 ≤ 2560) : wpX_agenda (fun r => wpY_agenda (fun r' => r' = r ∧ i_Rel (k + 5) u v) v) u := by
  have I' := i_up I
  obtain ⟨S, D, hx, hy, o, q, z, A, bd, ds, hl, vr, rfl, rfl, hS, hK, hX, hO, hH⟩ := I
  exact fr_x_agenda (fr_Sx_W1 hS) hX hK.1 (fr_y_agenda hH ⟨rfl, I'⟩)
theorem i_vc_ruleAt {k : Nat} {u : SX} {v : SY} (I : i_Rel k u v) (hk : k + 5 ≤ 2560) (v1 : Int32) : wpX_ruleAt (fun r u' => wpY_ruleAt (fun r' => r' = r ∧ i_Rel (k + 5) u' v) v v1) u v1 := by
  obtain ⟨S, D, hx, hy, o, q, z, A, bd, ds, hl, vr, rfl, rfl, hS, hK, hX, hO, hH⟩ := I
  refine fr_x_ruleAt (fr_Sx_W1 hS) (fr_Sx_W2 hS) hX hK.1 (fun hf => fr_y_ruleAt (fr_Sx_W1 hS) hK.1 hH (fun _ => ⟨rfl, fr_rel hS (by omega) hK hX hO hH⟩) (fun j hj e => ?_)) (fun j hj e b m w => fr_y_ruleAt (fr_Sx_W1 hS) hK.1 hH (fun hf => ?_) (fun j' hj' e' => ?_))
  · exfalso
    rw [e] at hf
    rcases hf with h | h
    · exact nI_pos (by omega) h
    · exact nI_nlt (b := j) (a := 15) (by omega) (by omega) h
  · exfalso
    rw [e] at hf
    rcases hf with h | h
    · exact nI_pos (by omega) h
    · exact nI_nlt (b := j) (a := 15) (by omega) (by omega) h
  · have ej : j' = j := by
      rw [e] at e'
      exact ((nI_eq (by omega) (by omega)).mp e').symm
    subst ej
    exact ⟨rfl, fr_rel hS (by omega) hK hX hO hH⟩
theorem i_vc_factAt {k : Nat} {u : SX} {v : SY} (I : i_Rel k u v) (hk : k + 5 ≤ 2560) (v1 : Int32) (v2 : Int32) : wpX_factAt (fun r u' => wpY_factAt (fun r' => r' = r ∧ i_Rel (k + 5) u' v) v v1 v2) u v1 v2 := by
  obtain ⟨S, D, hx, hy, o, q, z, A, bd, ds, hl, vr, rfl, rfl, hS, hK, hX, hO, hH⟩ := I
  have hex : ∀ i j, i < 16 → j < 2 ^ 31 → v1 = nI i → v2 = nI j → ¬ (v1 < 0 ∨ 15 < v1 ∨ v2 < 0) := by
    rintro i j hi hj e1 e2 (h | h | h)
    · rw [e1] at h; exact nI_pos (by omega) h
    · rw [e1] at h; exact nI_nlt (b := i) (a := 15) (by omega) (by omega) h
    · rw [e2] at h; exact nI_pos hj h
  refine fr_x_factAt (fr_Sx_W1 hS) (fr_Sx_W2 hS) hX hK.1 (fun hf => fr_y_factAt (fr_Sx_W1 hS) hK.1 hH (fun _ => ⟨rfl, fr_rel hS (by omega) hK hX hO hH⟩) (fun i j hi hj e1 e2 => absurd hf (hex i j hi hj e1 e2))) (fun i j hi hj e1 e2 b m w => fr_y_factAt (fr_Sx_W1 hS) hK.1 hH (fun hf => absurd hf (hex i j hi hj e1 e2)) (fun i' j' hi' hj' e1' e2' => ?_))
  have ei : i' = i := by
    rw [e1] at e1'
    exact ((nI_eq (by omega) (by omega)).mp e1').symm
  have ej : j' = j := by
    rw [e2] at e2'
    exact ((nI_eq hj hj').mp e2').symm
  subst ei
  subst ej
  exact ⟨rfl, fr_rel hS (by omega) hK hX hO hH⟩
theorem i_vc_facts {k : Nat} {u : SX} {v : SY} (I : i_Rel k u v) (hk : k + 5 ≤ 2560) : wpX_facts (fun r => wpY_facts (fun r' => r' = r ∧ i_Rel (k + 5) u v) v) u := by
  have I' := i_up I
  obtain ⟨S, D, hx, hy, o, q, z, A, bd, ds, hl, vr, rfl, rfl, hS, hK, hX, hO, hH⟩ := I
  exact fr_x_facts hK.1 (fr_y_facts hK.1 ⟨rfl, I'⟩)
theorem i_vc_fact {k : Nat} {u : SX} {v : SY} (I : i_Rel k u v) (hk : k + 5 ≤ 2560) (v1 : Int32) (v2 : Int32) : wpX_fact (fun r => wpY_fact (fun r' => r' = r ∧ i_Rel (k + 5) u v) v v1 v2) u v1 v2 := by
  have I' := i_up I
  obtain ⟨S, D, hx, hy, o, q, z, A, bd, ds, hl, vr, rfl, rfl, hS, hK, hX, hO, hH⟩ := I
  have hlen := fr_LV_len hK.1.1
  have hex : ∀ i j, i < (fr_lv D).length → j ≤ 4 → v1 = nI i → v2 = nI j → ¬ (v1 < 0 ∨ (∃ i, i < 2 ^ 31 ∧ v1 = nI i ∧ (fr_lv D).length ≤ i) ∨ v2 < 0 ∨ 4 < v2) := by
    rintro i j hi hj e1 e2 (h | ⟨i', a, b, c⟩ | h | h)
    · rw [e1] at h; exact nI_pos (by omega) h
    · rw [e1, nI_eq (by omega) a] at b; omega
    · rw [e2] at h; exact nI_pos (by omega) h
    · rw [e2] at h; exact nI_nlt (b := j) (a := 4) (by omega) (by omega) h
  refine fr_x_fact hK.1 hO (fun hf => fr_y_fact hK.1 (fun _ => ⟨rfl, I'⟩) (fun i j hi hj e1 e2 => absurd hf (hex i j hi hj e1 e2))) (fun i j hi hj e1 e2 => fr_y_fact hK.1 (fun hf => absurd hf (hex i j hi hj e1 e2)) (fun i' j' hi' hj' e1' e2' => ?_))
  have ei : i' = i := by
    rw [e1] at e1'
    exact ((nI_eq (by omega) (by omega)).mp e1').symm
  have ej : j' = j := by
    rw [e2] at e2'
    exact ((nI_eq (by omega) (by omega)).mp e2').symm
  subst ei
  subst ej
  exact ⟨rfl, I'⟩
theorem i_vc_printed {k : Nat} {u : SX} {v : SY} (I : i_Rel k u v) (hk : k + 5 ≤ 2560) (v1 : Int32) : wpX_printed (fun r => wpY_printed (fun r' => r' = r ∧ i_Rel (k + 5) u v) v v1) u v1 := by
  have I' := i_up I
  obtain ⟨S, D, hx, hy, o, q, z, A, bd, ds, hl, vr, rfl, rfl, hS, hK, hX, hO, hH⟩ := I
  have hin : vp_in (fr_pr D - 1 - v1 &&& 15) 16 := pk_andIn _ 4 (by decide) (by omega)
  by_cases h1 : v1 = -1
  · exact br_t h1 (br_t h1 ⟨rfl, I'⟩)
  · refine br_f h1 ?_
    by_cases h2 : v1 < 0
    · exact br_t h2 (br_f h1 (br_t h2 ⟨rfl, I'⟩))
    · refine br_f h2 ?_
      by_cases h3 : 15 < v1
      · exact br_t h3 (br_f h1 (br_f h2 (br_t h3 ⟨rfl, I'⟩)))
      · refine br_f h3 ?_
        by_cases h4 : v1 < fr_pr D
        · exact br_t h4 ⟨hin, br_f h1 (br_f h2 (br_f h3 (br_t h4 ⟨hin, rfl, I'⟩)))⟩
        · exact br_f h4 (br_f h1 (br_f h2 (br_f h3 (br_f h4 ⟨rfl, I'⟩))))
end
