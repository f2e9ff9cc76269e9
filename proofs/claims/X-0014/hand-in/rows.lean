section
/-! pure rows to paste: stores, nI and lN arithmetic, masks, shifts, narrowing, branches by naturals (pk_le, pk_lt, pk_eq), loops (lp1 .. lp16: the measure of the state; rp1 ..: recursion), negatives. Take what you need -/
theorem pk_us {f : Nat → Int32} {k : Nat} {x : Int32} : upd f k x k = x := if_pos rfl
theorem pk_un {f : Nat → Int32} {k j : Nat} {x : Int32} (h : j ≠ k) : upd f k x j = f j := if_neg h
theorem pk_uLs {f : Nat → Int64} {k : Nat} {x : Int64} : vp_updL f k x k = x := if_pos rfl
theorem pk_uLn {f : Nat → Int64} {k j : Nat} {x : Int64} (h : j ≠ k) : vp_updL f k x j = f j := if_neg h
theorem pk_sub {a b : Nat} (h : b ≤ a) : nI a - nI b = nI (a - b) := by
  obtain ⟨c, rfl⟩ : ∃ c, a = c + b := ⟨a - b, by omega⟩
  rw [← nI_add, Int32.add_sub_cancel, Nat.add_sub_cancel]
theorem pk_m1 (n : Nat) : nI (n + 1) + (-1) = nI n := by
  rw [← nI_1, Int32.add_assoc, show (1 : Int32) + (-1) = 0 from rfl, Int32.add_zero]
theorem pk_mul (a b : Nat) : nI a * nI b = nI (a * b) := (Int32.ofNat_mul a b).symm
theorem pk_div {a d : Nat} (ha : a < 2 ^ 31) (h0 : 0 < d) (hd : d < 2 ^ 31) : nI a / nI d = nI (a / d) := by
  apply Int32.toInt_inj.mp
  rw [lg_idiv_nonneg (by rw [nI_toInt ha]; omega) (by rw [nI_toInt hd]; omega), nI_toInt ha, nI_toInt hd, nI_toInt (Nat.lt_of_le_of_lt (Nat.div_le_self a d) ha)]
  first | rfl | exact (Int.natCast_ediv _ _).symm
theorem pk_rem {a d : Nat} (ha : a < 2 ^ 31) (h0 : 0 < d) (hd : d < 2 ^ 31) : nI a - nI a / nI d * nI d = nI (a % d) := by
  rw [pk_div ha h0 hd, pk_mul, pk_sub (Nat.div_mul_le_self a d)]
  exact congrArg nI (by have := Nat.div_add_mod' a d; omega)
theorem pk_sub_toInt {a b : Nat} (ha : a < 2 ^ 30) (hb : b < 2 ^ 30) : (nI a - nI b).toInt = (a : Int) - b := by
  rw [Int32.toInt_sub, nI_toInt (by omega), nI_toInt (by omega)]
  exact Int.bmod_eq_of_le (by omega) (by omega)
theorem pk_sneg {a b : Nat} (hb : b < 2 ^ 30) (h : a < b) : nI a - nI b < 0 := by
  rw [Int32.lt_iff_toInt_lt, pk_sub_toInt (by omega) hb, show (0 : Int32).toInt = 0 from by decide]
  omega
theorem pk_ix (x : Int32) {n : Nat} (hn : n < 2 ^ 31) : x < 0 ∨ nI n ≤ x ∨ ∃ j : Nat, j < n ∧ x = nI j := by
  by_cases h : x < 0
  · exact Or.inl h
  · obtain ⟨j, hj, rfl⟩ := nI_of h
    by_cases h2 : j < n
    · exact Or.inr (Or.inr ⟨j, h2, rfl⟩)
    · exact Or.inr (Or.inl (nI_le (by omega) hj))
theorem pk_le {x y : Int32} {A B : Prop} (a b : Nat) (f : a ≤ b → A) (g : b < a → B) (hx : x = nI a := by rfl) (hy : y = nI b := by rfl) (ha : a < 2 ^ 31 := by omega) (hb : b < 2 ^ 31 := by omega) : (x ≤ y → A) ∧ (¬ x ≤ y → B) := by
  subst hx hy
  rw [nI_leI ha hb]
  exact ⟨f, fun z => g (by omega)⟩
theorem pk_lt {x y : Int32} {A B : Prop} (a b : Nat) (f : a < b → A) (g : b ≤ a → B) (hx : x = nI a := by rfl) (hy : y = nI b := by rfl) (ha : a < 2 ^ 31 := by omega) (hb : b < 2 ^ 31 := by omega) : (x < y → A) ∧ (¬ x < y → B) := by
  subst hx hy
  rw [nI_ltI ha hb]
  exact ⟨f, fun z => g (by omega)⟩
theorem pk_eq {x y : Int32} {A B : Prop} (a b : Nat) (f : a = b → A) (g : a ≠ b → B) (hx : x = nI a := by rfl) (hy : y = nI b := by rfl) (ha : a < 2 ^ 31 := by omega) (hb : b < 2 ^ 31 := by omega) : (x = y → A) ∧ (¬ x = y → B) := by
  subst hx hy
  rw [nI_eq ha hb]
  exact ⟨f, g⟩
theorem pk_in {x : Int32} (n N : Nat) (h : n < N) (hx : x = nI n := by rfl) (hN : N < 2 ^ 31 := by omega) : vp_in x N := by
  subst hx
  exact vp_in_nI h hN
theorem pk_cl {x : Int32} (n : Nat) (hx : x = nI n := by rfl) (h : n < 2 ^ 31 := by omega) : x.toNatClampNeg = n := by
  subst hx
  exact nI_clamp h
theorem pk_tn {n : Nat} (h : n < 2 ^ 32) : (nI n).toBitVec.toNat = n := Nat.mod_eq_of_lt h
theorem pk_and (x : Int32) {m : Int32} (k : Nat) (hm : m.toBitVec.toNat = 2 ^ k - 1) : x &&& m = nI (x.toBitVec.toNat % 2 ^ k) := by
  apply Int32.toBitVec_inj.mp
  apply BitVec.eq_of_toNat_eq
  rw [Int32.toBitVec_and, BitVec.toNat_and, hm, Nat.and_two_pow_sub_one_eq_mod]
  show _ = (BitVec.ofNat 32 _).toNat
  rw [BitVec.toNat_ofNat]
  exact (Nat.mod_eq_of_lt (Nat.lt_of_le_of_lt (Nat.mod_le _ _) x.toBitVec.isLt)).symm
theorem pk_andN {n : Nat} (h : n < 2 ^ 32) {m : Int32} (k : Nat) (hm : m.toBitVec.toNat = 2 ^ k - 1) : nI n &&& m = nI (n % 2 ^ k) := by
  rw [pk_and _ k hm, pk_tn h]
theorem pk_andE (x : Int32) {m : Int32} (k : Nat) (hm : m.toBitVec.toNat = 2 ^ k - 1) : ∃ j : Nat, j < 2 ^ k ∧ x &&& m = nI j := ⟨_, Nat.mod_lt _ (Nat.two_pow_pos k), pk_and x k hm⟩
theorem pk_andIn (x : Int32) {m : Int32} (k : Nat) (hm : m.toBitVec.toNat = 2 ^ k - 1) (hk : k ≤ 30) : vp_in (x &&& m) (2 ^ k) := by
  obtain ⟨j, hj, e⟩ := pk_andE x k hm
  rw [e]
  exact vp_in_nI hj (Nat.lt_of_le_of_lt (Nat.pow_le_pow_right (by decide) hk) (by decide))
theorem pk_shl (a s : Int32) (k : Nat) (hs : (s.toBitVec.smod 32).toNat = k) : (a <<< s).toBitVec.toNat = a.toBitVec.toNat * 2 ^ k % 2 ^ 32 := by
  show (a.toBitVec <<< (s.toBitVec.smod 32).toNat).toNat = _
  rw [hs, BitVec.toNat_shiftLeft, Nat.shiftLeft_eq]
theorem pk_shlN {n : Nat} (s : Int32) (k : Nat) (hs : (s.toBitVec.smod 32).toNat = k) (h : n * 2 ^ k < 2 ^ 32) : nI n <<< s = nI (n * 2 ^ k) := by
  apply Int32.toBitVec_inj.mp
  apply BitVec.eq_of_toNat_eq
  have hn : n < 2 ^ 32 := Nat.lt_of_le_of_lt (Nat.le_mul_of_pos_right n (Nat.two_pow_pos k)) h
  rw [pk_shl _ _ k hs, pk_tn hn, pk_tn h, Nat.mod_eq_of_lt h]
theorem pk_shr (a s : Int32) (k : Nat) (hs : (s.toBitVec.smod 32).toNat = k) : (a >>> s).toInt = a.toInt >>> k := by
  show (a.toBitVec.sshiftRight (s.toBitVec.smod 32).toNat).toInt = _
  rw [hs, BitVec.toInt_sshiftRight]
  rfl
theorem pk_shrN {n : Nat} (h : n < 2 ^ 31) (s : Int32) (k : Nat) (hs : (s.toBitVec.smod 32).toNat = k) : nI n >>> s = nI (n / 2 ^ k) := by
  apply Int32.toInt_inj.mp
  have h2 : n / 2 ^ k ≤ n := Nat.div_le_self _ _
  rw [pk_shr _ _ k hs, nI_toInt h, nI_toInt (by omega), Int.shiftRight_eq_div_pow]
  rfl
theorem pk_ushr (x s : Int32) (k : Nat) (hs : ((s.toUInt32 &&& Int32.toUInt32 31).toBitVec % 32).toNat = k) : (x.toUInt32 >>> (s.toUInt32 &&& Int32.toUInt32 31)).toInt32.toBitVec.toNat = x.toBitVec.toNat / 2 ^ k := by
  have e : (x.toUInt32 >>> (s.toUInt32 &&& Int32.toUInt32 31)).toInt32.toBitVec = x.toBitVec >>> k := by
    rw [← hs]
    exact UInt32.toBitVec_shiftRight _ _
  rw [e, BitVec.toNat_ushiftRight, Nat.shiftRight_eq_div_pow]
theorem pk_ushrN {n : Nat} (hn : n < 2 ^ 32) (s : Int32) (k : Nat) (hs : ((s.toUInt32 &&& Int32.toUInt32 31).toBitVec % 32).toNat = k) : ((nI n).toUInt32 >>> (s.toUInt32 &&& Int32.toUInt32 31)).toInt32 = nI (n / 2 ^ k) := by
  apply Int32.toBitVec_inj.mp
  apply BitVec.eq_of_toNat_eq
  rw [pk_ushr _ s k hs, pk_tn hn, pk_tn (Nat.lt_of_le_of_lt (Nat.div_le_self _ _) hn)]
theorem pk_nb (z : Int32) : narrow .byte (.int z.toInt8.toInt32) = .int z.toInt8.toInt32 := congrArg Value.int (by simp)
theorem pk_ns (z : Int32) : narrow .short (.int z.toInt16.toInt32) = .int z.toInt16.toInt32 := congrArg Value.int (by simp)
theorem pk_fb (r : Int32) : fits .byte (.int r.toInt8.toInt32) = true := by
  have ⟨a, b⟩ := lg_i2b_range r
  have h1 : (-128 : Int32).toInt = -128 := by decide
  have h2 : (127 : Int32).toInt = 127 := by decide
  simp only [fits, Bool.and_eq_true, decide_eq_true_eq, Int32.le_iff_toInt_le, h1, h2]
  omega
theorem pk_fs (r : Int32) : fits .short (.int r.toInt16.toInt32) = true := by
  have ⟨a, b⟩ := lg_i2s_range r
  have h1 : (-32768 : Int32).toInt = -32768 := by decide
  have h2 : (32767 : Int32).toInt = 32767 := by decide
  simp only [fits, Bool.and_eq_true, decide_eq_true_eq, Int32.le_iff_toInt_le, h1, h2]
  omega
theorem pk_charN {q : Nat} (hq : q < 65536) : narrow .char (.int (nI q)) = .int (nI q) ∧ fits .char (.int (nI q)) = true := by
  constructor
  · have e : (nI q).toUInt32.toUInt16.toUInt32.toInt32 = nI q := by
      apply Int32.toBitVec_inj.mp
      apply BitVec.eq_of_toNat_eq
      show (nI q).toUInt32.toUInt16.toUInt32.toNat = q % 2 ^ 32
      rw [UInt16.toNat_toUInt32, UInt32.toNat_toUInt16, show (nI q).toUInt32.toNat = q % 2 ^ 32 from rfl]
      omega
    exact congrArg Value.int e
  · have a : (0 : Int32) ≤ nI q := nI_pos' (by omega)
    have b : nI q ≤ 65535 := nI_le (b := 65535) (by omega) (by decide)
    show (decide ((0 : Int32) ≤ nI q) && decide (nI q ≤ 65535)) = true
    rw [decide_eq_true a, decide_eq_true b]
    rfl
theorem pk_char (x : Int32) : (x.toUInt32 % 65536).toInt32 = nI (x.toBitVec.toNat % 65536) := by
  apply Int32.toBitVec_inj.mp
  apply BitVec.eq_of_toNat_eq
  rw [pk_tn (by omega)]
  show (x.toUInt32 % 65536).toNat = _
  rw [UInt32.toNat_mod]
  rfl
theorem pk_nc (x : Int32) : narrow .char (.int (x.toUInt32 % 65536).toInt32) = .int (x.toUInt32 % 65536).toInt32 := by
  rw [pk_char]
  exact (pk_charN (Nat.mod_lt _ (by decide))).1
theorem pk_fc (x : Int32) : fits .char (.int (x.toUInt32 % 65536).toInt32) = true := by
  rw [pk_char]
  exact (pk_charN (Nat.mod_lt _ (by decide))).2
theorem pk_vb (z : Int32) : vp_nar .byte z.toInt8.toInt32 = z.toInt8.toInt32 := by rw [vp_nar_byte]; simp
theorem pk_vs (z : Int32) : vp_nar .short z.toInt16.toInt32 = z.toInt16.toInt32 := by rw [vp_nar_short]; simp
theorem pk_vc (z : Int32) : vp_nar .char (z.toUInt32 % 65536).toInt32 = (z.toUInt32 % 65536).toInt32 := Value.int.inj (pk_nc z)
theorem pk_lT {n : Nat} (h : n < 2 ^ 63) : (lN n).toInt = (n : Int) := lg_ofNat_toInt h
theorem pk_lLT {a b : Nat} (ha : a < 2 ^ 63) (hb : b < 2 ^ 63) : lN a < lN b ↔ a < b := by
  rw [Int64.lt_iff_toInt_lt, pk_lT ha, pk_lT hb]; omega
theorem pk_lLE {a b : Nat} (ha : a < 2 ^ 63) (hb : b < 2 ^ 63) : lN a ≤ lN b ↔ a ≤ b := by
  rw [Int64.le_iff_toInt_le, pk_lT ha, pk_lT hb]; omega
theorem pk_lEQ {a b : Nat} (ha : a < 2 ^ 63) (hb : b < 2 ^ 63) : lN a = lN b ↔ a = b := by
  rw [← Int64.toInt_inj, pk_lT ha, pk_lT hb]; omega
theorem pk_lOf {x : Int64} (h : ¬ x < 0) : ∃ k : Nat, k < 2 ^ 63 ∧ x = lN k := by
  rw [Int64.lt_iff_toInt_lt] at h
  have h0 : (0 : Int64).toInt = 0 := by decide
  have hx := Int64.toInt_lt x
  refine ⟨x.toInt.toNat, by omega, Int64.toInt_inj.mp ?_⟩
  rw [pk_lT (by omega)]
  omega
theorem pk_lDiv {a b : Nat} (ha : a < 2 ^ 63) (h0 : 0 < b) (hb : b < 2 ^ 63) : lN a / lN b = lN (a / b) := by
  apply Int64.toInt_inj.mp
  rw [lg_ldiv_nonneg (by rw [pk_lT ha]; omega) (by rw [pk_lT hb]; omega), pk_lT ha, pk_lT hb, pk_lT (Nat.lt_of_le_of_lt (Nat.div_le_self a b) ha)]
  rfl
theorem pk_lRem {a b : Nat} (ha : a < 2 ^ 63) (h0 : 0 < b) (hb : b < 2 ^ 63) : lN a - lN a / lN b * lN b = lN (a % b) := by
  rw [pk_lDiv ha h0 hb, lN_mul, lN_sub (Nat.div_mul_le_self a b)]
  exact congrArg lN (by have := Nat.div_add_mod' a b; omega)
theorem pk_loop {σ : Type} (W : Nat → Nat → σ → Prop) (I : Nat → σ → Prop) (e i0 : Nat) (s : σ) (hi : i0 ≤ e) (h0 : I i0 s) (hx : ∀ n s, I e s → W (n + 1) e s)
    (hs : ∀ n i s, i < e → I i s → (∀ s', I (i + 1) s' → W n (i + 1) s') → W (n + 1) i s) : ∃ n, W n i0 s :=
  ⟨e + 1, loop_i W I e hx hs (e + 1) i0 s hi (by omega) h0⟩
theorem pk_loopD {σ : Type} (W : Nat → Nat → σ → Prop) (I : Nat → σ → Prop) (hx : ∀ n s, I 0 s → W (n + 1) 0 s)
    (hs : ∀ n i s, I (i + 1) s → (∀ s', I i s' → W n i s') → W (n + 1) (i + 1) s) : ∀ (e : Nat) (s : σ), I e s → W (e + 1) e s := by
  intro e
  induction e with
  | zero => exact fun s h => hx 0 s h
  | succ e ih => exact fun s h => hs (e + 1) e s h (fun s' h' => ih s' h')
theorem lp1 {A1 : Type} (W : Nat → A1 → Prop) (I : A1 → Prop) (μ : A1 → Nat) (hs : ∀ (n : Nat) (a1 : A1), I a1 → (∀ (b1 : A1), I b1 → μ b1 < μ a1 → W n b1) → W (n + 1) a1) (a1 : A1) (h : I a1) : ∃ n, W n a1 :=
  loop_m (σ := A1) (fun n s => W n s) (fun s => I s) (fun s => μ s) (fun n s hI hk => hs n s hI (fun b1 h9 hm => hk b1 h9 hm)) a1 h
theorem lp2 {A1 A2 : Type} (W : Nat → A1 → A2 → Prop) (I : A1 → A2 → Prop) (μ : A1 → A2 → Nat) (hs : ∀ (n : Nat) (a1 : A1) (a2 : A2), I a1 a2 → (∀ (b1 : A1) (b2 : A2), I b1 b2 → μ b1 b2 < μ a1 a2 → W n b1 b2) → W (n + 1) a1 a2) (a1 : A1) (a2 : A2) (h : I a1 a2) : ∃ n, W n a1 a2 :=
  loop_m (σ := A1 × A2) (fun n s => W n s.1 s.2) (fun s => I s.1 s.2) (fun s => μ s.1 s.2) (fun n s hI hk => hs n s.1 s.2 hI (fun b1 b2 h9 hm => hk (b1, b2) h9 hm)) (a1, a2) h
theorem lp3 {A1 A2 A3 : Type} (W : Nat → A1 → A2 → A3 → Prop) (I : A1 → A2 → A3 → Prop) (μ : A1 → A2 → A3 → Nat) (hs : ∀ (n : Nat) (a1 : A1) (a2 : A2) (a3 : A3), I a1 a2 a3 → (∀ (b1 : A1) (b2 : A2) (b3 : A3), I b1 b2 b3 → μ b1 b2 b3 < μ a1 a2 a3 → W n b1 b2 b3) → W (n + 1) a1 a2 a3) (a1 : A1) (a2 : A2) (a3 : A3) (h : I a1 a2 a3) : ∃ n, W n a1 a2 a3 :=
  loop_m (σ := A1 × A2 × A3) (fun n s => W n s.1 s.2.1 s.2.2) (fun s => I s.1 s.2.1 s.2.2) (fun s => μ s.1 s.2.1 s.2.2) (fun n s hI hk => hs n s.1 s.2.1 s.2.2 hI (fun b1 b2 b3 h9 hm => hk (b1, b2, b3) h9 hm)) (a1, a2, a3) h
theorem lp4 {A1 A2 A3 A4 : Type} (W : Nat → A1 → A2 → A3 → A4 → Prop) (I : A1 → A2 → A3 → A4 → Prop) (μ : A1 → A2 → A3 → A4 → Nat) (hs : ∀ (n : Nat) (a1 : A1) (a2 : A2) (a3 : A3) (a4 : A4), I a1 a2 a3 a4 → (∀ (b1 : A1) (b2 : A2) (b3 : A3) (b4 : A4), I b1 b2 b3 b4 → μ b1 b2 b3 b4 < μ a1 a2 a3 a4 → W n b1 b2 b3 b4) → W (n + 1) a1 a2 a3 a4) (a1 : A1) (a2 : A2) (a3 : A3) (a4 : A4) (h : I a1 a2 a3 a4) : ∃ n, W n a1 a2 a3 a4 :=
  loop_m (σ := A1 × A2 × A3 × A4) (fun n s => W n s.1 s.2.1 s.2.2.1 s.2.2.2) (fun s => I s.1 s.2.1 s.2.2.1 s.2.2.2) (fun s => μ s.1 s.2.1 s.2.2.1 s.2.2.2) (fun n s hI hk => hs n s.1 s.2.1 s.2.2.1 s.2.2.2 hI (fun b1 b2 b3 b4 h9 hm => hk (b1, b2, b3, b4) h9 hm)) (a1, a2, a3, a4) h
theorem lp5 {A1 A2 A3 A4 A5 : Type} (W : Nat → A1 → A2 → A3 → A4 → A5 → Prop) (I : A1 → A2 → A3 → A4 → A5 → Prop) (μ : A1 → A2 → A3 → A4 → A5 → Nat) (hs : ∀ (n : Nat) (a1 : A1) (a2 : A2) (a3 : A3) (a4 : A4) (a5 : A5), I a1 a2 a3 a4 a5 → (∀ (b1 : A1) (b2 : A2) (b3 : A3) (b4 : A4) (b5 : A5), I b1 b2 b3 b4 b5 → μ b1 b2 b3 b4 b5 < μ a1 a2 a3 a4 a5 → W n b1 b2 b3 b4 b5) → W (n + 1) a1 a2 a3 a4 a5) (a1 : A1) (a2 : A2) (a3 : A3) (a4 : A4) (a5 : A5) (h : I a1 a2 a3 a4 a5) : ∃ n, W n a1 a2 a3 a4 a5 :=
  loop_m (σ := A1 × A2 × A3 × A4 × A5) (fun n s => W n s.1 s.2.1 s.2.2.1 s.2.2.2.1 s.2.2.2.2) (fun s => I s.1 s.2.1 s.2.2.1 s.2.2.2.1 s.2.2.2.2) (fun s => μ s.1 s.2.1 s.2.2.1 s.2.2.2.1 s.2.2.2.2) (fun n s hI hk => hs n s.1 s.2.1 s.2.2.1 s.2.2.2.1 s.2.2.2.2 hI (fun b1 b2 b3 b4 b5 h9 hm => hk (b1, b2, b3, b4, b5) h9 hm)) (a1, a2, a3, a4, a5) h
theorem lp6 {A1 A2 A3 A4 A5 A6 : Type} (W : Nat → A1 → A2 → A3 → A4 → A5 → A6 → Prop) (I : A1 → A2 → A3 → A4 → A5 → A6 → Prop) (μ : A1 → A2 → A3 → A4 → A5 → A6 → Nat) (hs : ∀ (n : Nat) (a1 : A1) (a2 : A2) (a3 : A3) (a4 : A4) (a5 : A5) (a6 : A6), I a1 a2 a3 a4 a5 a6 → (∀ (b1 : A1) (b2 : A2) (b3 : A3) (b4 : A4) (b5 : A5) (b6 : A6), I b1 b2 b3 b4 b5 b6 → μ b1 b2 b3 b4 b5 b6 < μ a1 a2 a3 a4 a5 a6 → W n b1 b2 b3 b4 b5 b6) → W (n + 1) a1 a2 a3 a4 a5 a6) (a1 : A1) (a2 : A2) (a3 : A3) (a4 : A4) (a5 : A5) (a6 : A6) (h : I a1 a2 a3 a4 a5 a6) : ∃ n, W n a1 a2 a3 a4 a5 a6 :=
  loop_m (σ := A1 × A2 × A3 × A4 × A5 × A6) (fun n s => W n s.1 s.2.1 s.2.2.1 s.2.2.2.1 s.2.2.2.2.1 s.2.2.2.2.2) (fun s => I s.1 s.2.1 s.2.2.1 s.2.2.2.1 s.2.2.2.2.1 s.2.2.2.2.2) (fun s => μ s.1 s.2.1 s.2.2.1 s.2.2.2.1 s.2.2.2.2.1 s.2.2.2.2.2) (fun n s hI hk => hs n s.1 s.2.1 s.2.2.1 s.2.2.2.1 s.2.2.2.2.1 s.2.2.2.2.2 hI (fun b1 b2 b3 b4 b5 b6 h9 hm => hk (b1, b2, b3, b4, b5, b6) h9 hm)) (a1, a2, a3, a4, a5, a6) h
theorem lp7 {A1 A2 A3 A4 A5 A6 A7 : Type} (W : Nat → A1 → A2 → A3 → A4 → A5 → A6 → A7 → Prop) (I : A1 → A2 → A3 → A4 → A5 → A6 → A7 → Prop) (μ : A1 → A2 → A3 → A4 → A5 → A6 → A7 → Nat) (hs : ∀ (n : Nat) (a1 : A1) (a2 : A2) (a3 : A3) (a4 : A4) (a5 : A5) (a6 : A6) (a7 : A7), I a1 a2 a3 a4 a5 a6 a7 → (∀ (b1 : A1) (b2 : A2) (b3 : A3) (b4 : A4) (b5 : A5) (b6 : A6) (b7 : A7), I b1 b2 b3 b4 b5 b6 b7 → μ b1 b2 b3 b4 b5 b6 b7 < μ a1 a2 a3 a4 a5 a6 a7 → W n b1 b2 b3 b4 b5 b6 b7) → W (n + 1) a1 a2 a3 a4 a5 a6 a7) (a1 : A1) (a2 : A2) (a3 : A3) (a4 : A4) (a5 : A5) (a6 : A6) (a7 : A7) (h : I a1 a2 a3 a4 a5 a6 a7) : ∃ n, W n a1 a2 a3 a4 a5 a6 a7 :=
  loop_m (σ := A1 × A2 × A3 × A4 × A5 × A6 × A7) (fun n s => W n s.1 s.2.1 s.2.2.1 s.2.2.2.1 s.2.2.2.2.1 s.2.2.2.2.2.1 s.2.2.2.2.2.2) (fun s => I s.1 s.2.1 s.2.2.1 s.2.2.2.1 s.2.2.2.2.1 s.2.2.2.2.2.1 s.2.2.2.2.2.2) (fun s => μ s.1 s.2.1 s.2.2.1 s.2.2.2.1 s.2.2.2.2.1 s.2.2.2.2.2.1 s.2.2.2.2.2.2) (fun n s hI hk => hs n s.1 s.2.1 s.2.2.1 s.2.2.2.1 s.2.2.2.2.1 s.2.2.2.2.2.1 s.2.2.2.2.2.2 hI (fun b1 b2 b3 b4 b5 b6 b7 h9 hm => hk (b1, b2, b3, b4, b5, b6, b7) h9 hm)) (a1, a2, a3, a4, a5, a6, a7) h
theorem lp8 {A1 A2 A3 A4 A5 A6 A7 A8 : Type} (W : Nat → A1 → A2 → A3 → A4 → A5 → A6 → A7 → A8 → Prop) (I : A1 → A2 → A3 → A4 → A5 → A6 → A7 → A8 → Prop) (μ : A1 → A2 → A3 → A4 → A5 → A6 → A7 → A8 → Nat) (hs : ∀ (n : Nat) (a1 : A1) (a2 : A2) (a3 : A3) (a4 : A4) (a5 : A5) (a6 : A6) (a7 : A7) (a8 : A8), I a1 a2 a3 a4 a5 a6 a7 a8 → (∀ (b1 : A1) (b2 : A2) (b3 : A3) (b4 : A4) (b5 : A5) (b6 : A6) (b7 : A7) (b8 : A8), I b1 b2 b3 b4 b5 b6 b7 b8 → μ b1 b2 b3 b4 b5 b6 b7 b8 < μ a1 a2 a3 a4 a5 a6 a7 a8 → W n b1 b2 b3 b4 b5 b6 b7 b8) → W (n + 1) a1 a2 a3 a4 a5 a6 a7 a8) (a1 : A1) (a2 : A2) (a3 : A3) (a4 : A4) (a5 : A5) (a6 : A6) (a7 : A7) (a8 : A8) (h : I a1 a2 a3 a4 a5 a6 a7 a8) : ∃ n, W n a1 a2 a3 a4 a5 a6 a7 a8 :=
  loop_m (σ := A1 × A2 × A3 × A4 × A5 × A6 × A7 × A8) (fun n s => W n s.1 s.2.1 s.2.2.1 s.2.2.2.1 s.2.2.2.2.1 s.2.2.2.2.2.1 s.2.2.2.2.2.2.1 s.2.2.2.2.2.2.2) (fun s => I s.1 s.2.1 s.2.2.1 s.2.2.2.1 s.2.2.2.2.1 s.2.2.2.2.2.1 s.2.2.2.2.2.2.1 s.2.2.2.2.2.2.2) (fun s => μ s.1 s.2.1 s.2.2.1 s.2.2.2.1 s.2.2.2.2.1 s.2.2.2.2.2.1 s.2.2.2.2.2.2.1 s.2.2.2.2.2.2.2) (fun n s hI hk => hs n s.1 s.2.1 s.2.2.1 s.2.2.2.1 s.2.2.2.2.1 s.2.2.2.2.2.1 s.2.2.2.2.2.2.1 s.2.2.2.2.2.2.2 hI (fun b1 b2 b3 b4 b5 b6 b7 b8 h9 hm => hk (b1, b2, b3, b4, b5, b6, b7, b8) h9 hm)) (a1, a2, a3, a4, a5, a6, a7, a8) h
theorem lp9 {A1 A2 A3 A4 A5 A6 A7 A8 A9 : Type} (W : Nat → A1 → A2 → A3 → A4 → A5 → A6 → A7 → A8 → A9 → Prop) (I : A1 → A2 → A3 → A4 → A5 → A6 → A7 → A8 → A9 → Prop) (μ : A1 → A2 → A3 → A4 → A5 → A6 → A7 → A8 → A9 → Nat) (hs : ∀ (n : Nat) (a1 : A1) (a2 : A2) (a3 : A3) (a4 : A4) (a5 : A5) (a6 : A6) (a7 : A7) (a8 : A8) (a9 : A9), I a1 a2 a3 a4 a5 a6 a7 a8 a9 → (∀ (b1 : A1) (b2 : A2) (b3 : A3) (b4 : A4) (b5 : A5) (b6 : A6) (b7 : A7) (b8 : A8) (b9 : A9), I b1 b2 b3 b4 b5 b6 b7 b8 b9 → μ b1 b2 b3 b4 b5 b6 b7 b8 b9 < μ a1 a2 a3 a4 a5 a6 a7 a8 a9 → W n b1 b2 b3 b4 b5 b6 b7 b8 b9) → W (n + 1) a1 a2 a3 a4 a5 a6 a7 a8 a9) (a1 : A1) (a2 : A2) (a3 : A3) (a4 : A4) (a5 : A5) (a6 : A6) (a7 : A7) (a8 : A8) (a9 : A9) (h : I a1 a2 a3 a4 a5 a6 a7 a8 a9) : ∃ n, W n a1 a2 a3 a4 a5 a6 a7 a8 a9 :=
  loop_m (σ := A1 × A2 × A3 × A4 × A5 × A6 × A7 × A8 × A9) (fun n s => W n s.1 s.2.1 s.2.2.1 s.2.2.2.1 s.2.2.2.2.1 s.2.2.2.2.2.1 s.2.2.2.2.2.2.1 s.2.2.2.2.2.2.2.1 s.2.2.2.2.2.2.2.2) (fun s => I s.1 s.2.1 s.2.2.1 s.2.2.2.1 s.2.2.2.2.1 s.2.2.2.2.2.1 s.2.2.2.2.2.2.1 s.2.2.2.2.2.2.2.1 s.2.2.2.2.2.2.2.2) (fun s => μ s.1 s.2.1 s.2.2.1 s.2.2.2.1 s.2.2.2.2.1 s.2.2.2.2.2.1 s.2.2.2.2.2.2.1 s.2.2.2.2.2.2.2.1 s.2.2.2.2.2.2.2.2) (fun n s hI hk => hs n s.1 s.2.1 s.2.2.1 s.2.2.2.1 s.2.2.2.2.1 s.2.2.2.2.2.1 s.2.2.2.2.2.2.1 s.2.2.2.2.2.2.2.1 s.2.2.2.2.2.2.2.2 hI (fun b1 b2 b3 b4 b5 b6 b7 b8 b9 h9 hm => hk (b1, b2, b3, b4, b5, b6, b7, b8, b9) h9 hm)) (a1, a2, a3, a4, a5, a6, a7, a8, a9) h
theorem lp10 {A1 A2 A3 A4 A5 A6 A7 A8 A9 A10 : Type} (W : Nat → A1 → A2 → A3 → A4 → A5 → A6 → A7 → A8 → A9 → A10 → Prop) (I : A1 → A2 → A3 → A4 → A5 → A6 → A7 → A8 → A9 → A10 → Prop) (μ : A1 → A2 → A3 → A4 → A5 → A6 → A7 → A8 → A9 → A10 → Nat) (hs : ∀ (n : Nat) (a1 : A1) (a2 : A2) (a3 : A3) (a4 : A4) (a5 : A5) (a6 : A6) (a7 : A7) (a8 : A8) (a9 : A9) (a10 : A10), I a1 a2 a3 a4 a5 a6 a7 a8 a9 a10 → (∀ (b1 : A1) (b2 : A2) (b3 : A3) (b4 : A4) (b5 : A5) (b6 : A6) (b7 : A7) (b8 : A8) (b9 : A9) (b10 : A10), I b1 b2 b3 b4 b5 b6 b7 b8 b9 b10 → μ b1 b2 b3 b4 b5 b6 b7 b8 b9 b10 < μ a1 a2 a3 a4 a5 a6 a7 a8 a9 a10 → W n b1 b2 b3 b4 b5 b6 b7 b8 b9 b10) → W (n + 1) a1 a2 a3 a4 a5 a6 a7 a8 a9 a10) (a1 : A1) (a2 : A2) (a3 : A3) (a4 : A4) (a5 : A5) (a6 : A6) (a7 : A7) (a8 : A8) (a9 : A9) (a10 : A10) (h : I a1 a2 a3 a4 a5 a6 a7 a8 a9 a10) : ∃ n, W n a1 a2 a3 a4 a5 a6 a7 a8 a9 a10 :=
  loop_m (σ := A1 × A2 × A3 × A4 × A5 × A6 × A7 × A8 × A9 × A10) (fun n s => W n s.1 s.2.1 s.2.2.1 s.2.2.2.1 s.2.2.2.2.1 s.2.2.2.2.2.1 s.2.2.2.2.2.2.1 s.2.2.2.2.2.2.2.1 s.2.2.2.2.2.2.2.2.1 s.2.2.2.2.2.2.2.2.2) (fun s => I s.1 s.2.1 s.2.2.1 s.2.2.2.1 s.2.2.2.2.1 s.2.2.2.2.2.1 s.2.2.2.2.2.2.1 s.2.2.2.2.2.2.2.1 s.2.2.2.2.2.2.2.2.1 s.2.2.2.2.2.2.2.2.2) (fun s => μ s.1 s.2.1 s.2.2.1 s.2.2.2.1 s.2.2.2.2.1 s.2.2.2.2.2.1 s.2.2.2.2.2.2.1 s.2.2.2.2.2.2.2.1 s.2.2.2.2.2.2.2.2.1 s.2.2.2.2.2.2.2.2.2) (fun n s hI hk => hs n s.1 s.2.1 s.2.2.1 s.2.2.2.1 s.2.2.2.2.1 s.2.2.2.2.2.1 s.2.2.2.2.2.2.1 s.2.2.2.2.2.2.2.1 s.2.2.2.2.2.2.2.2.1 s.2.2.2.2.2.2.2.2.2 hI (fun b1 b2 b3 b4 b5 b6 b7 b8 b9 b10 h9 hm => hk (b1, b2, b3, b4, b5, b6, b7, b8, b9, b10) h9 hm)) (a1, a2, a3, a4, a5, a6, a7, a8, a9, a10) h
theorem lp11 {A1 A2 A3 A4 A5 A6 A7 A8 A9 A10 A11 : Type} (W : Nat → A1 → A2 → A3 → A4 → A5 → A6 → A7 → A8 → A9 → A10 → A11 → Prop) (I : A1 → A2 → A3 → A4 → A5 → A6 → A7 → A8 → A9 → A10 → A11 → Prop) (μ : A1 → A2 → A3 → A4 → A5 → A6 → A7 → A8 → A9 → A10 → A11 → Nat) (hs : ∀ (n : Nat) (a1 : A1) (a2 : A2) (a3 : A3) (a4 : A4) (a5 : A5) (a6 : A6) (a7 : A7) (a8 : A8) (a9 : A9) (a10 : A10) (a11 : A11), I a1 a2 a3 a4 a5 a6 a7 a8 a9 a10 a11 → (∀ (b1 : A1) (b2 : A2) (b3 : A3) (b4 : A4) (b5 : A5) (b6 : A6) (b7 : A7) (b8 : A8) (b9 : A9) (b10 : A10) (b11 : A11), I b1 b2 b3 b4 b5 b6 b7 b8 b9 b10 b11 → μ b1 b2 b3 b4 b5 b6 b7 b8 b9 b10 b11 < μ a1 a2 a3 a4 a5 a6 a7 a8 a9 a10 a11 → W n b1 b2 b3 b4 b5 b6 b7 b8 b9 b10 b11) → W (n + 1) a1 a2 a3 a4 a5 a6 a7 a8 a9 a10 a11) (a1 : A1) (a2 : A2) (a3 : A3) (a4 : A4) (a5 : A5) (a6 : A6) (a7 : A7) (a8 : A8) (a9 : A9) (a10 : A10) (a11 : A11) (h : I a1 a2 a3 a4 a5 a6 a7 a8 a9 a10 a11) : ∃ n, W n a1 a2 a3 a4 a5 a6 a7 a8 a9 a10 a11 :=
  loop_m (σ := A1 × A2 × A3 × A4 × A5 × A6 × A7 × A8 × A9 × A10 × A11) (fun n s => W n s.1 s.2.1 s.2.2.1 s.2.2.2.1 s.2.2.2.2.1 s.2.2.2.2.2.1 s.2.2.2.2.2.2.1 s.2.2.2.2.2.2.2.1 s.2.2.2.2.2.2.2.2.1 s.2.2.2.2.2.2.2.2.2.1 s.2.2.2.2.2.2.2.2.2.2) (fun s => I s.1 s.2.1 s.2.2.1 s.2.2.2.1 s.2.2.2.2.1 s.2.2.2.2.2.1 s.2.2.2.2.2.2.1 s.2.2.2.2.2.2.2.1 s.2.2.2.2.2.2.2.2.1 s.2.2.2.2.2.2.2.2.2.1 s.2.2.2.2.2.2.2.2.2.2) (fun s => μ s.1 s.2.1 s.2.2.1 s.2.2.2.1 s.2.2.2.2.1 s.2.2.2.2.2.1 s.2.2.2.2.2.2.1 s.2.2.2.2.2.2.2.1 s.2.2.2.2.2.2.2.2.1 s.2.2.2.2.2.2.2.2.2.1 s.2.2.2.2.2.2.2.2.2.2) (fun n s hI hk => hs n s.1 s.2.1 s.2.2.1 s.2.2.2.1 s.2.2.2.2.1 s.2.2.2.2.2.1 s.2.2.2.2.2.2.1 s.2.2.2.2.2.2.2.1 s.2.2.2.2.2.2.2.2.1 s.2.2.2.2.2.2.2.2.2.1 s.2.2.2.2.2.2.2.2.2.2 hI (fun b1 b2 b3 b4 b5 b6 b7 b8 b9 b10 b11 h9 hm => hk (b1, b2, b3, b4, b5, b6, b7, b8, b9, b10, b11) h9 hm)) (a1, a2, a3, a4, a5, a6, a7, a8, a9, a10, a11) h
theorem lp12 {A1 A2 A3 A4 A5 A6 A7 A8 A9 A10 A11 A12 : Type} (W : Nat → A1 → A2 → A3 → A4 → A5 → A6 → A7 → A8 → A9 → A10 → A11 → A12 → Prop) (I : A1 → A2 → A3 → A4 → A5 → A6 → A7 → A8 → A9 → A10 → A11 → A12 → Prop) (μ : A1 → A2 → A3 → A4 → A5 → A6 → A7 → A8 → A9 → A10 → A11 → A12 → Nat) (hs : ∀ (n : Nat) (a1 : A1) (a2 : A2) (a3 : A3) (a4 : A4) (a5 : A5) (a6 : A6) (a7 : A7) (a8 : A8) (a9 : A9) (a10 : A10) (a11 : A11) (a12 : A12), I a1 a2 a3 a4 a5 a6 a7 a8 a9 a10 a11 a12 → (∀ (b1 : A1) (b2 : A2) (b3 : A3) (b4 : A4) (b5 : A5) (b6 : A6) (b7 : A7) (b8 : A8) (b9 : A9) (b10 : A10) (b11 : A11) (b12 : A12), I b1 b2 b3 b4 b5 b6 b7 b8 b9 b10 b11 b12 → μ b1 b2 b3 b4 b5 b6 b7 b8 b9 b10 b11 b12 < μ a1 a2 a3 a4 a5 a6 a7 a8 a9 a10 a11 a12 → W n b1 b2 b3 b4 b5 b6 b7 b8 b9 b10 b11 b12) → W (n + 1) a1 a2 a3 a4 a5 a6 a7 a8 a9 a10 a11 a12) (a1 : A1) (a2 : A2) (a3 : A3) (a4 : A4) (a5 : A5) (a6 : A6) (a7 : A7) (a8 : A8) (a9 : A9) (a10 : A10) (a11 : A11) (a12 : A12) (h : I a1 a2 a3 a4 a5 a6 a7 a8 a9 a10 a11 a12) : ∃ n, W n a1 a2 a3 a4 a5 a6 a7 a8 a9 a10 a11 a12 :=
  loop_m (σ := A1 × A2 × A3 × A4 × A5 × A6 × A7 × A8 × A9 × A10 × A11 × A12) (fun n s => W n s.1 s.2.1 s.2.2.1 s.2.2.2.1 s.2.2.2.2.1 s.2.2.2.2.2.1 s.2.2.2.2.2.2.1 s.2.2.2.2.2.2.2.1 s.2.2.2.2.2.2.2.2.1 s.2.2.2.2.2.2.2.2.2.1 s.2.2.2.2.2.2.2.2.2.2.1 s.2.2.2.2.2.2.2.2.2.2.2) (fun s => I s.1 s.2.1 s.2.2.1 s.2.2.2.1 s.2.2.2.2.1 s.2.2.2.2.2.1 s.2.2.2.2.2.2.1 s.2.2.2.2.2.2.2.1 s.2.2.2.2.2.2.2.2.1 s.2.2.2.2.2.2.2.2.2.1 s.2.2.2.2.2.2.2.2.2.2.1 s.2.2.2.2.2.2.2.2.2.2.2) (fun s => μ s.1 s.2.1 s.2.2.1 s.2.2.2.1 s.2.2.2.2.1 s.2.2.2.2.2.1 s.2.2.2.2.2.2.1 s.2.2.2.2.2.2.2.1 s.2.2.2.2.2.2.2.2.1 s.2.2.2.2.2.2.2.2.2.1 s.2.2.2.2.2.2.2.2.2.2.1 s.2.2.2.2.2.2.2.2.2.2.2) (fun n s hI hk => hs n s.1 s.2.1 s.2.2.1 s.2.2.2.1 s.2.2.2.2.1 s.2.2.2.2.2.1 s.2.2.2.2.2.2.1 s.2.2.2.2.2.2.2.1 s.2.2.2.2.2.2.2.2.1 s.2.2.2.2.2.2.2.2.2.1 s.2.2.2.2.2.2.2.2.2.2.1 s.2.2.2.2.2.2.2.2.2.2.2 hI (fun b1 b2 b3 b4 b5 b6 b7 b8 b9 b10 b11 b12 h9 hm => hk (b1, b2, b3, b4, b5, b6, b7, b8, b9, b10, b11, b12) h9 hm)) (a1, a2, a3, a4, a5, a6, a7, a8, a9, a10, a11, a12) h
theorem lp13 {A1 A2 A3 A4 A5 A6 A7 A8 A9 A10 A11 A12 A13 : Type} (W : Nat → A1 → A2 → A3 → A4 → A5 → A6 → A7 → A8 → A9 → A10 → A11 → A12 → A13 → Prop) (I : A1 → A2 → A3 → A4 → A5 → A6 → A7 → A8 → A9 → A10 → A11 → A12 → A13 → Prop) (μ : A1 → A2 → A3 → A4 → A5 → A6 → A7 → A8 → A9 → A10 → A11 → A12 → A13 → Nat) (hs : ∀ (n : Nat) (a1 : A1) (a2 : A2) (a3 : A3) (a4 : A4) (a5 : A5) (a6 : A6) (a7 : A7) (a8 : A8) (a9 : A9) (a10 : A10) (a11 : A11) (a12 : A12) (a13 : A13), I a1 a2 a3 a4 a5 a6 a7 a8 a9 a10 a11 a12 a13 → (∀ (b1 : A1) (b2 : A2) (b3 : A3) (b4 : A4) (b5 : A5) (b6 : A6) (b7 : A7) (b8 : A8) (b9 : A9) (b10 : A10) (b11 : A11) (b12 : A12) (b13 : A13), I b1 b2 b3 b4 b5 b6 b7 b8 b9 b10 b11 b12 b13 → μ b1 b2 b3 b4 b5 b6 b7 b8 b9 b10 b11 b12 b13 < μ a1 a2 a3 a4 a5 a6 a7 a8 a9 a10 a11 a12 a13 → W n b1 b2 b3 b4 b5 b6 b7 b8 b9 b10 b11 b12 b13) → W (n + 1) a1 a2 a3 a4 a5 a6 a7 a8 a9 a10 a11 a12 a13) (a1 : A1) (a2 : A2) (a3 : A3) (a4 : A4) (a5 : A5) (a6 : A6) (a7 : A7) (a8 : A8) (a9 : A9) (a10 : A10) (a11 : A11) (a12 : A12) (a13 : A13) (h : I a1 a2 a3 a4 a5 a6 a7 a8 a9 a10 a11 a12 a13) : ∃ n, W n a1 a2 a3 a4 a5 a6 a7 a8 a9 a10 a11 a12 a13 :=
  loop_m (σ := A1 × A2 × A3 × A4 × A5 × A6 × A7 × A8 × A9 × A10 × A11 × A12 × A13) (fun n s => W n s.1 s.2.1 s.2.2.1 s.2.2.2.1 s.2.2.2.2.1 s.2.2.2.2.2.1 s.2.2.2.2.2.2.1 s.2.2.2.2.2.2.2.1 s.2.2.2.2.2.2.2.2.1 s.2.2.2.2.2.2.2.2.2.1 s.2.2.2.2.2.2.2.2.2.2.1 s.2.2.2.2.2.2.2.2.2.2.2.1 s.2.2.2.2.2.2.2.2.2.2.2.2) (fun s => I s.1 s.2.1 s.2.2.1 s.2.2.2.1 s.2.2.2.2.1 s.2.2.2.2.2.1 s.2.2.2.2.2.2.1 s.2.2.2.2.2.2.2.1 s.2.2.2.2.2.2.2.2.1 s.2.2.2.2.2.2.2.2.2.1 s.2.2.2.2.2.2.2.2.2.2.1 s.2.2.2.2.2.2.2.2.2.2.2.1 s.2.2.2.2.2.2.2.2.2.2.2.2) (fun s => μ s.1 s.2.1 s.2.2.1 s.2.2.2.1 s.2.2.2.2.1 s.2.2.2.2.2.1 s.2.2.2.2.2.2.1 s.2.2.2.2.2.2.2.1 s.2.2.2.2.2.2.2.2.1 s.2.2.2.2.2.2.2.2.2.1 s.2.2.2.2.2.2.2.2.2.2.1 s.2.2.2.2.2.2.2.2.2.2.2.1 s.2.2.2.2.2.2.2.2.2.2.2.2) (fun n s hI hk => hs n s.1 s.2.1 s.2.2.1 s.2.2.2.1 s.2.2.2.2.1 s.2.2.2.2.2.1 s.2.2.2.2.2.2.1 s.2.2.2.2.2.2.2.1 s.2.2.2.2.2.2.2.2.1 s.2.2.2.2.2.2.2.2.2.1 s.2.2.2.2.2.2.2.2.2.2.1 s.2.2.2.2.2.2.2.2.2.2.2.1 s.2.2.2.2.2.2.2.2.2.2.2.2 hI (fun b1 b2 b3 b4 b5 b6 b7 b8 b9 b10 b11 b12 b13 h9 hm => hk (b1, b2, b3, b4, b5, b6, b7, b8, b9, b10, b11, b12, b13) h9 hm)) (a1, a2, a3, a4, a5, a6, a7, a8, a9, a10, a11, a12, a13) h
theorem lp14 {A1 A2 A3 A4 A5 A6 A7 A8 A9 A10 A11 A12 A13 A14 : Type} (W : Nat → A1 → A2 → A3 → A4 → A5 → A6 → A7 → A8 → A9 → A10 → A11 → A12 → A13 → A14 → Prop) (I : A1 → A2 → A3 → A4 → A5 → A6 → A7 → A8 → A9 → A10 → A11 → A12 → A13 → A14 → Prop) (μ : A1 → A2 → A3 → A4 → A5 → A6 → A7 → A8 → A9 → A10 → A11 → A12 → A13 → A14 → Nat) (hs : ∀ (n : Nat) (a1 : A1) (a2 : A2) (a3 : A3) (a4 : A4) (a5 : A5) (a6 : A6) (a7 : A7) (a8 : A8) (a9 : A9) (a10 : A10) (a11 : A11) (a12 : A12) (a13 : A13) (a14 : A14), I a1 a2 a3 a4 a5 a6 a7 a8 a9 a10 a11 a12 a13 a14 → (∀ (b1 : A1) (b2 : A2) (b3 : A3) (b4 : A4) (b5 : A5) (b6 : A6) (b7 : A7) (b8 : A8) (b9 : A9) (b10 : A10) (b11 : A11) (b12 : A12) (b13 : A13) (b14 : A14), I b1 b2 b3 b4 b5 b6 b7 b8 b9 b10 b11 b12 b13 b14 → μ b1 b2 b3 b4 b5 b6 b7 b8 b9 b10 b11 b12 b13 b14 < μ a1 a2 a3 a4 a5 a6 a7 a8 a9 a10 a11 a12 a13 a14 → W n b1 b2 b3 b4 b5 b6 b7 b8 b9 b10 b11 b12 b13 b14) → W (n + 1) a1 a2 a3 a4 a5 a6 a7 a8 a9 a10 a11 a12 a13 a14) (a1 : A1) (a2 : A2) (a3 : A3) (a4 : A4) (a5 : A5) (a6 : A6) (a7 : A7) (a8 : A8) (a9 : A9) (a10 : A10) (a11 : A11) (a12 : A12) (a13 : A13) (a14 : A14) (h : I a1 a2 a3 a4 a5 a6 a7 a8 a9 a10 a11 a12 a13 a14) : ∃ n, W n a1 a2 a3 a4 a5 a6 a7 a8 a9 a10 a11 a12 a13 a14 :=
  loop_m (σ := A1 × A2 × A3 × A4 × A5 × A6 × A7 × A8 × A9 × A10 × A11 × A12 × A13 × A14) (fun n s => W n s.1 s.2.1 s.2.2.1 s.2.2.2.1 s.2.2.2.2.1 s.2.2.2.2.2.1 s.2.2.2.2.2.2.1 s.2.2.2.2.2.2.2.1 s.2.2.2.2.2.2.2.2.1 s.2.2.2.2.2.2.2.2.2.1 s.2.2.2.2.2.2.2.2.2.2.1 s.2.2.2.2.2.2.2.2.2.2.2.1 s.2.2.2.2.2.2.2.2.2.2.2.2.1 s.2.2.2.2.2.2.2.2.2.2.2.2.2) (fun s => I s.1 s.2.1 s.2.2.1 s.2.2.2.1 s.2.2.2.2.1 s.2.2.2.2.2.1 s.2.2.2.2.2.2.1 s.2.2.2.2.2.2.2.1 s.2.2.2.2.2.2.2.2.1 s.2.2.2.2.2.2.2.2.2.1 s.2.2.2.2.2.2.2.2.2.2.1 s.2.2.2.2.2.2.2.2.2.2.2.1 s.2.2.2.2.2.2.2.2.2.2.2.2.1 s.2.2.2.2.2.2.2.2.2.2.2.2.2) (fun s => μ s.1 s.2.1 s.2.2.1 s.2.2.2.1 s.2.2.2.2.1 s.2.2.2.2.2.1 s.2.2.2.2.2.2.1 s.2.2.2.2.2.2.2.1 s.2.2.2.2.2.2.2.2.1 s.2.2.2.2.2.2.2.2.2.1 s.2.2.2.2.2.2.2.2.2.2.1 s.2.2.2.2.2.2.2.2.2.2.2.1 s.2.2.2.2.2.2.2.2.2.2.2.2.1 s.2.2.2.2.2.2.2.2.2.2.2.2.2) (fun n s hI hk => hs n s.1 s.2.1 s.2.2.1 s.2.2.2.1 s.2.2.2.2.1 s.2.2.2.2.2.1 s.2.2.2.2.2.2.1 s.2.2.2.2.2.2.2.1 s.2.2.2.2.2.2.2.2.1 s.2.2.2.2.2.2.2.2.2.1 s.2.2.2.2.2.2.2.2.2.2.1 s.2.2.2.2.2.2.2.2.2.2.2.1 s.2.2.2.2.2.2.2.2.2.2.2.2.1 s.2.2.2.2.2.2.2.2.2.2.2.2.2 hI (fun b1 b2 b3 b4 b5 b6 b7 b8 b9 b10 b11 b12 b13 b14 h9 hm => hk (b1, b2, b3, b4, b5, b6, b7, b8, b9, b10, b11, b12, b13, b14) h9 hm)) (a1, a2, a3, a4, a5, a6, a7, a8, a9, a10, a11, a12, a13, a14) h
theorem lp15 {A1 A2 A3 A4 A5 A6 A7 A8 A9 A10 A11 A12 A13 A14 A15 : Type} (W : Nat → A1 → A2 → A3 → A4 → A5 → A6 → A7 → A8 → A9 → A10 → A11 → A12 → A13 → A14 → A15 → Prop) (I : A1 → A2 → A3 → A4 → A5 → A6 → A7 → A8 → A9 → A10 → A11 → A12 → A13 → A14 → A15 → Prop) (μ : A1 → A2 → A3 → A4 → A5 → A6 → A7 → A8 → A9 → A10 → A11 → A12 → A13 → A14 → A15 → Nat) (hs : ∀ (n : Nat) (a1 : A1) (a2 : A2) (a3 : A3) (a4 : A4) (a5 : A5) (a6 : A6) (a7 : A7) (a8 : A8) (a9 : A9) (a10 : A10) (a11 : A11) (a12 : A12) (a13 : A13) (a14 : A14) (a15 : A15), I a1 a2 a3 a4 a5 a6 a7 a8 a9 a10 a11 a12 a13 a14 a15 → (∀ (b1 : A1) (b2 : A2) (b3 : A3) (b4 : A4) (b5 : A5) (b6 : A6) (b7 : A7) (b8 : A8) (b9 : A9) (b10 : A10) (b11 : A11) (b12 : A12) (b13 : A13) (b14 : A14) (b15 : A15), I b1 b2 b3 b4 b5 b6 b7 b8 b9 b10 b11 b12 b13 b14 b15 → μ b1 b2 b3 b4 b5 b6 b7 b8 b9 b10 b11 b12 b13 b14 b15 < μ a1 a2 a3 a4 a5 a6 a7 a8 a9 a10 a11 a12 a13 a14 a15 → W n b1 b2 b3 b4 b5 b6 b7 b8 b9 b10 b11 b12 b13 b14 b15) → W (n + 1) a1 a2 a3 a4 a5 a6 a7 a8 a9 a10 a11 a12 a13 a14 a15) (a1 : A1) (a2 : A2) (a3 : A3) (a4 : A4) (a5 : A5) (a6 : A6) (a7 : A7) (a8 : A8) (a9 : A9) (a10 : A10) (a11 : A11) (a12 : A12) (a13 : A13) (a14 : A14) (a15 : A15) (h : I a1 a2 a3 a4 a5 a6 a7 a8 a9 a10 a11 a12 a13 a14 a15) : ∃ n, W n a1 a2 a3 a4 a5 a6 a7 a8 a9 a10 a11 a12 a13 a14 a15 :=
  loop_m (σ := A1 × A2 × A3 × A4 × A5 × A6 × A7 × A8 × A9 × A10 × A11 × A12 × A13 × A14 × A15) (fun n s => W n s.1 s.2.1 s.2.2.1 s.2.2.2.1 s.2.2.2.2.1 s.2.2.2.2.2.1 s.2.2.2.2.2.2.1 s.2.2.2.2.2.2.2.1 s.2.2.2.2.2.2.2.2.1 s.2.2.2.2.2.2.2.2.2.1 s.2.2.2.2.2.2.2.2.2.2.1 s.2.2.2.2.2.2.2.2.2.2.2.1 s.2.2.2.2.2.2.2.2.2.2.2.2.1 s.2.2.2.2.2.2.2.2.2.2.2.2.2.1 s.2.2.2.2.2.2.2.2.2.2.2.2.2.2) (fun s => I s.1 s.2.1 s.2.2.1 s.2.2.2.1 s.2.2.2.2.1 s.2.2.2.2.2.1 s.2.2.2.2.2.2.1 s.2.2.2.2.2.2.2.1 s.2.2.2.2.2.2.2.2.1 s.2.2.2.2.2.2.2.2.2.1 s.2.2.2.2.2.2.2.2.2.2.1 s.2.2.2.2.2.2.2.2.2.2.2.1 s.2.2.2.2.2.2.2.2.2.2.2.2.1 s.2.2.2.2.2.2.2.2.2.2.2.2.2.1 s.2.2.2.2.2.2.2.2.2.2.2.2.2.2) (fun s => μ s.1 s.2.1 s.2.2.1 s.2.2.2.1 s.2.2.2.2.1 s.2.2.2.2.2.1 s.2.2.2.2.2.2.1 s.2.2.2.2.2.2.2.1 s.2.2.2.2.2.2.2.2.1 s.2.2.2.2.2.2.2.2.2.1 s.2.2.2.2.2.2.2.2.2.2.1 s.2.2.2.2.2.2.2.2.2.2.2.1 s.2.2.2.2.2.2.2.2.2.2.2.2.1 s.2.2.2.2.2.2.2.2.2.2.2.2.2.1 s.2.2.2.2.2.2.2.2.2.2.2.2.2.2) (fun n s hI hk => hs n s.1 s.2.1 s.2.2.1 s.2.2.2.1 s.2.2.2.2.1 s.2.2.2.2.2.1 s.2.2.2.2.2.2.1 s.2.2.2.2.2.2.2.1 s.2.2.2.2.2.2.2.2.1 s.2.2.2.2.2.2.2.2.2.1 s.2.2.2.2.2.2.2.2.2.2.1 s.2.2.2.2.2.2.2.2.2.2.2.1 s.2.2.2.2.2.2.2.2.2.2.2.2.1 s.2.2.2.2.2.2.2.2.2.2.2.2.2.1 s.2.2.2.2.2.2.2.2.2.2.2.2.2.2 hI (fun b1 b2 b3 b4 b5 b6 b7 b8 b9 b10 b11 b12 b13 b14 b15 h9 hm => hk (b1, b2, b3, b4, b5, b6, b7, b8, b9, b10, b11, b12, b13, b14, b15) h9 hm)) (a1, a2, a3, a4, a5, a6, a7, a8, a9, a10, a11, a12, a13, a14, a15) h
theorem lp16 {A1 A2 A3 A4 A5 A6 A7 A8 A9 A10 A11 A12 A13 A14 A15 A16 : Type} (W : Nat → A1 → A2 → A3 → A4 → A5 → A6 → A7 → A8 → A9 → A10 → A11 → A12 → A13 → A14 → A15 → A16 → Prop) (I : A1 → A2 → A3 → A4 → A5 → A6 → A7 → A8 → A9 → A10 → A11 → A12 → A13 → A14 → A15 → A16 → Prop) (μ : A1 → A2 → A3 → A4 → A5 → A6 → A7 → A8 → A9 → A10 → A11 → A12 → A13 → A14 → A15 → A16 → Nat) (hs : ∀ (n : Nat) (a1 : A1) (a2 : A2) (a3 : A3) (a4 : A4) (a5 : A5) (a6 : A6) (a7 : A7) (a8 : A8) (a9 : A9) (a10 : A10) (a11 : A11) (a12 : A12) (a13 : A13) (a14 : A14) (a15 : A15) (a16 : A16), I a1 a2 a3 a4 a5 a6 a7 a8 a9 a10 a11 a12 a13 a14 a15 a16 → (∀ (b1 : A1) (b2 : A2) (b3 : A3) (b4 : A4) (b5 : A5) (b6 : A6) (b7 : A7) (b8 : A8) (b9 : A9) (b10 : A10) (b11 : A11) (b12 : A12) (b13 : A13) (b14 : A14) (b15 : A15) (b16 : A16), I b1 b2 b3 b4 b5 b6 b7 b8 b9 b10 b11 b12 b13 b14 b15 b16 → μ b1 b2 b3 b4 b5 b6 b7 b8 b9 b10 b11 b12 b13 b14 b15 b16 < μ a1 a2 a3 a4 a5 a6 a7 a8 a9 a10 a11 a12 a13 a14 a15 a16 → W n b1 b2 b3 b4 b5 b6 b7 b8 b9 b10 b11 b12 b13 b14 b15 b16) → W (n + 1) a1 a2 a3 a4 a5 a6 a7 a8 a9 a10 a11 a12 a13 a14 a15 a16) (a1 : A1) (a2 : A2) (a3 : A3) (a4 : A4) (a5 : A5) (a6 : A6) (a7 : A7) (a8 : A8) (a9 : A9) (a10 : A10) (a11 : A11) (a12 : A12) (a13 : A13) (a14 : A14) (a15 : A15) (a16 : A16) (h : I a1 a2 a3 a4 a5 a6 a7 a8 a9 a10 a11 a12 a13 a14 a15 a16) : ∃ n, W n a1 a2 a3 a4 a5 a6 a7 a8 a9 a10 a11 a12 a13 a14 a15 a16 :=
  loop_m (σ := A1 × A2 × A3 × A4 × A5 × A6 × A7 × A8 × A9 × A10 × A11 × A12 × A13 × A14 × A15 × A16) (fun n s => W n s.1 s.2.1 s.2.2.1 s.2.2.2.1 s.2.2.2.2.1 s.2.2.2.2.2.1 s.2.2.2.2.2.2.1 s.2.2.2.2.2.2.2.1 s.2.2.2.2.2.2.2.2.1 s.2.2.2.2.2.2.2.2.2.1 s.2.2.2.2.2.2.2.2.2.2.1 s.2.2.2.2.2.2.2.2.2.2.2.1 s.2.2.2.2.2.2.2.2.2.2.2.2.1 s.2.2.2.2.2.2.2.2.2.2.2.2.2.1 s.2.2.2.2.2.2.2.2.2.2.2.2.2.2.1 s.2.2.2.2.2.2.2.2.2.2.2.2.2.2.2) (fun s => I s.1 s.2.1 s.2.2.1 s.2.2.2.1 s.2.2.2.2.1 s.2.2.2.2.2.1 s.2.2.2.2.2.2.1 s.2.2.2.2.2.2.2.1 s.2.2.2.2.2.2.2.2.1 s.2.2.2.2.2.2.2.2.2.1 s.2.2.2.2.2.2.2.2.2.2.1 s.2.2.2.2.2.2.2.2.2.2.2.1 s.2.2.2.2.2.2.2.2.2.2.2.2.1 s.2.2.2.2.2.2.2.2.2.2.2.2.2.1 s.2.2.2.2.2.2.2.2.2.2.2.2.2.2.1 s.2.2.2.2.2.2.2.2.2.2.2.2.2.2.2) (fun s => μ s.1 s.2.1 s.2.2.1 s.2.2.2.1 s.2.2.2.2.1 s.2.2.2.2.2.1 s.2.2.2.2.2.2.1 s.2.2.2.2.2.2.2.1 s.2.2.2.2.2.2.2.2.1 s.2.2.2.2.2.2.2.2.2.1 s.2.2.2.2.2.2.2.2.2.2.1 s.2.2.2.2.2.2.2.2.2.2.2.1 s.2.2.2.2.2.2.2.2.2.2.2.2.1 s.2.2.2.2.2.2.2.2.2.2.2.2.2.1 s.2.2.2.2.2.2.2.2.2.2.2.2.2.2.1 s.2.2.2.2.2.2.2.2.2.2.2.2.2.2.2) (fun n s hI hk => hs n s.1 s.2.1 s.2.2.1 s.2.2.2.1 s.2.2.2.2.1 s.2.2.2.2.2.1 s.2.2.2.2.2.2.1 s.2.2.2.2.2.2.2.1 s.2.2.2.2.2.2.2.2.1 s.2.2.2.2.2.2.2.2.2.1 s.2.2.2.2.2.2.2.2.2.2.1 s.2.2.2.2.2.2.2.2.2.2.2.1 s.2.2.2.2.2.2.2.2.2.2.2.2.1 s.2.2.2.2.2.2.2.2.2.2.2.2.2.1 s.2.2.2.2.2.2.2.2.2.2.2.2.2.2.1 s.2.2.2.2.2.2.2.2.2.2.2.2.2.2.2 hI (fun b1 b2 b3 b4 b5 b6 b7 b8 b9 b10 b11 b12 b13 b14 b15 b16 h9 hm => hk (b1, b2, b3, b4, b5, b6, b7, b8, b9, b10, b11, b12, b13, b14, b15, b16) h9 hm)) (a1, a2, a3, a4, a5, a6, a7, a8, a9, a10, a11, a12, a13, a14, a15, a16) h
theorem pk_least (P : Nat → Prop) (h : ∃ k, P k) : ∃ k, P k ∧ ∀ j, j < k → ¬ P j := by
  obtain ⟨k, hk⟩ := h
  induction k using Nat.strongRecOn with
  | ind k ih =>
    by_cases e : ∃ j, j < k ∧ P j
    · obtain ⟨j, hj, pj⟩ := e
      exact ih j hj pj
    · exact ⟨k, hk, fun j hj pj => e ⟨j, hj, pj⟩⟩
theorem rp1 {ρ A1 : Type} (W : Nat → (ρ → Prop) → A1 → Prop) (ok : A1 → Prop) (μ : A1 → Nat) (val : A1 → ρ)
    (hs : ∀ (d : Nat) (post : ρ → Prop) (a1 : A1), ok a1 → post (val a1) → (∀ (post' : ρ → Prop) (b1 : A1), ok b1 → μ b1 < μ a1 → post' (val b1) → W d post' b1) → W (d + 1) post a1) :
    ∀ (d : Nat) (post : ρ → Prop) (a1 : A1), ok a1 → μ a1 < d → post (val a1) → W d post a1 := by
  intro d
  induction d with
  | zero => intro post a1 _ h; omega
  | succ d ih =>
    intro post a1 ho hm hp
    exact hs d post a1 ho hp (fun post' b1 ho' hm' hp' => ih post' b1 ho' (by omega) hp')
theorem rp2 {ρ A1 A2 : Type} (W : Nat → (ρ → Prop) → A1 → A2 → Prop) (ok : A1 → A2 → Prop) (μ : A1 → A2 → Nat) (val : A1 → A2 → ρ)
    (hs : ∀ (d : Nat) (post : ρ → Prop) (a1 : A1) (a2 : A2), ok a1 a2 → post (val a1 a2) → (∀ (post' : ρ → Prop) (b1 : A1) (b2 : A2), ok b1 b2 → μ b1 b2 < μ a1 a2 → post' (val b1 b2) → W d post' b1 b2) → W (d + 1) post a1 a2) :
    ∀ (d : Nat) (post : ρ → Prop) (a1 : A1) (a2 : A2), ok a1 a2 → μ a1 a2 < d → post (val a1 a2) → W d post a1 a2 := by
  intro d
  induction d with
  | zero => intro post a1 a2 _ h; omega
  | succ d ih =>
    intro post a1 a2 ho hm hp
    exact hs d post a1 a2 ho hp (fun post' b1 b2 ho' hm' hp' => ih post' b1 b2 ho' (by omega) hp')
theorem rp3 {ρ A1 A2 A3 : Type} (W : Nat → (ρ → Prop) → A1 → A2 → A3 → Prop) (ok : A1 → A2 → A3 → Prop) (μ : A1 → A2 → A3 → Nat) (val : A1 → A2 → A3 → ρ)
    (hs : ∀ (d : Nat) (post : ρ → Prop) (a1 : A1) (a2 : A2) (a3 : A3), ok a1 a2 a3 → post (val a1 a2 a3) → (∀ (post' : ρ → Prop) (b1 : A1) (b2 : A2) (b3 : A3), ok b1 b2 b3 → μ b1 b2 b3 < μ a1 a2 a3 → post' (val b1 b2 b3) → W d post' b1 b2 b3) → W (d + 1) post a1 a2 a3) :
    ∀ (d : Nat) (post : ρ → Prop) (a1 : A1) (a2 : A2) (a3 : A3), ok a1 a2 a3 → μ a1 a2 a3 < d → post (val a1 a2 a3) → W d post a1 a2 a3 := by
  intro d
  induction d with
  | zero => intro post a1 a2 a3 _ h; omega
  | succ d ih =>
    intro post a1 a2 a3 ho hm hp
    exact hs d post a1 a2 a3 ho hp (fun post' b1 b2 b3 ho' hm' hp' => ih post' b1 b2 b3 ho' (by omega) hp')
theorem rp4 {ρ A1 A2 A3 A4 : Type} (W : Nat → (ρ → Prop) → A1 → A2 → A3 → A4 → Prop) (ok : A1 → A2 → A3 → A4 → Prop) (μ : A1 → A2 → A3 → A4 → Nat) (val : A1 → A2 → A3 → A4 → ρ)
    (hs : ∀ (d : Nat) (post : ρ → Prop) (a1 : A1) (a2 : A2) (a3 : A3) (a4 : A4), ok a1 a2 a3 a4 → post (val a1 a2 a3 a4) → (∀ (post' : ρ → Prop) (b1 : A1) (b2 : A2) (b3 : A3) (b4 : A4), ok b1 b2 b3 b4 → μ b1 b2 b3 b4 < μ a1 a2 a3 a4 → post' (val b1 b2 b3 b4) → W d post' b1 b2 b3 b4) → W (d + 1) post a1 a2 a3 a4) :
    ∀ (d : Nat) (post : ρ → Prop) (a1 : A1) (a2 : A2) (a3 : A3) (a4 : A4), ok a1 a2 a3 a4 → μ a1 a2 a3 a4 < d → post (val a1 a2 a3 a4) → W d post a1 a2 a3 a4 := by
  intro d
  induction d with
  | zero => intro post a1 a2 a3 a4 _ h; omega
  | succ d ih =>
    intro post a1 a2 a3 a4 ho hm hp
    exact hs d post a1 a2 a3 a4 ho hp (fun post' b1 b2 b3 b4 ho' hm' hp' => ih post' b1 b2 b3 b4 ho' (by omega) hp')
theorem rp5 {ρ A1 A2 A3 A4 A5 : Type} (W : Nat → (ρ → Prop) → A1 → A2 → A3 → A4 → A5 → Prop) (ok : A1 → A2 → A3 → A4 → A5 → Prop) (μ : A1 → A2 → A3 → A4 → A5 → Nat) (val : A1 → A2 → A3 → A4 → A5 → ρ)
    (hs : ∀ (d : Nat) (post : ρ → Prop) (a1 : A1) (a2 : A2) (a3 : A3) (a4 : A4) (a5 : A5), ok a1 a2 a3 a4 a5 → post (val a1 a2 a3 a4 a5) → (∀ (post' : ρ → Prop) (b1 : A1) (b2 : A2) (b3 : A3) (b4 : A4) (b5 : A5), ok b1 b2 b3 b4 b5 → μ b1 b2 b3 b4 b5 < μ a1 a2 a3 a4 a5 → post' (val b1 b2 b3 b4 b5) → W d post' b1 b2 b3 b4 b5) → W (d + 1) post a1 a2 a3 a4 a5) :
    ∀ (d : Nat) (post : ρ → Prop) (a1 : A1) (a2 : A2) (a3 : A3) (a4 : A4) (a5 : A5), ok a1 a2 a3 a4 a5 → μ a1 a2 a3 a4 a5 < d → post (val a1 a2 a3 a4 a5) → W d post a1 a2 a3 a4 a5 := by
  intro d
  induction d with
  | zero => intro post a1 a2 a3 a4 a5 _ h; omega
  | succ d ih =>
    intro post a1 a2 a3 a4 a5 ho hm hp
    exact hs d post a1 a2 a3 a4 a5 ho hp (fun post' b1 b2 b3 b4 b5 ho' hm' hp' => ih post' b1 b2 b3 b4 b5 ho' (by omega) hp')
theorem rp6 {ρ A1 A2 A3 A4 A5 A6 : Type} (W : Nat → (ρ → Prop) → A1 → A2 → A3 → A4 → A5 → A6 → Prop) (ok : A1 → A2 → A3 → A4 → A5 → A6 → Prop) (μ : A1 → A2 → A3 → A4 → A5 → A6 → Nat) (val : A1 → A2 → A3 → A4 → A5 → A6 → ρ)
    (hs : ∀ (d : Nat) (post : ρ → Prop) (a1 : A1) (a2 : A2) (a3 : A3) (a4 : A4) (a5 : A5) (a6 : A6), ok a1 a2 a3 a4 a5 a6 → post (val a1 a2 a3 a4 a5 a6) → (∀ (post' : ρ → Prop) (b1 : A1) (b2 : A2) (b3 : A3) (b4 : A4) (b5 : A5) (b6 : A6), ok b1 b2 b3 b4 b5 b6 → μ b1 b2 b3 b4 b5 b6 < μ a1 a2 a3 a4 a5 a6 → post' (val b1 b2 b3 b4 b5 b6) → W d post' b1 b2 b3 b4 b5 b6) → W (d + 1) post a1 a2 a3 a4 a5 a6) :
    ∀ (d : Nat) (post : ρ → Prop) (a1 : A1) (a2 : A2) (a3 : A3) (a4 : A4) (a5 : A5) (a6 : A6), ok a1 a2 a3 a4 a5 a6 → μ a1 a2 a3 a4 a5 a6 < d → post (val a1 a2 a3 a4 a5 a6) → W d post a1 a2 a3 a4 a5 a6 := by
  intro d
  induction d with
  | zero => intro post a1 a2 a3 a4 a5 a6 _ h; omega
  | succ d ih =>
    intro post a1 a2 a3 a4 a5 a6 ho hm hp
    exact hs d post a1 a2 a3 a4 a5 a6 ho hp (fun post' b1 b2 b3 b4 b5 b6 ho' hm' hp' => ih post' b1 b2 b3 b4 b5 b6 ho' (by omega) hp')
theorem rec_p {σ ρ : Type} (W : Nat → (ρ → Prop) → σ → Prop) (ok : σ → Prop) (μ : σ → Nat) (val : σ → ρ)
    (hs : ∀ d s post, ok s → post (val s) → (∀ s' post', ok s' → μ s' < μ s → post' (val s') → W d post' s') → W (d + 1) post s) :
    ∀ d s post, ok s → μ s < d → post (val s) → W d post s := by
  intro d
  induction d with
  | zero => intro s post _ h; omega
  | succ d ih =>
    intro s post ho hm hp
    exact hs d s post ho hp (fun s' post' ho' hm' hp' => ih s' post' ho' (by omega) hp')
theorem rec_q {σ ρ : Type} (W : Nat → (ρ → Prop) → σ → Prop) (ok : σ → Prop) (μ : σ → Nat) (Q : σ → ρ → Prop)
    (hs : ∀ d s post, ok s → (∀ r, Q s r → post r) → (∀ s' post', ok s' → μ s' < μ s → (∀ r, Q s' r → post' r) → W d post' s') → W (d + 1) post s) :
    ∀ d s post, ok s → μ s < d → (∀ r, Q s r → post r) → W d post s := by
  intro d
  induction d with
  | zero => intro s post _ h; omega
  | succ d ih =>
    intro s post ho hm hp
    exact hs d s post ho hp (fun s' post' ho' hm' hp' => ih s' post' ho' (by omega) hp')
def bx_sum (f : Nat → Int32) : Nat → Int32
  | 0 => 0
  | n + 1 => bx_sum f n + f n
theorem ek_u {A : Prop} {B : Nat → Prop} {k N : Nat} (hk : k < N) (h : B k) : (some k = none → A) ∧ (∀ y : Nat, some k = some y → (y < N ∧ B y)) :=
  ⟨fun z => absurd z (Option.some_ne_none k), fun _ e => (by cases e; exact ⟨hk, h⟩)⟩
theorem ek_nu {A : Prop} {B : Nat → Prop} (h : A) : ((none : Option Nat) = none → A) ∧ (∀ y : Nat, (none : Option Nat) = some y → B y) :=
  ⟨fun _ => h, fun _ e => (by cases e)⟩
theorem ek_if {c d A B : Prop} (e : c ↔ d) (f : d → A) (g : ¬ d → B) : (c → A) ∧ (¬ c → B) :=
  ⟨fun z => f (e.mp z), fun z => g (fun y => z (e.mpr y))⟩
theorem ek_v {α : Sort _} {P : α → Prop} {a b : α} (e : a = b) (h : P b) : P a := e ▸ h
theorem co_some {x : Option Nat} {A : Prop} {B : Nat → Prop} (i : Nat) (h : B i) (hx : x = some i := by rfl) : (x = none → A) ∧ (∀ y : Nat, x = some y → B y) := by
  subst hx
  exact ⟨fun e => (nomatch e), fun y e => Option.some.inj e ▸ h⟩
theorem co_none {x : Option Nat} {A : Prop} {B : Nat → Prop} (h : A) (hx : x = none := by rfl) : (x = none → A) ∧ (∀ y : Nat, x = some y → B y) := by
  subst hx
  exact ⟨fun _ => h, fun y e => (nomatch e)⟩
theorem co_any {x : Option Nat} {A : Prop} {B : Nat → Prop} (hn : x = none → A) (hs : ∀ i : Nat, x = some i → B i) : (x = none → A) ∧ (∀ y : Nat, x = some y → B y) := ⟨hn, hs⟩
theorem co_2 {P : Nat → Prop} (h0 : P 0) (h1 : P 1) {i : Nat} (hi : i < 2) : P i :=
  match i, hi with
  | 0, _ => h0
  | 1, _ => h1
theorem co_3 {P : Nat → Prop} (h0 : P 0) (h1 : P 1) (h2 : P 2) {i : Nat} (hi : i < 3) : P i :=
  match i, hi with
  | 0, _ => h0
  | 1, _ => h1
  | 2, _ => h2
theorem co_4 {P : Nat → Prop} (h0 : P 0) (h1 : P 1) (h2 : P 2) (h3 : P 3) {i : Nat} (hi : i < 4) : P i :=
  match i, hi with
  | 0, _ => h0
  | 1, _ => h1
  | 2, _ => h2
  | 3, _ => h3
theorem co_dec {N : Nat} {P : Nat → Prop} [DecidablePred P] (h : (List.range N).all (fun i => decide (P i)) = true) {i : Nat} (hi : i < N) : P i := by
  have := List.all_eq_true.mp h i (List.mem_range.mpr hi)
  exact of_decide_eq_true this
theorem co_tab {α : Type} {l : List α} {d : α} {P : α → Prop} (h : ∀ a, a ∈ l → P a) {i : Nat} (hi : i < l.length) : P (l.getD i d) := by
  rw [List.getD_eq_getElem?_getD, List.getElem?_eq_getElem hi]
  exact h _ (List.getElem_mem hi)
theorem pk_mu {x : Int32} {L : Nat} (h0 : ¬ x < 0) (h : ¬ nI L ≤ x) (hL : L < 2 ^ 31) : ∃ j : Nat, j < L ∧ x = nI j ∧ x + 1 = nI (j + 1) ∧ x.toNatClampNeg = j ∧ L - (x + 1).toNatClampNeg < L - x.toNatClampNeg := by
  obtain ⟨j, hj, rfl⟩ := nI_of h0
  have hl : j < L := Nat.not_le.mp fun q => h (nI_le q hj)
  refine ⟨j, hl, rfl, nI_1 j, nI_clamp hj, ?_⟩
  rw [nI_1, nI_clamp (by omega), nI_clamp hj]
  omega
theorem op_s {α : Type} {r : Option α} {A : Prop} {B : α → Prop} {y : α} (h : r = some y) (b : B y) : (r = none → A) ∧ ∀ z, r = some z → B z :=
  ⟨fun e => (by rw [h] at e; cases e), fun z e => (by rw [h] at e; cases e; exact b)⟩
def l_holds {α : Type} (a : Nat → Option Nat) (LP : List Nat) (p : Nat → α) (c : Nat) (b : Nat → α) : Prop :=
  ∀ j, j < c → ∃ y, a j = some y ∧ y ∈ LP ∧ p y = b j
theorem l_holds_0 {α : Type} {a : Nat → Option Nat} {LP : List Nat} {p b : Nat → α} : l_holds a LP p 0 b := fun j h => absurd h (Nat.not_lt_zero j)
theorem l_in_new (LP : List Nat) (q : Nat) : q ∈ LP ++ [q] := List.mem_append.mpr (Or.inr (List.mem_singleton.mpr rfl))
def l_sum (b : Nat → Int32) : Nat → Int32
  | 0 => 0
  | k + 1 => l_sum b k + b k
theorem sb_shr0 (x : Int32) : x >>> ((0 : Int32) &&& 31) = x := by
  rw [show ((0 : Int32) &&& 31) = 0 by decide]
  simp
theorem sb_shl0 (x : Int32) : x <<< ((0 : Int32) &&& 31) = x := by
  rw [show ((0 : Int32) &&& 31) = 0 by decide]
  simp
theorem sb_cl0 : (0 : Int32).toNatClampNeg = 0 := by decide
theorem sb_m1 {p : Nat} (h : 0 < p) : nI p + (-1) = nI (p - 1) := by
  obtain ⟨q, rfl⟩ : ∃ q, p = q + 1 := ⟨p - 1, by omega⟩
  exact pk_m1 q
def sb_b (c : Nat) : Int32 := (nI c).toInt8.toInt32
theorem sb_byte : ∀ c, c < 256 → sb_b c &&& 255 = nI c ∧ ((nI c).toUInt32 % 65536).toInt32 = nI c ∧ nI c ≤ 255 := by decide +kernel
def sb_Fit (a : Nat → Int32) : Prop := ∀ j, fits .byte (.int (a j)) = true
def sb_Lat (t : Nat → Nat) (n : Nat) (a : Nat → Int32) : Prop := ∀ j, j < n → t j < 256 ∧ a j = sb_b (t j)
theorem sb_fitB (c : Nat) : fits .byte (.int (sb_b c)) = true := pk_fb _
theorem sb_fit0 : sb_Fit (fun _ => 0) := fun _ => by
  show fits .byte (.int 0) = true
  decide
theorem sb_fitU {a : Nat → Int32} {k : Nat} {x : Int32} (h : sb_Fit a) (hx : fits .byte (.int x) = true) : sb_Fit (upd a k x) := by
  intro j
  by_cases e : j = k
  · subst e
    rw [pk_us]
    exact hx
  · rw [pk_un e]
    exact h j
def sb_cat (t : Nat → Nat) (n : Nat) (s : Nat → Nat) : Nat → Nat := fun j => if j < n then t j else s (j - n)
theorem sb_cat_lo {t s : Nat → Nat} {n j : Nat} (h : j < n) : sb_cat t n s j = t j := if_pos h
theorem sb_cat_hi {t s : Nat → Nat} {n j : Nat} : sb_cat t n s (n + j) = s j := by
  show (if n + j < n then t (n + j) else s (n + j - n)) = s j
  rw [if_neg (by omega), Nat.add_sub_cancel_left]
theorem sb_latPut {t s : Nat → Nat} {n w : Nat} {a a' : Nat → Int32} (h : sb_Lat t n a) (hk : ∀ j, j < n → a' j = a j) (hs : ∀ i, i < w → s i < 256 ∧ a' (n + i) = sb_b (s i)) : sb_Lat (sb_cat t n s) (n + w) a' := by
  intro j hj
  by_cases e : j < n
  · rw [sb_cat_lo e, hk j e]
    exact h j e
  · obtain ⟨i, rfl⟩ : ∃ i, j = n + i := ⟨j - n, by omega⟩
    rw [sb_cat_hi]
    exact hs i (by omega)
theorem sb_latKeep {t : Nat → Nat} {n : Nat} {a a' : Nat → Int32} (h : sb_Lat t n a) (hk : ∀ j, j < n → a' j = a j) : sb_Lat t n a' := fun j hj => by
  rw [hk j hj]
  exact h j hj
def sb_cap (q m : Nat) : Nat := if q ≤ m then m else if 2 * m + 2 < q then q else 2 * m + 2
def sb_Room (q m mc ms : Nat) : Prop := q ≤ m ∨ (1 ≤ mc ∧ sb_cap q m ≤ ms ∧ sb_cap q m ≤ 65536)
theorem sb_cap_ge (q m : Nat) : q ≤ sb_cap q m := by
  unfold sb_cap
  split
  · omega
  · split <;> omega
theorem sb_cap_gem (q m : Nat) : m ≤ sb_cap q m := by
  unfold sb_cap
  split
  · omega
  · split <;> omega
theorem sb_cap_le {q m mc ms : Nat} (hm : m ≤ 65536) (hr : sb_Room q m mc ms) : sb_cap q m ≤ 65536 := by
  rcases hr with h | h
  · rw [sb_cap, if_pos h]
    exact hm
  · exact h.2.2
theorem sb_at {P : Int32 → Prop} {x y : Int32} (e : x = y) (h : P y) : P x := e ▸ h
def sb_dg (w : Nat) : Nat := if w < 10 then 1 else if w < 100 then 2 else if w < 1000 then 3 else if w < 10000 then 4 else if w < 100000 then 5 else if w < 1000000 then 6 else if w < 10000000 then 7 else if w < 100000000 then 8 else if w < 1000000000 then 9 else 10
def sb_dec (v : Nat) : Nat → Nat := fun i => 48 + v / 10 ^ (sb_dg v - 1 - i) % 10
theorem sb_dg_in (w : Nat) : 1 ≤ sb_dg w ∧ sb_dg w ≤ 10 := by
  unfold sb_dg
  constructor <;> (repeat' split) <;> omega
theorem sb_dg100 {w : Nat} (h : 100 ≤ w) (hw : w < 2 ^ 31) : sb_dg w = sb_dg (w / 100) + 2 := by
  rw [sb_dg, sb_dg, if_neg (show ¬ w < 10 by omega), if_neg (show ¬ w < 100 by omega)]
  by_cases h3 : w < 1000
  · rw [if_pos h3, if_pos (show w / 100 < 10 by omega)]
  rw [if_neg h3, if_neg (show ¬ w / 100 < 10 by omega)]
  by_cases h4 : w < 10000
  · rw [if_pos h4, if_pos (show w / 100 < 100 by omega)]
  rw [if_neg h4, if_neg (show ¬ w / 100 < 100 by omega)]
  by_cases h5 : w < 100000
  · rw [if_pos h5, if_pos (show w / 100 < 1000 by omega)]
  rw [if_neg h5, if_neg (show ¬ w / 100 < 1000 by omega)]
  by_cases h6 : w < 1000000
  · rw [if_pos h6, if_pos (show w / 100 < 10000 by omega)]
  rw [if_neg h6, if_neg (show ¬ w / 100 < 10000 by omega)]
  by_cases h7 : w < 10000000
  · rw [if_pos h7, if_pos (show w / 100 < 100000 by omega)]
  rw [if_neg h7, if_neg (show ¬ w / 100 < 100000 by omega)]
  by_cases h8 : w < 100000000
  · rw [if_pos h8, if_pos (show w / 100 < 1000000 by omega)]
  rw [if_neg h8, if_neg (show ¬ w / 100 < 1000000 by omega)]
  by_cases h9 : w < 1000000000
  · rw [if_pos h9, if_pos (show w / 100 < 10000000 by omega)]
  rw [if_neg h9, if_neg (show ¬ w / 100 < 10000000 by omega)]
  rw [if_pos (show w / 100 < 100000000 by omega)]
theorem sb_negT {w : Nat} (h : w < 2 ^ 31) : (-nI w).toInt = -(w : Int) := by
  rw [Int32.toInt_neg, nI_toInt h]
  exact Int.bmod_eq_of_le (by omega) (by omega)
theorem sb_nle {a b : Nat} (ha : a < 2 ^ 31) (hb : b < 2 ^ 31) : -nI a ≤ -nI b ↔ b ≤ a := by
  rw [Int32.le_iff_toInt_le, sb_negT ha, sb_negT hb]
  omega
theorem sb_nlt {a b : Nat} (ha : a < 2 ^ 31) (hb : b < 2 ^ 31) : -nI a < -nI b ↔ b < a := by
  rw [Int32.lt_iff_toInt_lt, sb_negT ha, sb_negT hb]
  omega
theorem sb_cmp {A B : Prop} {x : Int32} (v c : Nat) (f : c ≤ v → A) (g : v < c → B) (hv : v < 2 ^ 31) (hx : x = -nI c := by rfl) (hc : c < 2 ^ 31 := by omega) : (-nI v ≤ x → A) ∧ (¬ -nI v ≤ x → B) := by
  subst hx
  rw [sb_nle hv hc]
  exact ⟨f, fun z => g (by omega)⟩
theorem sb_ndiv {w : Nat} (hw : w < 2 ^ 31) : (-nI w) / 100 = -nI (w / 100) := by
  apply Int32.toInt_inj.mp
  have h100 : (100 : Int32).toInt = 100 := by decide
  rw [Int32.toInt_div, sb_negT hw, h100, sb_negT (by omega), Int.neg_tdiv, Int.tdiv_eq_ediv_of_nonneg (by omega), Int.bmod_eq_of_le (by omega) (by omega)]
  omega
theorem sb_nrem {w : Nat} (hw : w < 2 ^ 31) : (-nI (w / 100)) * 100 - (-nI w) = nI (w % 100) := by
  have h := pk_rem (a := w) (d := 100) hw (by decide) (by decide)
  rw [pk_div hw (by decide) (by decide)] at h
  rw [← h]
  show (-nI (w / 100)) * nI 100 - (-nI w) = nI w - nI (w / 100) * nI 100
  rw [Int32.neg_mul, Int32.sub_neg, Int32.add_comm, ← Int32.sub_eq_add_neg]
end
section
/-! rows on bits, shifts and unsigned numbers, to paste: each family out of a closed proof of our own, whole with what it rests on; each by itself clean at Lean in its own claim (generation 39, form 5). Take a family whole -/
/-! ===== Int32 by its bits: bt x i ===== -/
def bt (x : Int32) (i : Nat) : Bool := x.toBitVec.getLsbD i
theorem b_ext {x y : Int32} (h : ∀ i, i < 32 → bt x i = bt y i) : x = y := Int32.toBitVec_inj.mp (BitVec.eq_of_getLsbD_eq (fun i hi => h i hi))
theorem b_or (x y : Int32) (i : Nat) : bt (x ||| y) i = (bt x i || bt y i) := by unfold bt; rw [Int32.toBitVec_or, BitVec.getLsbD_or]
theorem b_and (x y : Int32) (i : Nat) : bt (x &&& y) i = (bt x i && bt y i) := by unfold bt; rw [Int32.toBitVec_and, BitVec.getLsbD_and]
theorem b_xor (x y : Int32) (i : Nat) : bt (x ^^^ y) i = (bt x i ^^ bt y i) := by unfold bt; rw [Int32.toBitVec_xor, BitVec.getLsbD_xor]
theorem b_big {x : Int32} {i : Nat} (h : 32 ≤ i) : bt x i = false := BitVec.getLsbD_of_ge _ _ h
theorem b_255 (i : Nat) : bt 255 i = decide (i < 8) := by
  rcases Nat.lt_or_ge i 32 with h | h
  · exact (by decide +kernel : ∀ i, i < 32 → bt 255 i = decide (i < 8)) i h
  · rw [b_big h, decide_eq_false (by omega)]
theorem b_65535 (i : Nat) : bt 65535 i = decide (i < 16) := by
  rcases Nat.lt_or_ge i 32 with h | h
  · exact (by decide +kernel : ∀ i, i < 32 → bt 65535 i = decide (i < 16)) i h
  · rw [b_big h, decide_eq_false (by omega)]
theorem b_m1 : ∀ i, i < 32 → bt (-1) i = true := by decide +kernel
theorem b_0 (i : Nat) : bt 0 i = false := BitVec.getLsbD_zero
theorem s_l : ∀ n, n < 32 → ((nI n &&& 31).toBitVec.smod 32).toNat = n := by decide +kernel
theorem s_u : ∀ n, n < 32 → (((nI n).toUInt32 &&& Int32.toUInt32 31).toBitVec % 32).toNat = n := by decide +kernel
theorem b_shl (n : Nat) (hn : n < 32) (x : Int32) {i : Nat} (hi : i < 32) : bt (x <<< (nI n &&& 31)) i = (decide (n ≤ i) && bt x (i - n)) := by
  unfold bt
  rw [Int32.toBitVec_shiftLeft]
  show (x.toBitVec <<< ((nI n &&& 31).toBitVec.smod 32).toNat).getLsbD i = _
  rw [s_l n hn, BitVec.getLsbD_shiftLeft]
  rcases Nat.lt_or_ge i n with h | h
  · simp [h, Nat.not_le.mpr h]
  · simp [hi, h, Nat.not_lt.mpr h]
theorem b_ushr (n : Nat) (hn : n < 32) (x : Int32) (i : Nat) : bt ((x.toUInt32 >>> ((nI n).toUInt32 &&& Int32.toUInt32 31)).toInt32) i = bt x (n + i) := by
  show (x.toUInt32 >>> ((nI n).toUInt32 &&& Int32.toUInt32 31)).toBitVec.getLsbD i = x.toUInt32.toBitVec.getLsbD (n + i)
  rw [UInt32.toBitVec_shiftRight]
  show (x.toUInt32.toBitVec >>> (((nI n).toUInt32 &&& Int32.toUInt32 31).toBitVec % 32).toNat).getLsbD i = _
  rw [s_u n hn, BitVec.getLsbD_ushiftRight]
theorem b_sshr (n : Nat) (hn : n < 32) (x : Int32) {i : Nat} (hi : i < 32) : bt (x >>> (nI n &&& 31)) i = if n + i < 32 then bt x (n + i) else bt x 31 := by
  unfold bt
  rw [Int32.toBitVec_shiftRight]
  show (x.toBitVec.sshiftRight ((nI n &&& 31).toBitVec.smod 32).toNat).getLsbD i = _
  rw [s_l n hn, BitVec.getLsbD_sshiftRight, BitVec.msb_eq_getLsbD_last]
  simp [hi]
theorem b_shl8 (x : Int32) {i : Nat} (hi : i < 32) : bt (x <<< ((8 : Int32) &&& 31)) i = (decide (8 ≤ i) && bt x (i - 8)) := b_shl 8 (by omega) x hi
theorem b_shl16 (x : Int32) {i : Nat} (hi : i < 32) : bt (x <<< ((16 : Int32) &&& 31)) i = (decide (16 ≤ i) && bt x (i - 16)) := b_shl 16 (by omega) x hi
theorem b_shl24 (x : Int32) {i : Nat} (hi : i < 32) : bt (x <<< ((24 : Int32) &&& 31)) i = (decide (24 ≤ i) && bt x (i - 24)) := b_shl 24 (by omega) x hi
theorem b_sshr8 (x : Int32) {i : Nat} (hi : i < 32) : bt (x >>> ((8 : Int32) &&& 31)) i = if 8 + i < 32 then bt x (8 + i) else bt x 31 := b_sshr 8 (by omega) x hi
/-! ===== nI under and, xor, >>>, one bit, 65535 ===== -/
theorem nx_and (a b : Nat) : nI a &&& nI b = nI (a &&& b) := by
  apply Int32.toBitVec_inj.1
  show BitVec.ofNat 32 a &&& BitVec.ofNat 32 b = BitVec.ofNat 32 (a &&& b)
  apply BitVec.eq_of_getLsbD_eq
  intro i hi
  simp [hi]
theorem nx_xor (a b : Nat) : nI a ^^^ nI b = nI (a ^^^ b) := by
  apply Int32.toBitVec_inj.1
  show BitVec.ofNat 32 a ^^^ BitVec.ofNat 32 b = BitVec.ofNat 32 (a ^^^ b)
  apply BitVec.eq_of_getLsbD_eq
  intro i hi
  simp [hi]
theorem nx_cnt : ∀ j : Fin 32, (UInt32.ofNat j.val &&& Int32.toUInt32 31).toNat % 32 = j.val := by decide +kernel
theorem nx_ush {k j : Nat} (hk : k < 65536) (hj : j < 32) : ((nI k).toUInt32 >>> ((nI j).toUInt32 &&& Int32.toUInt32 31)).toInt32 = nI (k >>> j) := by
  have hs : k >>> j ≤ k := by
    rw [Nat.shiftRight_eq_div_pow]
    exact Nat.div_le_self _ _
  have e2 : UInt32.ofNat k >>> (UInt32.ofNat j &&& Int32.toUInt32 31) = UInt32.ofNat (k >>> j) := by
    apply UInt32.toNat_inj.1
    have h1 : (UInt32.ofNat k).toNat = k := Nat.mod_eq_of_lt (by omega)
    have h2 : (UInt32.ofNat (k >>> j)).toNat = k >>> j := Nat.mod_eq_of_lt (by omega)
    rw [UInt32.toNat_shiftRight, nx_cnt ⟨j, hj⟩, h1, h2]
  show (UInt32.ofNat k >>> (UInt32.ofNat j &&& Int32.toUInt32 31)).toInt32 = _
  rw [e2]
  rfl
theorem nx_bit {k j : Nat} (hk : k < 65536) (hj : j < 16) : (((nI k).toUInt32 >>> ((nI j).toUInt32 &&& Int32.toUInt32 31)).toInt32 &&& 1) = 0 ↔ k.testBit j = false := by
  rw [nx_ush hk (by omega)]
  show nI (k >>> j) &&& nI 1 = 0 ↔ _
  rw [nx_and, Nat.and_one_is_mod, ← nI_0, nI_eq (by omega) (by omega), Nat.testBit_eq_decide_div_mod_eq, Nat.shiftRight_eq_div_pow, decide_eq_false_iff_not]
  generalize k / 2 ^ j = z
  omega
theorem nx_mod (k : Nat) : nI k &&& 65535 = nI (k % 65536) := by
  show nI k &&& nI 65535 = _
  rw [nx_and, show (65535 : Nat) = 2 ^ 16 - 1 from rfl, Nat.and_two_pow_sub_one_eq_mod]
theorem nx_m16 {k : Nat} (h : k < 65536) : nI k &&& 65535 = nI k := by rw [nx_mod, Nat.mod_eq_of_lt h]
theorem nx_mask (x : Int32) : ∃ k, k < 65536 ∧ x &&& 65535 = nI k := by
  have e : x = nI x.toBitVec.toNat := by
    apply Int32.toBitVec_inj.1
    show x.toBitVec = BitVec.ofNat 32 x.toBitVec.toNat
    simp
  refine ⟨x.toBitVec.toNat % 65536, Nat.mod_lt _ (by omega), ?_⟩
  rw [← nx_mod, ← e]
/-! ===== Int32 as a set of bits: test, set ===== -/
def nf_M (m : Int32) : Nat := 4294967296 - m.toBitVec.toNat
theorem nf_sh : ∀ l, l < 32 → ((1 : Int32) <<< (nI l &&& 31)).toBitVec = BitVec.twoPow 32 l := by decide +kernel
theorem nf_sl : ∀ l, l < 32 → (((nI l).toUInt32 &&& Int32.toUInt32 31).toBitVec % 32).toNat = l := by decide +kernel
theorem nf_tp : ∀ l, l < 32 → BitVec.twoPow 32 l ≠ 0#32 := by decide +kernel
theorem nf_bit (m : Int32) (l : Nat) (hl : l < 32) : ((m.toUInt32 >>> ((nI l).toUInt32 &&& Int32.toUInt32 31)).toInt32 &&& 1) = 0 ↔ (m &&& ((1 : Int32) <<< (nI l &&& 31))) = 0 := by
  have e : ((m.toUInt32 >>> ((nI l).toUInt32 &&& Int32.toUInt32 31)).toInt32).toBitVec = m.toBitVec >>> l := by
    show m.toBitVec >>> (((nI l).toUInt32 &&& Int32.toUInt32 31).toBitVec % 32) = m.toBitVec >>> l
    rw [BitVec.ushiftRight_eq', nf_sl l hl]
  rw [← Int32.toBitVec_inj, ← Int32.toBitVec_inj, Int32.toBitVec_and, Int32.toBitVec_and, nf_sh l hl, e, BitVec.and_twoPow]
  show (m.toBitVec >>> l &&& 1#32) = 0#32 ↔ _ = 0#32
  rw [BitVec.and_one_eq_setWidth_ofBool_getLsbD, BitVec.getLsbD_ushiftRight, Nat.add_zero]
  cases hb : m.toBitVec.getLsbD l
  · exact ⟨fun _ => by simp, fun _ => by decide⟩
  · exact ⟨fun z => absurd z (by decide), fun z => absurd ((if_pos rfl).symm.trans z) (nf_tp l hl)⟩
theorem nf_gr (m k : Int32) (h : m &&& k = 0) (hk : k ≠ 0) : nf_M (m ||| k) < nf_M m := by
  have hm := m.toBitVec.isLt
  have hm' := (m ||| k).toBitVec.isLt
  have h1 : m.toBitVec.toNat ≤ (m ||| k).toBitVec.toNat := by
    rw [Int32.toBitVec_or, BitVec.toNat_or]
    exact Nat.left_le_or
  have h2 : m.toBitVec.toNat ≠ (m ||| k).toBitVec.toNat := by
    intro e
    have e2 : m = m ||| k := Int32.toBitVec_inj.mp (BitVec.eq_of_toNat_eq e)
    apply hk
    apply Int32.toBitVec_inj.mp
    show k.toBitVec = 0#32
    apply BitVec.eq_of_getLsbD_eq
    intro i hi
    have a : m.toBitVec.getLsbD i = (m.toBitVec.getLsbD i || k.toBitVec.getLsbD i) := by rw [← BitVec.getLsbD_or, ← Int32.toBitVec_or, ← e2]
    have b : (m.toBitVec.getLsbD i && k.toBitVec.getLsbD i) = false := by
      rw [← BitVec.getLsbD_and, ← Int32.toBitVec_and, h]
      exact BitVec.getLsbD_zero
    rw [BitVec.getLsbD_zero]
    revert a b
    cases m.toBitVec.getLsbD i <;> cases k.toBitVec.getLsbD i <;> simp
  unfold nf_M
  omega
/-! ===== a byte read unsigned ===== -/
theorem bp_b (x : Int32) : x.toInt8.toInt32 &&& 255 = x &&& 255 := by
  apply Int32.toBitVec_inj.mp
  rw [Int32.toBitVec_and, Int32.toBitVec_and, Int8.toBitVec_toInt32, Int32.toBitVec_toInt8]
  apply BitVec.eq_of_getLsbD_eq
  intro i hi
  rw [BitVec.getLsbD_and, BitVec.getLsbD_and]
  have hm : ∀ i < 32, 8 ≤ i → (255 : Int32).toBitVec.getLsbD i = false := by decide
  rcases Nat.lt_or_ge i 8 with z | z
  · rw [BitVec.getLsbD_signExtend, BitVec.getLsbD_signExtend, if_pos z, if_pos hi]
    simp only [z, hi, decide_true, Bool.true_and]
  · rw [hm i hi z]; simp
/-! ===== the char cast and 65535 ===== -/
theorem em_w (v : Int32) : ∃ w : Nat, w < 65536 ∧ (v.toUInt32 % 65536).toInt32 = nI w ∧ v &&& 65535 = nI w := by
  have hr := lw_u16_r v
  have h0 : (0 : Int32).toInt = 0 := by decide
  obtain ⟨w, h1, h2⟩ := nI_of (x := lw_u16 v) (by rw [Int32.lt_iff_toInt_lt]; omega)
  have h3 : (v.toUInt32 % 65536).toInt32 = nI w := h2
  rw [h2, nI_toInt h1] at hr
  exact ⟨w, by omega, h3, by rw [← lg_i2c_mask, ← lg_i2c_nf, h3]⟩
/-! ===== Int64 as a set of bits: test, set, clear ===== -/
theorem ts_nf {x : Bool} (h : ¬ x = false) : x = true := by cases x <;> first | rfl | exact absurd rfl h
theorem ts_nt {x : Bool} (h : ¬ x = true) : x = false := by cases x <;> first | rfl | exact absurd rfl h
theorem ts_bit {w : Int64} {s : UInt64} {j : Nat} (hj : j < 64) (hs : s.toNat = j) : ((w.toUInt64 >>> s).toInt64 &&& 1) = 0 ↔ w.toBitVec.getLsbD j = false := by
  have e : (w.toUInt64 >>> s).toInt64.toBitVec = w.toBitVec >>> j := by
    apply BitVec.eq_of_toNat_eq
    show (w.toUInt64 >>> s).toNat = _
    rw [UInt64.toNat_shiftRight, hs, Nat.mod_eq_of_lt hj, BitVec.toNat_ushiftRight]
    rfl
  rw [← Int64.toBitVec_inj, Int64.toBitVec_and, e]
  show w.toBitVec >>> j &&& 1#64 = 0#64 ↔ _
  constructor
  · intro h
    have t := congrArg (fun x => x.getLsbD 0) h
    simpa using t
  · intro h
    apply BitVec.eq_of_getLsbD_eq
    intro i hi
    cases i with
    | zero => simp [h]
    | succ i => simp
theorem ts_or {w m : Int64} {j : Nat} (hj : j < 64) (hm : m.toBitVec = BitVec.twoPow 64 j) : (w ||| m) = w ↔ w.toBitVec.getLsbD j = true := by
  rw [← Int64.toBitVec_inj, Int64.toBitVec_or, hm]
  constructor
  · intro h
    have t := congrArg (fun x => x.getLsbD j) h
    simp only [BitVec.getLsbD_or, BitVec.getLsbD_twoPow] at t
    simpa [hj] using t.symm
  · intro h
    apply BitVec.eq_of_getLsbD_eq
    intro i hi
    rw [BitVec.getLsbD_or, BitVec.getLsbD_twoPow]
    by_cases e : j = i
    · subst e; rw [h, Bool.true_or]
    · simp [e]
theorem ts_and {w m : Int64} {j : Nat} (hj : j < 64) (hm : m.toBitVec = BitVec.twoPow 64 j) : (w &&& (m ^^^ (-1))) = w ↔ w.toBitVec.getLsbD j = false := by
  have ha : (-1 : Int64).toBitVec = BitVec.allOnes 64 := by decide
  rw [← Int64.toBitVec_inj, Int64.toBitVec_and, Int64.toBitVec_xor, hm, ha]
  constructor
  · intro h
    have t := congrArg (fun x => x.getLsbD j) h
    simp only [BitVec.getLsbD_and, BitVec.getLsbD_xor, BitVec.getLsbD_twoPow, BitVec.getLsbD_allOnes] at t
    simpa [hj] using t.symm
  · intro h
    apply BitVec.eq_of_getLsbD_eq
    intro i hi
    rw [BitVec.getLsbD_and, BitVec.getLsbD_xor, BitVec.getLsbD_twoPow, BitVec.getLsbD_allOnes]
    by_cases e : j = i
    · subst e; rw [h, Bool.false_and]
    · simp [e, hi]
/-! ===== lN n to 2^64: shifts, and, or, masks, one bit ===== -/
theorem wb_tb (n : Nat) : (lN n).toBitVec = BitVec.ofNat 64 n := rfl
theorem wb_inj {a b : Int64} (h : a.toBitVec = b.toBitVec) : a = b := Int64.toBitVec_inj.mp h
theorem wb_tn {n : Nat} (h : n < 2 ^ 64) : (lN n).toBitVec.toNat = n := by rw [wb_tb, BitVec.toNat_ofNat, Nat.mod_eq_of_lt h]
theorem wb_of (x : Int64) : ∃ n, n < 2 ^ 64 ∧ x = lN n := ⟨x.toBitVec.toNat, x.toBitVec.isLt, wb_inj (by rw [wb_tb]; simp)⟩
theorem wb_of32 (x : Int32) : ∃ n, n < 2 ^ 32 ∧ x = nI n := ⟨x.toBitVec.toNat, x.toBitVec.isLt, Int32.toBitVec_inj.mp (by show _ = BitVec.ofNat 32 _; simp)⟩
theorem wb_c : ∀ k, k < 64 → ((nI k).toInt64 &&& 63) = lN k := by decide +kernel
theorem wb_cu : ∀ k, k < 64 → ((nI k).toInt64.toUInt64 &&& Int64.toUInt64 63) = UInt64.ofNat k := by decide +kernel
theorem wb_sm : ∀ k, k < 64 → (BitVec.ofNat 64 k).smod 64 = BitVec.ofNat 64 k := by decide +kernel
theorem wb_pw {a b : Nat} (h : a ≤ b) : 2 ^ b = 2 ^ a * 2 ^ (b - a) := by rw [← Nat.pow_add]; congr 1; omega
theorem wb_lt2 {a b : Nat} (h : a < b) : 2 ^ a < 2 ^ b := Nat.pow_lt_pow_right (by decide) h
theorem wb_mod (n : Nat) : lN n = lN (n % 2 ^ 64) := wb_inj (by rw [wb_tb, wb_tb]; apply BitVec.eq_of_toNat_eq; rw [BitVec.toNat_ofNat, BitVec.toNat_ofNat, Nat.mod_mod])
theorem wb_shr {n k : Nat} (hn : n < 2 ^ 64) (hk : k < 64) : ((lN n).toUInt64 >>> ((nI k).toInt64.toUInt64 &&& Int64.toUInt64 63)).toInt64 = lN (n / 2 ^ k) := by
  rw [wb_cu k hk]
  apply wb_inj
  apply BitVec.eq_of_toNat_eq
  show ((lN n).toUInt64 >>> UInt64.ofNat k).toNat = (BitVec.ofNat 64 _).toNat
  have h1 : (UInt64.ofNat k).toNat = k := by
    show (BitVec.ofNat 64 k).toNat = k
    rw [BitVec.toNat_ofNat, Nat.mod_eq_of_lt (by omega)]
  have h2 : (lN n).toUInt64.toNat = n := wb_tn hn
  rw [UInt64.toNat_shiftRight, h1, h2, Nat.mod_eq_of_lt hk, Nat.shiftRight_eq_div_pow, BitVec.toNat_ofNat, Nat.mod_eq_of_lt (Nat.lt_of_le_of_lt (Nat.div_le_self _ _) hn)]
theorem wb_shl (n : Nat) {k : Nat} (hk : k < 64) : lN n <<< ((nI k).toInt64 &&& 63) = lN (n * 2 ^ k) := by
  rw [wb_c k hk]
  apply wb_inj
  rw [Int64.toBitVec_shiftLeft, wb_tb, wb_tb, wb_tb, wb_sm k hk]
  apply BitVec.eq_of_toNat_eq
  rw [BitVec.shiftLeft_eq', BitVec.toNat_shiftLeft, BitVec.toNat_ofNat, BitVec.toNat_ofNat, BitVec.toNat_ofNat, Nat.mod_eq_of_lt (show k < 2 ^ 64 by omega), Nat.shiftLeft_eq, Nat.mul_mod, Nat.mod_mod, ← Nat.mul_mod]
theorem wb_and {a b : Nat} (ha : a < 2 ^ 64) (hb : b < 2 ^ 64) : lN a &&& lN b = lN (a &&& b) := by
  apply wb_inj
  rw [Int64.toBitVec_and, wb_tb, wb_tb, wb_tb]
  apply BitVec.eq_of_toNat_eq
  rw [BitVec.toNat_and, BitVec.toNat_ofNat, BitVec.toNat_ofNat, BitVec.toNat_ofNat, Nat.mod_eq_of_lt ha, Nat.mod_eq_of_lt hb, Nat.mod_eq_of_lt (Nat.and_lt_two_pow _ hb)]
theorem wb_or {a b : Nat} (ha : a < 2 ^ 64) (hb : b < 2 ^ 64) : lN a ||| lN b = lN (a ||| b) := by
  apply wb_inj
  rw [Int64.toBitVec_or, wb_tb, wb_tb, wb_tb]
  apply BitVec.eq_of_toNat_eq
  rw [BitVec.toNat_or, BitVec.toNat_ofNat, BitVec.toNat_ofNat, BitVec.toNat_ofNat, Nat.mod_eq_of_lt ha, Nat.mod_eq_of_lt hb, Nat.mod_eq_of_lt (Nat.or_lt_two_pow ha hb)]
theorem wb_mask {n k : Nat} (hn : n < 2 ^ 64) (hk : k < 64) : lN n &&& lN (2 ^ k - 1) = lN (n % 2 ^ k) := by
  rw [wb_and hn (by have := wb_lt2 hk; omega), Nat.and_two_pow_sub_one_eq_mod]
theorem wb_a1 {n : Nat} (hn : n < 2 ^ 64) : lN n &&& 1 = lN (n % 2) := wb_mask (k := 1) hn (by decide)
theorem wb_bit {n k : Nat} (hn : n < 2 ^ 64) (hk : k < 64) : ((lN n).toUInt64 >>> ((nI k).toInt64.toUInt64 &&& Int64.toUInt64 63)).toInt64 &&& 1 = lN (n / 2 ^ k % 2) := by
  rw [wb_shr hn hk, wb_a1 (Nat.lt_of_le_of_lt (Nat.div_le_self _ _) hn)]
theorem wb_xor {q k : Nat} (hk : k < 63) (h : 2 ^ k ≤ q) (h2 : q < 2 ^ (k + 1)) : lN q ^^^ lN (2 ^ k) = lN (q - 2 ^ k) := by
  obtain ⟨r, rfl⟩ : ∃ r, q = 2 ^ k + r := ⟨q - 2 ^ k, by omega⟩
  have hr : r < 2 ^ k := by rw [Nat.pow_succ] at h2; omega
  have hx : (2 ^ k + r) ^^^ 2 ^ k = r := by
    apply Nat.eq_of_testBit_eq
    intro i
    rw [Nat.testBit_xor, Nat.testBit_two_pow]
    rcases Nat.lt_trichotomy i k with h | h | h
    · rw [Nat.testBit_two_pow_add_gt h]
      simp [show ¬ k = i by omega]
    · subst h
      rw [Nat.testBit_two_pow_add_eq]
      simp
    · have a1 : 2 ^ (k + 1) ≤ 2 ^ i := Nat.pow_le_pow_right (by decide) h
      rw [Nat.testBit_lt_two_pow (show 2 ^ k + r < 2 ^ i by omega), Nat.testBit_lt_two_pow (show r < 2 ^ i by omega)]
      simp [show ¬ k = i by omega]
  have b1 := wb_lt2 (show k + 1 < 64 by omega)
  have b2 := wb_lt2 (show k < 64 by omega)
  apply wb_inj
  rw [Int64.toBitVec_xor, wb_tb, wb_tb, wb_tb]
  apply BitVec.eq_of_toNat_eq
  rw [BitVec.toNat_xor, BitVec.toNat_ofNat, BitVec.toNat_ofNat, BitVec.toNat_ofNat, Nat.mod_eq_of_lt (by omega : 2 ^ k + r < 2 ^ 64), Nat.mod_eq_of_lt b2, hx, Nat.add_sub_cancel_left, Nat.mod_eq_of_lt (by omega)]
/-! ===== lN: masks, 'or' of parts that don't overlap is a sum ===== -/
theorem u_tn {n : Nat} (h : n < 2 ^ 64) : (UInt64.ofNat n).toNat = n := Nat.mod_eq_of_lt h
theorem g_and {a b c : Nat} (ha : a < 2 ^ 64) (hb : b < 2 ^ 64) (hc : a &&& b = c) : lN a &&& lN b = lN c := by
  subst hc
  have h : UInt64.ofNat a &&& UInt64.ofNat b = UInt64.ofNat (a &&& b) := UInt64.toNat_inj.mp (by rw [UInt64.toNat_and, u_tn ha, u_tn hb, u_tn (Nat.and_lt_two_pow a hb)])
  have h2 := congrArg UInt64.toInt64 h
  exact h2
theorem g_and1 {a : Nat} (ha : a < 2 ^ 64) : lN a &&& 1 = lN (a % 2) := g_and (b := 1) ha (by decide) (Nat.and_two_pow_sub_one_eq_mod a 1)
theorem g_mask {a s p : Nat} (hp : 2 ^ s = p) (hs : s < 64) (ha : a < 2 ^ 64) : lN a &&& lN (p - 1) = lN (a % p) := by
  subst hp
  have := Nat.pow_lt_pow_right (show 1 < 2 by decide) hs
  exact g_and ha (by omega) (Nat.and_two_pow_sub_one_eq_mod a s)
theorem g_or {k p a b : Nat} (hp : 2 ^ k = p) (ha : a < p) (h : b * p + a < 2 ^ 64) : lN (b * p) ||| lN a = lN (b * p + a) := by
  subst hp
  have h1 : b * 2 ^ k ||| a = b * 2 ^ k + a := by rw [← Nat.shiftLeft_eq, Nat.shiftLeft_add_eq_or_of_lt ha]
  have h3 : UInt64.ofNat (b * 2 ^ k) ||| UInt64.ofNat a = UInt64.ofNat (b * 2 ^ k + a) := UInt64.toNat_inj.mp (by rw [UInt64.toNat_or, u_tn (by omega), u_tn (by omega), u_tn h, h1])
  have h2 := congrArg UInt64.toInt64 h3
  exact h2
theorem g_or' {k p a b : Nat} (hp : 2 ^ k = p) (ha : a < p) (h : a + b * p < 2 ^ 64) : lN a ||| lN (b * p) = lN (a + b * p) := by
  rw [Int64.or_comm, g_or hp ha (by omega), Nat.add_comm]
theorem g_ushr {a k p : Nat} {y : UInt64} (hy : y = UInt64.ofNat k) (hk : k < 64) (hp : 2 ^ k = p) (ha : a < 2 ^ 64) : ((lN a).toUInt64 >>> y).toInt64 = lN (a / p) := by
  subst hy hp
  have h : UInt64.ofNat a >>> UInt64.ofNat k = UInt64.ofNat (a / 2 ^ k) := UInt64.toNat_inj.mp (by rw [UInt64.toNat_shiftRight, u_tn ha, u_tn (by omega), u_tn (Nat.lt_of_le_of_lt (Nat.div_le_self _ _) ha), Nat.mod_eq_of_lt hk, Nat.shiftRight_eq_div_pow])
  have h2 := congrArg UInt64.toInt64 h
  exact h2
theorem g_shl {a k p : Nat} {y : Int64} (hy : y.toBitVec.smod 64 = BitVec.ofNat 64 k) (hk : k < 64) (hp : 2 ^ k = p) (ha : a < 2 ^ 64) : lN a <<< y = lN (a * p) := by
  subst hp
  apply Int64.toBitVec_inj.mp
  rw [Int64.toBitVec_shiftLeft, hy]
  apply BitVec.eq_of_toNat_eq
  have hb : (lN a).toBitVec.toNat = a := Nat.mod_eq_of_lt ha
  have hk' : (BitVec.ofNat 64 k).toNat = k := Nat.mod_eq_of_lt (by omega)
  have h : ((lN a).toBitVec <<< BitVec.ofNat 64 k).toNat = (a * 2 ^ k) % 2 ^ 64 := by simp only [BitVec.shiftLeft_eq', BitVec.toNat_shiftLeft, hb, hk', Nat.shiftLeft_eq]
  exact h
/-! ===== lN to 2^62 under >> and >>> ===== -/
theorem pf_lI {a : Nat} (h : a < 2 ^ 63) : (lN a).toInt = (a : Int) := lg_ofNat_toInt h
theorem pf_shr {a d : Nat} {D : Int64} (hD : (D.toBitVec.smod 64).toNat = d) (h : a < 2 ^ 62) : lN a >>> D = lN (a / 2 ^ d) := by
  have hd : a / 2 ^ d ≤ a := Nat.div_le_self _ _
  apply Int64.toInt_inj.mp
  have e : (lN a >>> D).toInt = (lN a).toInt >>> d := by
    rw [← hD]
    exact BitVec.toInt_sshiftRight ..
  rw [e, Int.shiftRight_eq_div_pow, pf_lI (by omega), pf_lI (by omega)]
  rfl
theorem pf_ushr {a d : Nat} {D : UInt64} (hD : D.toNat % 64 = d) (h : a < 2 ^ 62) : ((lN a).toUInt64 >>> D).toInt64 = lN (a / 2 ^ d) := by
  have hd : a / 2 ^ d ≤ a := Nat.div_le_self _ _
  have e : (lN a).toUInt64 >>> D = UInt64.ofNat (a / 2 ^ d) := UInt64.toNat_inj.mp (by
    rw [UInt64.toNat_shiftRight, hD, Nat.shiftRight_eq_div_pow, UInt64.toNat_ofNat']
    show (UInt64.ofNat a).toNat / 2 ^ d = _
    rw [UInt64.toNat_ofNat', Nat.mod_eq_of_lt (by omega), Nat.mod_eq_of_lt (by omega)])
  rw [e]
  rfl
theorem pf_andw (x : Int64) : ∃ m, m < 2 ^ 32 ∧ x &&& 4294967295 = lN m := ⟨x.toBitVec.toNat % 2 ^ 32, Nat.mod_lt _ (by decide), Int64.toBitVec_inj.mp (BitVec.eq_of_toNat_eq (by
  show (x.toBitVec &&& 4294967295#64).toNat = (BitVec.ofNat 64 (x.toBitVec.toNat % 2 ^ 32)).toNat
  rw [BitVec.toNat_and, show (4294967295#64).toNat = 2 ^ 32 - 1 from by decide, Nat.and_two_pow_sub_one_eq_mod, BitVec.toNat_ofNat]
  omega))⟩
/-! ===== Int64 as an unsigned number: uN x ===== -/
def uN (x : Int64) : Nat := x.toUInt64.toNat
theorem uN_lt (x : Int64) : uN x < 18446744073709551616 := x.toUInt64.toNat_lt
theorem uN_inj {x y : Int64} (h : uN x = uN y) : x = y := congrArg UInt64.toInt64 (UInt64.toNat_inj.mp h)
theorem uN_add (x y : Int64) : uN (x + y) = (uN x + uN y) % 18446744073709551616 := by
  show (x.toUInt64 + y.toUInt64).toNat = _
  exact UInt64.toNat_add _ _
theorem uN_mul (x y : Int64) : uN (x * y) = (uN x * uN y) % 18446744073709551616 := by
  show (x.toUInt64 * y.toUInt64).toNat = _
  exact UInt64.toNat_mul _ _
theorem uN_shl (x : Int64) : uN (x <<< ((1 : Int32).toInt64 &&& 63)) = (2 * uN x) % 18446744073709551616 := by
  have h : (((1 : Int32).toInt64 &&& 63).toBitVec.smod 64).toNat = 1 := by decide
  show (x.toBitVec <<< (((1 : Int32).toInt64 &&& 63).toBitVec.smod 64).toNat).toNat = _
  rw [h, BitVec.toNat_shiftLeft, Nat.shiftLeft_eq, Nat.mul_comm]
  rfl
theorem uN_shr (x : Int64) (s : UInt64) : uN (x.toUInt64 >>> s).toInt64 = uN x / 2 ^ (s.toNat % 64) := by
  show (x.toUInt64 >>> s).toNat = _
  rw [UInt64.toNat_shiftRight, Nat.shiftRight_eq_div_pow]
  rfl
theorem uN_s32 (x : Int64) : uN (x.toUInt64 >>> ((32 : Int32).toInt64.toUInt64 &&& Int64.toUInt64 63)).toInt64 = uN x / 4294967296 := by
  have h : ((32 : Int32).toInt64.toUInt64 &&& Int64.toUInt64 63).toNat % 64 = 32 := by decide
  rw [uN_shr, h]
theorem uN_s63 (x : Int64) : uN (x.toUInt64 >>> ((63 : Int32).toInt64.toUInt64 &&& Int64.toUInt64 63)).toInt64 = uN x / 9223372036854775808 := by
  have h : ((63 : Int32).toInt64.toUInt64 &&& Int64.toUInt64 63).toNat % 64 = 63 := by decide
  rw [uN_shr, h]
theorem uN_lo (x : Int64) : uN (x &&& 4294967295) = uN x % 4294967296 := by
  show (x.toUInt64 &&& Int64.toUInt64 4294967295).toNat = _
  rw [UInt64.toNat_and]
  exact Nat.and_two_pow_sub_one_eq_mod _ 32
theorem uN_bit (x : Int64) : (x &&& 1) = 0 ↔ uN x % 2 = 0 := by
  have h : uN (x &&& 1) = uN x % 2 := by
    show (x.toUInt64 &&& Int64.toUInt64 1).toNat = _
    rw [UInt64.toNat_and]
    exact Nat.and_two_pow_sub_one_eq_mod _ 1
  rw [← h]
  exact ⟨fun z => by rw [z]; rfl, fun z => uN_inj (z.trans rfl)⟩
theorem uN_or {x y : Int64} (hy : uN y < 2) : uN ((x <<< ((1 : Int32).toInt64 &&& 63)) ||| y) = (2 * uN x) % 18446744073709551616 + uN y := by
  have h1 : uN ((x <<< ((1 : Int32).toInt64 &&& 63)) ||| y) = uN (x <<< ((1 : Int32).toInt64 &&& 63)) ||| uN y := UInt64.toNat_or _ _
  have h2 : (2 * uN x) % 18446744073709551616 = 2 ^ 1 * (uN x % 9223372036854775808) := by omega
  rw [h1, uN_shl, h2]
  exact (Nat.two_pow_add_eq_or_of_lt (i := 1) hy _).symm
theorem nat_xor {a : Nat} (h : a < 18446744073709551616) : a ^^^ 2 ^ 63 = (a + 9223372036854775808) % 18446744073709551616 := by
  have h1 : (a ^^^ 2 ^ 63) % 2 ^ 63 = a % 2 ^ 63 := by rw [Nat.xor_mod_two_pow, Nat.mod_self, Nat.xor_zero]
  have h2 : (a ^^^ 2 ^ 63) / 2 ^ 63 = (a / 2 ^ 63) ^^^ 1 := by rw [Nat.xor_div_two_pow, Nat.div_self (Nat.two_pow_pos 63)]
  have h3 : a / 2 ^ 63 = 0 ∨ a / 2 ^ 63 = 1 := by omega
  generalize a ^^^ 2 ^ 63 = t at h1 h2
  rcases h3 with h3 | h3
  · rw [h3] at h2
    have h2 : t / 2 ^ 63 = 1 := h2
    omega
  · rw [h3] at h2
    have h2 : t / 2 ^ 63 = 0 := h2
    omega
theorem uN_xor (x : Int64) : uN (x ^^^ (-9223372036854775808)) = (uN x + 9223372036854775808) % 18446744073709551616 := by
  rw [← nat_xor (uN_lt x)]
  exact UInt64.toNat_xor _ _
theorem uN_int (x : Int64) : x.toInt = if 2 * uN x < 18446744073709551616 then (uN x : Int) else (uN x : Int) - 18446744073709551616 := BitVec.toInt_eq_toNat_cond _
theorem uN_le (x y : Int64) : (x ^^^ (-9223372036854775808)) ≤ (y ^^^ (-9223372036854775808)) ↔ uN x ≤ uN y := by
  have hx := uN_lt x
  have hy := uN_lt y
  rw [Int64.le_iff_toInt_le, uN_int, uN_int, uN_xor, uN_xor]
  omega
theorem uN_sk (x : Int64) {k : Nat} (hk : k < 64) : uN (x.toUInt64 >>> ((nI k).toInt64.toUInt64 &&& Int64.toUInt64 63)).toInt64 = uN x / 2 ^ k := by
  have h : ((nI k).toInt64.toUInt64 &&& Int64.toUInt64 63).toNat % 64 = k := by
    rw [nI_l (by omega), UInt64.toNat_and]
    have e : (lN k).toUInt64.toNat = k % 2 ^ 64 := rfl
    have e2 : (Int64.toUInt64 63).toNat = 2 ^ 6 - 1 := by decide
    rw [e, e2, Nat.and_two_pow_sub_one_eq_mod]
    omega
  rw [uN_shr, h]
/-! ===== unsigned comparison by xor with the least ===== -/
theorem lN_bv (n : Nat) : (lN n).toBitVec = BitVec.ofNat 64 n := rfl
theorem lN_nat {n : Nat} (h : n < 2 ^ 64) : (lN n).toBitVec.toNat = n := by rw [lN_bv, BitVec.toNat_ofNat]; exact Nat.mod_eq_of_lt h
theorem lN_xor (a b : Nat) : lN a ^^^ lN b = lN (a ^^^ b) := by
  apply Int64.toBitVec_inj.mp; rw [Int64.toBitVec_xor, lN_bv, lN_bv, lN_bv]; apply BitVec.eq_of_getLsbD_eq; intro i hi; simp [BitVec.getLsbD_ofNat, Nat.testBit_xor, hi]
theorem lN_ti {m : Nat} (h : m < 2 ^ 64) : (lN m).toInt = if m < 2 ^ 63 then (m : Int) else (m : Int) - 2 ^ 64 := by
  have c := BitVec.toInt_eq_toNat_cond (lN m).toBitVec
  rw [lN_nat h] at c
  show (lN m).toBitVec.toInt = _
  rw [c]
  split <;> split <;> omega
theorem xor63 {x : Nat} (h : x < 2 ^ 63) : x ^^^ 2 ^ 63 = 2 ^ 63 + x := by
  apply Nat.eq_of_testBit_eq
  intro i
  rw [Nat.testBit_xor, Nat.testBit_two_pow]
  rcases Nat.lt_trichotomy i 63 with z | z | z
  · rw [Nat.testBit_two_pow_add_gt z, decide_eq_false (by omega)]; simp
  · subst z; rw [Nat.testBit_two_pow_add_eq]; simp
  · have hp : 2 ^ 64 ≤ 2 ^ i := Nat.pow_le_pow_right (by decide) z
    rw [Nat.testBit_lt_two_pow (show x < 2 ^ i by omega), Nat.testBit_lt_two_pow (show 2 ^ 63 + x < 2 ^ i by omega), decide_eq_false (by omega)]; rfl
theorem xorS {a : Nat} (h : a < 2 ^ 64) : (lN a ^^^ (-9223372036854775808)).toInt = (a : Int) - 2 ^ 63 := by
  rw [show (-9223372036854775808 : Int64) = lN (2 ^ 63) from by decide +kernel, lN_xor]
  rcases Nat.lt_or_ge a (2 ^ 63) with z | z
  · rw [xor63 z, lN_ti (by omega), if_neg (by omega)]; omega
  · obtain ⟨x, rfl⟩ : ∃ x, a = 2 ^ 63 + x := ⟨a - 2 ^ 63, by omega⟩
    rw [← xor63 (by omega), Nat.xor_assoc, Nat.xor_self, Nat.xor_zero, lN_ti (by omega), if_pos (by omega), xor63 (by omega)]; omega
theorem ultL {a b : Nat} (ha : a < 2 ^ 64) (hb : b < 2 ^ 64) : ((lN b ^^^ (-9223372036854775808)) ≤ (lN a ^^^ (-9223372036854775808))) ↔ b ≤ a := by
  rw [Int64.le_iff_toInt_le, xorS ha, xorS hb]; omega
/-! ===== Int64 masks of n low bits ===== -/
theorem cr_bits (W U M : BitVec 64) : ((W &&& U) &&& (U &&& (M ^^^ BitVec.allOnes 64))) = 0#64 ↔ (W &&& U) &&& M = W &&& U := by
  constructor
  · intro h
    apply BitVec.eq_of_getLsbD_eq
    intro i hi
    have e := congrArg (fun x => BitVec.getLsbD x i) h
    simp only [BitVec.getLsbD_and, BitVec.getLsbD_xor, BitVec.getLsbD_allOnes, BitVec.getLsbD_zero, hi, decide_true] at e ⊢
    revert e
    cases W.getLsbD i <;> cases U.getLsbD i <;> cases M.getLsbD i <;> decide
  · intro h
    apply BitVec.eq_of_getLsbD_eq
    intro i hi
    have e := congrArg (fun x => BitVec.getLsbD x i) h
    simp only [BitVec.getLsbD_and, BitVec.getLsbD_xor, BitVec.getLsbD_allOnes, BitVec.getLsbD_zero, hi, decide_true] at e ⊢
    revert e
    cases W.getLsbD i <;> cases U.getLsbD i <;> cases M.getLsbD i <;> decide
theorem cr_mask (w U m : Int64) (n : Nat) (hm : m.toBitVec.toNat = 2 ^ n - 1) : ((w &&& U) &&& (U &&& (m ^^^ (-1)))) = 0 ↔ (w &&& U).toBitVec.toNat < 2 ^ n := by
  have e0 : (-1 : Int64).toBitVec = BitVec.allOnes 64 := by decide
  have z0 : (0 : Int64).toBitVec = 0#64 := by decide
  rw [← Int64.toBitVec_inj, z0, Int64.toBitVec_and, Int64.toBitVec_and, Int64.toBitVec_and, Int64.toBitVec_xor, e0, cr_bits]
  generalize w.toBitVec &&& U.toBitVec = T
  rw [← BitVec.toNat_inj, BitVec.toNat_and, hm, Nat.and_two_pow_sub_one_eq_mod]
  constructor
  · intro h
    have t := Nat.mod_lt T.toNat (Nat.two_pow_pos n)
    rw [h] at t
    exact t
  · exact Nat.mod_eq_of_lt
theorem cr_shr (t : Int64) (x : UInt64) (n : Nat) (hx : x.toNat % 64 = n) : (t.toUInt64 >>> x).toInt64 = 0 ↔ t.toBitVec.toNat < 2 ^ n := by
  rw [← Int64.toBitVec_inj, ← BitVec.toNat_inj]
  show (t.toUInt64 >>> x).toNat = 0 ↔ t.toUInt64.toNat < 2 ^ n
  rw [UInt64.toNat_shiftRight, hx, Nat.shiftRight_eq_div_pow]
  constructor
  · intro h
    have d : t.toUInt64.toNat / 2 ^ n < 1 := by
      rw [h]
      decide
    have e := (Nat.div_lt_iff_lt_mul (Nat.two_pow_pos n)).mp d
    rw [Nat.one_mul] at e
    exact e
  · exact Nat.div_eq_of_lt
theorem cr_amt (s : Int64) : ∃ n, n < 64 ∧ s &&& 63 = lN n ∧ (s.toUInt64 &&& Int64.toUInt64 63).toNat % 64 = n := by
  have e : (s.toUInt64 &&& Int64.toUInt64 63).toNat = s.toUInt64.toNat % 2 ^ 6 := by
    rw [UInt64.toNat_and, show (Int64.toUInt64 63).toNat = 2 ^ 6 - 1 from by decide, Nat.and_two_pow_sub_one_eq_mod]
  refine ⟨s.toUInt64.toNat % 2 ^ 6, by omega, ?_, by omega⟩
  rw [← Int64.toBitVec_inj, ← BitVec.toNat_inj]
  show (s.toUInt64 &&& Int64.toUInt64 63).toNat = (BitVec.ofNat 64 (s.toUInt64.toNat % 2 ^ 6)).toNat
  rw [e, BitVec.toNat_ofNat]
  omega
end
section
def sg_f (f : Nat → Nat) : Nat → Nat
  | 0 => 0
  | n + 1 => sg_f f n + f n
theorem sg_le {f g : Nat → Nat} : ∀ {n : Nat}, (∀ i, i < n → f i ≤ g i) → sg_f f n ≤ sg_f g n
  | 0, _ => Nat.le_refl _
  | n + 1, h => by
    have a := sg_le (f := f) (g := g) (n := n) (fun i hi => h i (by omega))
    have b := h n (by omega)
    simp only [sg_f]; omega
theorem sg_eq {f g : Nat → Nat} {n : Nat} (h : ∀ i, i < n → f i = g i) : sg_f f n = sg_f g n :=
  Nat.le_antisymm (sg_le fun i hi => Nat.le_of_eq (h i hi)) (sg_le fun i hi => Nat.le_of_eq (h i hi).symm)
theorem sg_add (f g : Nat → Nat) : ∀ n, sg_f (fun i => f i + g i) n = sg_f f n + sg_f g n
  | 0 => rfl
  | n + 1 => by have := sg_add f g n; simp only [sg_f]; omega
theorem sg_zero {f : Nat → Nat} : ∀ {n : Nat}, (∀ i, i < n → f i = 0) → sg_f f n = 0
  | 0, _ => rfl
  | n + 1, h => by
    have a := sg_zero (f := f) (n := n) (fun i hi => h i (by omega))
    have b := h n (by omega)
    simp only [sg_f]; omega
theorem sg_mem {f : Nat → Nat} {a : Nat} : ∀ {n : Nat}, a < n → f a ≤ sg_f f n
  | 0, h => by omega
  | n + 1, h => by
    simp only [sg_f]
    rcases Nat.lt_or_ge a n with z | z
    · have := sg_mem (f := f) z; omega
    · have e : a = n := by omega
      subst e; omega
theorem sg_upd {f g : Nat → Nat} {a : Nat} : ∀ {n : Nat}, a < n → (∀ i, i < n → i ≠ a → f i = g i) → sg_f f n + g a = sg_f g n + f a
  | 0, h, _ => by omega
  | n + 1, h, e => by
    simp only [sg_f]
    rcases Nat.lt_or_ge a n with z | z
    · have x := sg_upd (f := f) (g := g) z (fun i hi ne => e i (by omega) ne)
      have y := e n (by omega) (by omega)
      omega
    · have q : a = n := by omega
      subst q
      have x := sg_eq (f := f) (g := g) (n := a) (fun i hi => e i (by omega) (by omega))
      omega
theorem sg_lt {f g : Nat → Nat} {a n : Nat} (ha : a < n) (h : ∀ i, i < n → f i ≤ g i) (hl : f a < g a) : sg_f f n < sg_f g n := by
  have x := sg_upd (f := fun i => if i = a then f i else g i) (g := g) ha (fun i hi ne => by simp only [if_neg ne])
  have y := sg_le (f := f) (g := fun i => if i = a then f i else g i) (n := n) (fun i hi => by
    by_cases z : i = a
    · simp only [if_pos z]; omega
    · simp only [if_neg z]; exact h i hi)
  simp only [if_true, if_pos rfl] at x
  omega
theorem sg_one {f : Nat → Nat} {c : Nat} : ∀ {n : Nat}, (∀ i, i < n → f i ≤ c) → (∀ i j, i < n → j < n → f i ≠ 0 → f j ≠ 0 → i = j) → sg_f f n ≤ c
  | 0, _, _ => Nat.zero_le _
  | n + 1, h, u => by
    simp only [sg_f]
    by_cases z : f n = 0
    · have := sg_one (f := f) (c := c) (n := n) (fun i hi => h i (by omega)) (fun i j hi hj a b => u i j (by omega) (by omega) a b)
      omega
    · have q : sg_f f n = 0 := sg_zero (fun i hi => Classical.byContradiction fun q => by
        have := u i n (by omega) (by omega) q z
        omega)
      have := h n (by omega)
      omega
theorem sg_const (c : Nat) : ∀ n, sg_f (fun _ => c) n = n * c
  | 0 => by simp [sg_f]
  | n + 1 => by simp only [sg_f]; rw [sg_const c n, Nat.succ_mul]
theorem sg_swap (f : Nat → Nat → Nat) (m : Nat) : ∀ n, sg_f (fun i => sg_f (fun j => f i j) m) n = sg_f (fun j => sg_f (fun i => f i j) n) m
  | 0 => (sg_zero (fun i hi => rfl)).symm
  | n + 1 => by
    have ih := sg_swap f m n
    have h := sg_add (fun j => sg_f (fun i => f i j) n) (fun j => f n j) m
    simp only [sg_f]
    rw [ih]
    exact h.symm
theorem sg_ex {f : Nat → Nat} : ∀ {n : Nat}, sg_f f n ≠ 0 → ∃ i, i < n ∧ f i ≠ 0
  | 0, h => absurd rfl h
  | n + 1, h => by
    by_cases z : f n = 0
    · simp only [sg_f, z] at h
      obtain ⟨i, hi, q⟩ := sg_ex (f := f) (n := n) (by omega)
      exact ⟨i, by omega, q⟩
    · exact ⟨n, by omega, z⟩
theorem sg_mul (f : Nat → Nat) (c : Nat) : ∀ n, sg_f (fun i => f i * c) n = sg_f f n * c
  | 0 => by simp [sg_f]
  | n + 1 => by simp only [sg_f]; rw [sg_mul f c n, Nat.add_mul]
def sg_x (f : Nat → Nat) : Nat → Nat
  | 0 => 0
  | n + 1 => if sg_x f n ≤ f n then f n else sg_x f n
theorem sg_xle {f : Nat → Nat} {L : Nat} : ∀ {n : Nat}, (∀ i, i < n → f i ≤ L) → sg_x f n ≤ L
  | 0, _ => Nat.zero_le _
  | n + 1, h => by
    have a := sg_xle (f := f) (L := L) (n := n) (fun i hi => h i (by omega))
    have b := h n (by omega)
    simp only [sg_x]; split <;> omega
theorem sg_xge {f : Nat → Nat} {a : Nat} : ∀ {n : Nat}, a < n → f a ≤ sg_x f n
  | 0, h => by omega
  | n + 1, h => by
    simp only [sg_x]
    rcases Nat.lt_or_ge a n with z | z
    · have := sg_xge (f := f) z; split <;> omega
    · have e : a = n := by omega
      subst e; split <;> omega
theorem sg_xat {f : Nat → Nat} : ∀ {n : Nat}, sg_x f n = 0 ∨ ∃ i, i < n ∧ sg_x f n = f i
  | 0 => Or.inl rfl
  | n + 1 => by
    simp only [sg_x]
    by_cases z : sg_x f n ≤ f n
    · rw [if_pos z]; exact Or.inr ⟨n, by omega, rfl⟩
    · rw [if_neg z]
      rcases sg_xat (f := f) (n := n) with q | ⟨i, hi, q⟩
      · exact Or.inl q
      · exact Or.inr ⟨i, by omega, q⟩
theorem sg_xeq {f g : Nat → Nat} : ∀ {n : Nat}, (∀ i, i < n → f i = g i) → sg_x f n = sg_x g n
  | 0, _ => rfl
  | n + 1, h => by simp only [sg_x]; rw [sg_xeq (n := n) (fun i hi => h i (by omega)), h n (by omega)]
/-! disjoint intervals within [b, e] -/
theorem js_pack {n b e : Nat} {D s : Nat → Nat} {S : Nat → Bool}
    (hd : ∀ x y, x < n → y < n → S x = true → S y = true → x ≠ y → s x + D x ≤ s y ∨ s y + D y ≤ s x)
    (hb : ∀ x, x < n → S x = true → b ≤ s x) (he : ∀ x, x < n → S x = true → s x + D x ≤ e) (hbe : b ≤ e) :
    b + sg_f (fun x => if S x = true then D x else 0) n ≤ e := by
  have key : ∀ k, sg_f (fun x => if S x = true then min (b + k) (s x + D x) - min (b + k) (s x) else 0) n ≤ k := by
    intro k
    induction k with
    | zero =>
      refine Nat.le_of_eq (sg_zero fun i hi => ?_)
      by_cases z : S i = true
      · have := hb i hi z
        simp only [if_pos z]; omega
      · simp only [if_neg z]
    | succ k ih =>
      have h1 : sg_f (fun x => if S x = true then (if s x ≤ b + k ∧ b + k < s x + D x then 1 else 0) else 0) n ≤ 1 := by
        refine sg_one (fun i hi => ?_) (fun i j hi hj a c => ?_)
        · by_cases z : S i = true
          · simp only [if_pos z]; split <;> omega
          · simp only [if_neg z]; omega
        · by_cases zi : S i = true
          · by_cases zj : S j = true
            · simp only [if_pos zi] at a
              simp only [if_pos zj] at c
              by_cases q : s i ≤ b + k ∧ b + k < s i + D i
              · by_cases r : s j ≤ b + k ∧ b + k < s j + D j
                · refine Classical.byContradiction fun ne => ?_
                  have := hd i j hi hj zi zj ne
                  omega
                · rw [if_neg r] at c; exact absurd rfl c
              · rw [if_neg q] at a; exact absurd rfl a
            · simp only [if_neg zj] at c; exact absurd rfl c
          · simp only [if_neg zi] at a; exact absurd rfl a
      have h2 := sg_add (fun x => if S x = true then min (b + k) (s x + D x) - min (b + k) (s x) else 0) (fun x => if S x = true then (if s x ≤ b + k ∧ b + k < s x + D x then 1 else 0) else 0) n
      have h3 : sg_f (fun x => if S x = true then min (b + (k + 1)) (s x + D x) - min (b + (k + 1)) (s x) else 0) n ≤ sg_f (fun x => (if S x = true then min (b + k) (s x + D x) - min (b + k) (s x) else 0) + (if S x = true then (if s x ≤ b + k ∧ b + k < s x + D x then 1 else 0) else 0)) n := by
        refine sg_le fun i hi => ?_
        by_cases z : S i = true
        · simp only [if_pos z]
          by_cases q : s i ≤ b + k ∧ b + k < s i + D i
          · rw [if_pos q]; omega
          · rw [if_neg q]; omega
        · simp only [if_neg z]; omega
      omega
  have h := key (e - b)
  have h2 : sg_f (fun x => if S x = true then min (b + (e - b)) (s x + D x) - min (b + (e - b)) (s x) else 0) n = sg_f (fun x => if S x = true then D x else 0) n := by
    refine sg_eq fun i hi => ?_
    by_cases z : S i = true
    · have := he i hi z
      simp only [if_pos z]; omega
    · simp only [if_neg z]
  omega
end
section
def js_SO (n : Nat) (C : Nat → Nat → Bool) : Prop :=
  (∀ x y, C x y = true → x < n ∧ y < n) ∧ (∀ x, ¬ C x x = true) ∧ (∀ x y z, C x y = true → C y z = true → C x z = true)
def js_LK (C : Nat → Nat → Bool) (a b : Nat) : Nat → Nat → Bool := fun x y => C x y || ((decide (x = a) || C x a) && (decide (y = b) || C b y))
theorem js_LKi {C : Nat → Nat → Bool} {a b x y : Nat} : js_LK C a b x y = true ↔ C x y = true ∨ ((x = a ∨ C x a = true) ∧ (y = b ∨ C b y = true)) := by
  simp [js_LK]
theorem js_LKs {n a b : Nat} {C : Nat → Nat → Bool} (h : js_SO n C) (ha : a < n) (hb : b < n) (ne : a ≠ b) (nb : ¬ C b a = true) : js_SO n (js_LK C a b) := by
  obtain ⟨h1, h2, h3⟩ := h
  refine ⟨fun x y q0 => ?_, fun x q0 => ?_, fun x y z p0 q0 => ?_⟩
  · rcases js_LKi.mp q0 with q | ⟨q | q, r | r⟩
    · exact h1 x y q
    · subst q; subst r; exact ⟨ha, hb⟩
    · subst q; exact ⟨ha, (h1 _ _ r).2⟩
    · subst r; exact ⟨(h1 _ _ q).1, hb⟩
    · exact ⟨(h1 _ _ q).1, (h1 _ _ r).2⟩
  · rcases js_LKi.mp q0 with q | ⟨q | q, r | r⟩
    · exact h2 x q
    · exact ne (q.symm.trans r)
    · subst q; exact nb r
    · subst r; exact nb q
    · exact nb (h3 _ _ _ r q)
  · refine js_LKi.mpr ?_
    rcases js_LKi.mp p0 with p | ⟨p1, p2⟩
    · rcases js_LKi.mp q0 with q | ⟨q1, q2⟩
      · exact Or.inl (h3 _ _ _ p q)
      · refine Or.inr ⟨Or.inr ?_, q2⟩
        rcases q1 with q1 | q1
        · subst q1; exact p
        · exact h3 _ _ _ p q1
    · rcases js_LKi.mp q0 with q | ⟨q1, q2⟩
      · refine Or.inr ⟨p1, Or.inr ?_⟩
        rcases p2 with p2 | p2
        · subst p2; exact q
        · exact h3 _ _ _ p2 q
      · exact Or.inr ⟨p1, q2⟩
theorem js_LKab {C : Nat → Nat → Bool} (a b : Nat) : js_LK C a b a b = true := js_LKi.mpr (Or.inr ⟨Or.inl rfl, Or.inl rfl⟩)
theorem js_LKsub {C : Nat → Nat → Bool} {a b x y : Nat} (h : C x y = true) : js_LK C a b x y = true := js_LKi.mpr (Or.inl h)
def js_T (C : Nat → Nat → Bool) : Nat → Nat → Bool := fun x y => C y x
theorem js_Ts {n : Nat} {C : Nat → Nat → Bool} (h : js_SO n C) : js_SO n (js_T C) :=
  ⟨fun x y q => ⟨(h.1 y x q).2, (h.1 y x q).1⟩, fun x q => h.2.1 x q, fun x y z p q => h.2.2 z y x q p⟩
def js_rk (C : Nat → Nat → Bool) (n : Nat) (y : Nat) : Nat := sg_f (fun x => if C x y = true then 1 else 0) n
theorem js_rkl {n x y : Nat} {C : Nat → Nat → Bool} (h : js_SO n C) (q : C x y = true) : js_rk C n x < js_rk C n y := by
  refine sg_lt (a := x) (h.1 x y q).1 (fun i hi => ?_) ?_
  · by_cases z : C i x = true
    · have := h.2.2 i x y z q
      simp only [if_pos z, if_pos this]; omega
    · simp only [if_neg z]; omega
  · have := h.2.1 x
    simp only [if_neg this, if_pos q]; omega
theorem js_rkn {n y : Nat} {C : Nat → Nat → Bool} (h : js_SO n C) (hy : y < n) : js_rk C n y < n := by
  have e := sg_const 1 n
  have l : js_rk C n y < sg_f (fun _ => 1) n := by
    refine sg_lt (a := y) hy (fun i hi => ?_) ?_
    · by_cases z : C i y = true
      · simp only [if_pos z]; omega
      · simp only [if_neg z]; omega
    · have := h.2.1 y
      simp only [if_neg this]; omega
  omega
/-! functions that respect a relation; the least one -/
def js_RS (D : Nat → Nat) (C : Nat → Nat → Bool) (s : Nat → Nat) : Prop := ∀ x y, C x y = true → s x + D x ≤ s y
def js_HD (n : Nat) (D : Nat → Nat) (C : Nat → Nat → Bool) (H : Nat → Nat) : Prop := js_RS D C H ∧ ∀ s, js_RS D C s → ∀ y, y < n → H y ≤ s y
theorem js_HDat {n y : Nat} {D H : Nat → Nat} {C : Nat → Nat → Bool} (h : js_SO n C) (hH : js_HD n D C H) (hy : y < n) : H y = 0 ∨ ∃ x, C x y = true ∧ H y = H x + D x := by
  refine Classical.byContradiction fun no => ?_
  have n0 : H y ≠ 0 := fun e => no (Or.inl e)
  have nx : ∀ x, C x y = true → H y ≠ H x + D x := fun x q e => no (Or.inr ⟨x, q, e⟩)
  have r : js_RS D C (fun z => if z = y then H y - 1 else H z) := by
    intro x z q
    have b := hH.1 x z q
    by_cases e : z = y
    · subst e
      have e' : ¬ x = z := fun e' => by subst e'; exact h.2.1 _ q
      have c := nx x q
      simp only [if_neg e', if_true, if_pos rfl]; omega
    · by_cases e' : x = y
      · subst e'
        simp only [if_neg e, if_true, if_pos rfl]; omega
      · simp only [if_neg e, if_neg e']; omega
  have := hH.2 _ r y hy
  simp only [if_true, if_pos rfl] at this
  omega
theorem js_HDuq {n : Nat} {D H H' : Nat → Nat} {C : Nat → Nat → Bool} (a : js_HD n D C H) (b : js_HD n D C H') : ∀ y, y < n → H y = H' y :=
  fun y hy => Nat.le_antisymm (a.2 _ b.1 y hy) (b.2 _ a.1 y hy)
def js_lp (D : Nat → Nat) (C : Nat → Nat → Bool) (n : Nat) : Nat → Nat → Nat
  | 0, _ => 0
  | k + 1, y => sg_x (fun x => if C x y = true then js_lp D C n k x + D x else 0) n
theorem js_lps {n : Nat} {D : Nat → Nat} {C : Nat → Nat → Bool} (h : js_SO n C) : ∀ k y, js_rk C n y < k → ∀ k', k ≤ k' → js_lp D C n k' y = js_lp D C n k y := by
  intro k
  induction k with
  | zero => intro y hy; omega
  | succ k ih =>
    intro y hy k' hk
    obtain ⟨m, rfl⟩ : ∃ m, k' = m + 1 := ⟨k' - 1, by omega⟩
    simp only [js_lp]
    refine sg_xeq fun x hx => ?_
    by_cases z : C x y = true
    · have l := js_rkl h z
      simp only [if_pos z]
      rw [ih x (by omega) m (by omega)]
    · simp only [if_neg z]
theorem js_HDex {n : Nat} {C : Nat → Nat → Bool} (D : Nat → Nat) (h : js_SO n C) : ∃ H, js_HD n D C H := by
  refine ⟨fun y => js_lp D C n (n + 1) y, fun x y q => ?_, fun s r y hy => ?_⟩
  · have l := js_rkn h (h.1 x y q).1
    have e := js_lps (D := D) h n x l (n + 1) (by omega)
    have g := sg_xge (f := fun x => if C x y = true then js_lp D C n n x + D x else 0) (h.1 x y q).1
    simp only [if_pos q] at g
    show js_lp D C n (n + 1) x + D x ≤ sg_x (fun x => if C x y = true then js_lp D C n n x + D x else 0) n
    omega
  · have key : ∀ k z, js_lp D C n k z ≤ s z := by
      intro k
      induction k with
      | zero => intro z; exact Nat.zero_le _
      | succ k ih =>
        intro z
        refine sg_xle fun i hi => ?_
        by_cases q : C i z = true
        · have := r i z q
          have := ih i
          simp only [if_pos q]; omega
        · simp only [if_neg q]; omega
    exact key _ y
theorem js_HDt {n L : Nat} {D T s : Nat → Nat} {C : Nat → Nat → Bool} (h : js_SO n C) (hT : js_HD n D (js_T C) T) (hs : js_RS D C s) (hL : ∀ x, x < n → s x + D x ≤ L) : ∀ x, x < n → s x + D x + T x ≤ L := by
  intro x hx
  have r : js_RS D (js_T C) (fun z => L - (s z + D z)) := by
    intro y z q
    have a := hs z y q
    have b := hL y (h.1 z y q).2
    show L - (s y + D y) + D y ≤ L - (s z + D z)
    omega
  have := hT.2 _ r x hx
  have := hL x hx
  omega
/-! schedules -/
def js_SD (n : Nat) (M D : Nat → Nat) (C : Nat → Nat → Bool) (s : Nat → Nat) : Prop :=
  js_RS D C s ∧ ∀ x y, x < n → y < n → x ≠ y → M x = M y → s x + D x ≤ s y ∨ s y + D y ≤ s x
def js_sp (n : Nat) (D s : Nat → Nat) : Nat := sg_x (fun x => s x + D x) n
theorem js_sple {n L : Nat} {D s : Nat → Nat} : js_sp n D s ≤ L ↔ ∀ x, x < n → s x + D x ≤ L :=
  ⟨fun h x hx => Nat.le_trans (sg_xge (f := fun x => s x + D x) hx) h, fun h => sg_xle h⟩
theorem js_spge {n x : Nat} {D s : Nat → Nat} (hx : x < n) : s x + D x ≤ js_sp n D s := sg_xge (f := fun x => s x + D x) hx
theorem js_speq {n : Nat} {D s s' : Nat → Nat} (h : ∀ x, x < n → s x = s' x) : js_sp n D s = js_sp n D s' := sg_xeq fun i hi => by rw [h i hi]
theorem js_SDeq {n : Nat} {M D s s' : Nat → Nat} {C : Nat → Nat → Bool} (hC : js_SO n C) (h : ∀ x, x < n → s x = s' x) (a : js_SD n M D C s) : js_SD n M D C s' := by
  refine ⟨fun x y q => ?_, fun x y hx hy ne e => ?_⟩
  · have b := hC.1 x y q
    rw [← h x b.1, ← h y b.2]; exact a.1 x y q
  · rw [← h x hx, ← h y hy]; exact a.2 x y hx hy ne e
theorem js_SDsub {n : Nat} {M D s : Nat → Nat} {C C' : Nat → Nat → Bool} (h : ∀ x y, C x y = true → C' x y = true) (a : js_SD n M D C' s) : js_SD n M D C s :=
  ⟨fun x y q => a.1 x y (h x y q), a.2⟩
theorem js_SDlk {n p q : Nat} {M D s : Nat → Nat} {C : Nat → Nat → Bool} (a : js_SD n M D C s) (h : s p + D p ≤ s q) : js_SD n M D (js_LK C p q) s := by
  refine ⟨fun x y z0 => ?_, a.2⟩
  rcases js_LKi.mp z0 with z | ⟨z | z, w | w⟩
  · exact a.1 x y z
  · subst z; subst w; exact h
  · subst z; have := a.1 _ _ w; omega
  · subst w; have := a.1 _ _ z; omega
  · have := a.1 _ _ w; have := a.1 _ _ z; omega
theorem js_ser {n : Nat} {C : Nat → Nat → Bool} (M D : Nat → Nat) (h : js_SO n C) (hn : n ≤ 8) : ∃ s, js_SD n M D C s ∧ ∀ x, x < n → s x + D x ≤ sg_f D n := by
  have step : ∀ x, x < n → ∀ g : Nat → Nat, (∀ z, z < n → 8 * js_rk C n z + z < 8 * js_rk C n x + x → D z ≤ g z) → D x ≤ g x →
      sg_f (fun z => if 8 * js_rk C n z + z < 8 * js_rk C n x + x then D z else 0) n + D x ≤ sg_f g n := by
    intro x hx g hg hgx
    have u := sg_upd (f := fun z => if z = x then D x else if 8 * js_rk C n z + z < 8 * js_rk C n x + x then D z else 0)
      (g := fun z => if 8 * js_rk C n z + z < 8 * js_rk C n x + x then D z else 0) hx (fun i hi ne => by simp only [if_neg ne])
    simp only [if_true, if_pos rfl, Nat.lt_irrefl, if_false] at u
    have l : sg_f (fun z => if z = x then D x else if 8 * js_rk C n z + z < 8 * js_rk C n x + x then D z else 0) n ≤ sg_f g n := by
      refine sg_le fun i hi => ?_
      by_cases e : i = x
      · subst e; simp only [if_true, if_pos rfl]; exact hgx
      · simp only [if_neg e]
        by_cases z : 8 * js_rk C n i + i < 8 * js_rk C n x + x
        · simp only [if_pos z]; exact hg i hi z
        · simp only [if_neg z]; omega
    omega
  have lt : ∀ x y, x < n → y < n → 8 * js_rk C n x + x < 8 * js_rk C n y + y → sg_f (fun z => if 8 * js_rk C n z + z < 8 * js_rk C n x + x then D z else 0) n + D x ≤ sg_f (fun z => if 8 * js_rk C n z + z < 8 * js_rk C n y + y then D z else 0) n := by
    intro x y hx hy l
    refine step x hx _ (fun z hz w => ?_) ?_
    · have : 8 * js_rk C n z + z < 8 * js_rk C n y + y := by omega
      simp only [if_pos this]; omega
    · simp only [if_pos l]; omega
  refine ⟨fun x => sg_f (fun z => if 8 * js_rk C n z + z < 8 * js_rk C n x + x then D z else 0) n, ⟨fun x y q => ?_, fun x y hx hy ne _ => ?_⟩, fun x hx => ?_⟩
  · have b := h.1 x y q
    have := js_rkl h q
    exact lt x y b.1 b.2 (by omega)
  · rcases Nat.lt_trichotomy (8 * js_rk C n x + x) (8 * js_rk C n y + y) with l | l | l
    · exact Or.inl (lt x y hx hy l)
    · omega
    · exact Or.inr (lt y x hy hx l)
  · exact step x hx D (fun z hz w => Nat.le_refl _) (Nat.le_refl _)
/-! the lexicographic order -/
def js_lex (n : Nat) (b s : Nat → Nat) : Prop := (∀ i, i < n → b i = s i) ∨ ∃ i, i < n ∧ (∀ j, j < i → b j = s j) ∧ b i < s i
theorem js_lexle {b s : Nat → Nat} : ∀ {n : Nat}, (∀ i, i < n → b i ≤ s i) → js_lex n b s
  | 0, _ => Or.inl (fun i hi => by omega)
  | n + 1, h => by
    rcases js_lexle (b := b) (s := s) (n := n) (fun i hi => h i (by omega)) with q | ⟨i, hi, q⟩
    · have := h n (by omega)
      by_cases e : b n = s n
      · exact Or.inl (lt_s q e)
      · exact Or.inr ⟨n, by omega, q, by omega⟩
    · exact Or.inr ⟨i, by omega, q⟩
theorem js_lextr {n : Nat} {a b c : Nat → Nat} (h : js_lex n a b) (k : js_lex n b c) : js_lex n a c := by
  rcases h with h | ⟨i, hi, h, l⟩
  · rcases k with k | ⟨j, hj, k, m⟩
    · exact Or.inl fun i hi => (h i hi).trans (k i hi)
    · exact Or.inr ⟨j, hj, fun x hx => (h x (by omega)).trans (k x hx), by have := h j hj; omega⟩
  · rcases k with k | ⟨j, hj, k, m⟩
    · exact Or.inr ⟨i, hi, fun x hx => (h x hx).trans (k x (by omega)), by have := k i hi; omega⟩
    · rcases Nat.lt_trichotomy i j with q | q | q
      · exact Or.inr ⟨i, hi, fun x hx => (h x hx).trans (k x (by omega)), by have := k i q; omega⟩
      · subst q; exact Or.inr ⟨i, hi, fun x hx => (h x hx).trans (k x hx), by omega⟩
      · exact Or.inr ⟨j, hj, fun x hx => (h x (by omega)).trans (k x hx), by have := h j q; omega⟩
theorem js_lexanti {n : Nat} {a b : Nat → Nat} (h : js_lex n a b) (k : js_lex n b a) : ∀ i, i < n → a i = b i := by
  rcases h with h | ⟨i, hi, h, l⟩
  · exact h
  · rcases k with k | ⟨j, hj, k, m⟩
    · exact fun i hi => (k i hi).symm
    · rcases Nat.lt_trichotomy i j with q | q | q
      · have := k i q; omega
      · subst q; omega
      · have := h j q; omega
theorem js_lexmin (P : (Nat → Nat) → Prop) (h : ∃ s, P s) : ∀ n, ∃ b, P b ∧ ∀ s, P s → js_lex n b s
  | 0 => by
    obtain ⟨s, hs⟩ := h
    exact ⟨s, hs, fun t ht => Or.inl (fun i hi => by omega)⟩
  | n + 1 => by
    obtain ⟨b, hb, hm⟩ := js_lexmin P h n
    obtain ⟨k, ⟨s0, h0, h1, h2⟩, hk⟩ := pk_least (fun k => ∃ s, P s ∧ (∀ i, i < n → s i = b i) ∧ s n = k) ⟨b n, b, hb, fun i hi => rfl, rfl⟩
    refine ⟨s0, h0, fun s hs => ?_⟩
    rcases hm s hs with q | ⟨i, hi, q, l⟩
    · have nl : ¬ s n < k := fun l => hk _ l ⟨s, hs, fun i hi => (q i hi).symm, rfl⟩
      have e : ∀ i, i < n → s0 i = s i := fun i hi => (h1 i hi).trans (q i hi)
      by_cases z : s n = k
      · exact Or.inl (lt_s e (h2.trans z.symm))
      · exact Or.inr ⟨n, by omega, e, by omega⟩
    · exact Or.inr ⟨i, by omega, fun j hj => (h1 j (by omega)).trans (q j hj), by have := h1 i hi; omega⟩
def js_OPT (n : Nat) (M D : Nat → Nat) (C : Nat → Nat → Bool) (v : Nat) (b : Nat → Nat) : Prop :=
  js_SD n M D C b ∧ js_sp n D b = v ∧ ∀ s, js_SD n M D C s → v < js_sp n D s ∨ (v = js_sp n D s ∧ js_lex n b s)
theorem js_OPTex {n : Nat} {M D : Nat → Nat} {C : Nat → Nat → Bool} (h : ∃ s, js_SD n M D C s) : ∃ v b, js_OPT n M D C v b := by
  obtain ⟨s, hs⟩ := h
  obtain ⟨v, ⟨s0, h0, h1⟩, hm⟩ := pk_least (fun k => ∃ s, js_SD n M D C s ∧ js_sp n D s = k) ⟨_, s, hs, rfl⟩
  obtain ⟨b, ⟨hb, hv⟩, hl⟩ := js_lexmin (fun s => js_SD n M D C s ∧ js_sp n D s = v) ⟨s0, h0, h1⟩ n
  refine ⟨v, b, hb, hv, fun t ht => ?_⟩
  rcases Nat.lt_trichotomy v (js_sp n D t) with q | q | q
  · exact Or.inl q
  · exact Or.inr ⟨q, hl t ⟨ht, q.symm⟩⟩
  · exact absurd ⟨t, ht, rfl⟩ (hm _ q)
theorem js_OPTuq {n v v' : Nat} {M D b b' : Nat → Nat} {C : Nat → Nat → Bool} (h : js_OPT n M D C v b) (k : js_OPT n M D C v' b') : v = v' ∧ ∀ i, i < n → b i = b' i := by
  have a := h.2.2 b' k.1
  have c := k.2.2 b h.1
  have e1 := h.2.1
  have e2 := k.2.1
  rw [e2] at a
  rw [e1] at c
  rcases a with a | ⟨a, a'⟩
  · rcases c with c | ⟨c, c'⟩ <;> omega
  · rcases c with c | ⟨c, c'⟩
    · omega
    · exact ⟨a, js_lexanti a' c'⟩
def js_TD (J M : Nat → Nat) (x y : Nat) : Prop := J x = J y ∨ M x = M y
def js_GN (R C : Nat → Nat → Bool) : Prop := (∀ x y, R x y = true → C x y = true) ∧ ∀ x y, C x y = true → ∃ z, R z y = true ∧ (z = x ∨ C x z = true)
theorem js_semi {n v y : Nat} {J M D b : Nat → Nat} {R C : Nat → Nat → Bool} (hC : js_SO n C) (hD : ∀ x, x < n → 1 ≤ D x) (g : js_GN R C) (ht : ∀ x y, R x y = true → js_TD J M x y)
    (h : js_OPT n M D C v b) (hy : y < n) : b y = 0 ∨ ∃ x, x < n ∧ x ≠ y ∧ js_TD J M x y ∧ b x + D x = b y := by
  refine Classical.byContradiction fun no => ?_
  have n0 : b y ≠ 0 := fun e => no (Or.inl e)
  have nx : ∀ x, x < n → x ≠ y → js_TD J M x y → b x + D x ≠ b y := fun x hx ne t e => no (Or.inr ⟨x, hx, ne, t, e⟩)
  have sd : js_SD n M D C (fun z => if z = y then b y - 1 else b z) := by
    refine ⟨fun x z q => ?_, fun x z hx hz ne e => ?_⟩
    · have c := h.1.1 x z q
      have bd := hC.1 x z q
      by_cases e : z = y
      · subst e
        have e' : ¬ x = z := fun e' => by subst e'; exact hC.2.1 _ q
        have st : b x + D x < b z := by
          obtain ⟨w, r, hw⟩ := g.2 x z q
          have cw := g.1 w z r
          have bw := hC.1 w z cw
          have nw : w ≠ z := fun e => by subst e; exact hC.2.1 _ cw
          have k1 := nx w bw.1 nw (ht w z r)
          have k2 := h.1.1 w z cw
          rcases hw with hw | hw
          · subst hw; omega
          · have k3 := h.1.1 x w hw
            have k4 := hD w bw.1
            omega
        simp only [if_neg e', if_true, if_pos rfl]; omega
      · by_cases e' : x = y
        · subst e'
          simp only [if_neg e, if_true, if_pos rfl]; omega
        · simp only [if_neg e, if_neg e']; omega
    · have c := h.1.2 x z hx hz ne e
      by_cases e1 : x = y
      · subst e1
        have e2 : ¬ z = x := fun q => ne q.symm
        have k := nx z hz (fun q => ne q.symm) (Or.inr e.symm)
        simp only [if_neg e2, if_true, if_pos rfl]; omega
      · by_cases e2 : z = y
        · subst e2
          have k := nx x hx e1 (Or.inr e)
          simp only [if_neg e1, if_true, if_pos rfl]; omega
        · simp only [if_neg e1, if_neg e2]; exact c
  have key := h.2.2 _ sd
  have l : js_sp n D (fun z => if z = y then b y - 1 else b z) ≤ v := by
    refine js_sple.mpr fun x hx => ?_
    have := js_spge (D := D) (s := b) hx
    have := h.2.1
    by_cases e : x = y
    · subst e; simp only [if_true, if_pos rfl]; omega
    · simp only [if_neg e]; omega
  rcases key with key | ⟨_, key⟩
  · omega
  · rcases key with key | ⟨i, hi, ej, lt⟩
    · have := key y hy
      simp only [if_true, if_pos rfl] at this; omega
    · by_cases e : i = y
      · subst e; simp only [if_true, if_pos rfl] at lt; omega
      · simp only [if_neg e] at lt; omega
/-! what respects the generators respects the closure -/
theorem js_RSg {n : Nat} {D s : Nat → Nat} {R C : Nat → Nat → Bool} (hC : js_SO n C) (g : js_GN R C) (h : js_RS D R s) : js_RS D C s := by
  have key : ∀ k x y, js_rk C n y < k → C x y = true → s x + D x ≤ s y := by
    intro k
    induction k with
    | zero => intro x y hk; omega
    | succ k ih =>
      intro x y hk q
      obtain ⟨z, r, hz⟩ := g.2 x y q
      have a := h z y r
      rcases hz with hz | hz
      · subst hz; exact a
      · have := js_rkl hC (g.1 z y r)
        have := ih x z (by omega) hz
        omega
  exact fun x y q => key _ x y (Nat.lt_succ_self _) q
end
section
def js_RI (n k : Nat) (D H : Nat → Nat) (R C : Nat → Nat → Bool) (Pr : Nat → Nat → Prop) (h : Nat → Nat) : Prop :=
  (∀ y, y < n → h y ≤ H y) ∧ (∀ y, y < n → js_rk C n y < k → h y = H y) ∧ (∀ x y, R x y = true → Pr x y → js_rk C n y = k → H x + D x ≤ h y)
def js_rx (D h : Nat → Nat) (x y : Nat) : Nat → Nat := fun z => if z = y ∧ h y < h x + D x then h x + D x else h z
theorem js_rxge {D h : Nat → Nat} {x y : Nat} (z : Nat) : h z ≤ js_rx D h x y z := by
  unfold js_rx
  by_cases q : z = y ∧ h y < h x + D x
  · rw [if_pos q]; obtain ⟨q, l⟩ := q; subst q; omega
  · rw [if_neg q]; omega
theorem js_rxy {D h : Nat → Nat} {x y : Nat} : h x + D x ≤ js_rx D h x y y := by
  unfold js_rx
  by_cases q : h y < h x + D x
  · rw [if_pos ⟨rfl, q⟩]; omega
  · rw [if_neg (fun z => q z.2)]; omega
theorem js_rxn {D h : Nat → Nat} {x y : Nat} (q : h x + D x ≤ h y) : js_rx D h x y = h := by
  funext z
  unfold js_rx
  rw [if_neg (fun w => by omega)]
theorem js_rxp {D h : Nat → Nat} {x y : Nat} (q : ¬ h x + D x ≤ h y) : js_rx D h x y = fun z => if z = y then h x + D x else h z := by
  funext z
  unfold js_rx
  by_cases e : z = y
  · rw [if_pos ⟨e, by omega⟩, if_pos e]
  · rw [if_neg (fun w => e w.1), if_neg e]
theorem js_RIa {n k x y : Nat} {D H h : Nat → Nat} {R C : Nat → Nat → Bool} {Pr Pr' : Nat → Nat → Prop} (hC : js_SO n C) (hR : ∀ x y, R x y = true → C x y = true) (hH : js_RS D C H)
    (hP : ∀ a b, Pr' a b → Pr a b ∨ (a = x ∧ b = y)) (I : js_RI n k D H R C Pr h) (r : R x y = true) : js_RI n k D H R C Pr' (js_rx D h x y) := by
  obtain ⟨i1, i2, i3⟩ := I
  have c := hR x y r
  have bd := hC.1 x y c
  have hh := hH x y c
  have ix := i1 x bd.1
  have iy := i1 y bd.2
  refine ⟨fun z hz => ?_, fun z hz l => ?_, fun a b q p l => ?_⟩
  · unfold js_rx
    by_cases e : z = y ∧ h y < h x + D x
    · rw [if_pos e, e.1]; omega
    · rw [if_neg e]; exact i1 z hz
  · have e1 := i2 z hz l
    unfold js_rx
    by_cases e : z = y ∧ h y < h x + D x
    · obtain ⟨e, m⟩ := e
      subst e
      omega
    · rw [if_neg e]; exact e1
  · rcases hP a b p with p | ⟨p1, p2⟩
    · exact Nat.le_trans (i3 a b q p l) (js_rxge b)
    · subst p1; subst p2
      have m := js_rkl hC c
      have e := i2 a bd.1 (by omega)
      rw [← e]
      exact js_rxy
theorem js_RIs {n k x y : Nat} {D H h : Nat → Nat} {R C : Nat → Nat → Bool} {Pr Pr' : Nat → Nat → Prop}
    (hP : ∀ a b, Pr' a b → Pr a b ∨ (a = x ∧ b = y)) (I : js_RI n k D H R C Pr h) (r : ¬ R x y = true) : js_RI n k D H R C Pr' h := by
  refine ⟨I.1, I.2.1, fun a b q p l => ?_⟩
  rcases hP a b p with p | ⟨p1, p2⟩
  · exact I.2.2 a b q p l
  · subst p1; subst p2; exact absurd q r
theorem js_RIw {n k : Nat} {D H h : Nat → Nat} {R C : Nat → Nat → Bool} {Pr Pr' : Nat → Nat → Prop}
    (hP : ∀ a b, R a b = true → Pr' a b → Pr a b) (I : js_RI n k D H R C Pr h) : js_RI n k D H R C Pr' h :=
  ⟨I.1, I.2.1, fun a b q p l => I.2.2 a b q (hP a b q p) l⟩
theorem js_RIe {n k : Nat} {D H h : Nat → Nat} {R C : Nat → Nat → Bool} {Pr : Nat → Nat → Prop} (hC : js_SO n C) (hD : ∀ x, x < n → 1 ≤ D x) (g : js_GN R C) (hH : js_HD n D C H)
    (hP : ∀ a b, R a b = true → Pr a b) (I : js_RI n k D H R C Pr h) : js_RI n (k + 1) D H R C (fun _ _ => False) h := by
  obtain ⟨i1, i2, i3⟩ := I
  refine ⟨i1, fun y hy l => ?_, fun a b q p l => p.elim⟩
  by_cases e : js_rk C n y < k
  · exact i2 y hy e
  · have ek : js_rk C n y = k := by omega
    have iy := i1 y hy
    rcases js_HDat hC hH hy with z | ⟨x, c, z⟩
    · omega
    · obtain ⟨w, r, hw⟩ := g.2 x y c
      have m := i3 w y r (hP w y r) ek
      have cw := g.1 w y r
      have mw := hH.1 w y cw
      rcases hw with hw | hw
      · subst hw; omega
      · have m2 := hH.1 x w hw
        have m3 := hD w (hC.1 w y cw).1
        omega
theorem js_RI0 {n : Nat} {D H h : Nat → Nat} {R C : Nat → Nat → Bool} (h0 : ∀ y, y < n → h y = 0) : js_RI n 0 D H R C (fun _ _ => False) h :=
  ⟨fun y hy => by rw [h0 y hy]; exact Nat.zero_le _, fun y hy l => by omega, fun a b q p l => p.elim⟩
theorem js_RIf {n k : Nat} {D H h : Nat → Nat} {R C : Nat → Nat → Bool} {Pr : Nat → Nat → Prop} (hC : js_SO n C) (hn : n ≤ k) (I : js_RI n k D H R C Pr h) : ∀ y, y < n → h y = H y :=
  fun y hy => I.2.1 y hy (by have := js_rkn hC hy; omega)
theorem js_RIm {n k : Nat} {D H h : Nat → Nat} {R C : Nat → Nat → Bool} {Pr : Nat → Nat → Prop} (hH : js_HD n D C H) (I : js_RI n k D H R C Pr h) (r : js_RS D C h) : ∀ y, y < n → h y = H y :=
  fun y hy => Nat.le_antisymm (I.1 y hy) (hH.2 _ r y hy)
/-! processed arcs, row by row -/
def js_Pr (X Y : Nat) (x y : Nat) : Prop := x < X ∨ (x = X ∧ y < Y)
theorem js_Prs {X Y : Nat} : ∀ a b, js_Pr X (Y + 1) a b → js_Pr X Y a b ∨ (a = X ∧ b = Y) := by
  intro a b h
  unfold js_Pr at h ⊢
  omega
theorem js_Prr {X n a b : Nat} (hb : b < n) (h : js_Pr (X + 1) 0 a b) : js_Pr X n a b := by
  unfold js_Pr at h ⊢
  omega
theorem js_Pre {n Y a b : Nat} (ha : a < n) : js_Pr n Y a b := Or.inl ha
def js_MI (D : Nat → Nat) (C : Nat → Nat → Bool) (Pr : Nat → Nat → Prop) (h : Nat → Nat) : Prop := ∀ x y, C x y = true → Pr x y → h x + D x ≤ h y
end
section
/-! decided pairs -/
def js_dp (C : Nat → Nat → Bool) : Nat := sg_f (fun y => sg_f (fun x => if C x y = true ∨ C y x = true then 1 else 0) y) 8
theorem js_dple (C : Nat → Nat → Bool) : js_dp C ≤ 28 := by
  have h : js_dp C ≤ sg_f (fun y => y) 8 := by
    refine sg_le fun y hy => ?_
    have e := sg_const 1 y
    have l : sg_f (fun x => if C x y = true ∨ C y x = true then 1 else 0) y ≤ sg_f (fun _ => 1) y := by
      refine sg_le fun x hx => ?_
      (try dsimp only)
      split <;> omega
    omega
  have e : sg_f (fun y => y) 8 = 28 := by decide
  omega
theorem js_dpm {C C' : Nat → Nat → Bool} (h : ∀ x y, C x y = true → C' x y = true) : js_dp C ≤ js_dp C' := by
  refine sg_le fun y hy => sg_le fun x hx => ?_
  by_cases z : C x y = true ∨ C y x = true
  · have w : C' x y = true ∨ C' y x = true := z.imp (h x y) (h y x)
    simp only [if_pos z, if_pos w]; omega
  · simp only [if_neg z]; omega
theorem js_dpl {C C' : Nat → Nat → Bool} {x y : Nat} (h : ∀ x y, C x y = true → C' x y = true) (l : x < y) (hy : y < 8) (n1 : ¬ C x y = true) (n2 : ¬ C y x = true) (q : C' x y = true ∨ C' y x = true) : js_dp C < js_dp C' := by
  refine sg_lt (a := y) hy (fun b hb => sg_le fun a ha => ?_) (sg_lt (a := x) l (fun a ha => ?_) ?_)
  · by_cases z : C a b = true ∨ C b a = true
    · have w : C' a b = true ∨ C' b a = true := z.imp (h a b) (h b a)
      simp only [if_pos z, if_pos w]; omega
    · simp only [if_neg z]; omega
  · by_cases z : C a y = true ∨ C y a = true
    · have w : C' a y = true ∨ C' y a = true := z.imp (h a y) (h y a)
      simp only [if_pos z, if_pos w]; omega
    · simp only [if_neg z]; omega
  · have z : ¬ (C x y = true ∨ C y x = true) := fun z => z.elim n1 n2
    simp only [if_neg z, if_pos q]; omega
theorem js_dpn {n : Nat} {C C' : Nat → Nat → Bool} {x y : Nat} (hn : n ≤ 8) (hC : js_SO n C') (h : ∀ x y, C x y = true → C' x y = true) (n1 : ¬ C x y = true) (q : C' x y = true) : js_dp C < js_dp C' := by
  have b := hC.1 x y q
  have n2 : ¬ C y x = true := fun z => hC.2.1 _ (hC.2.2 _ _ _ q (h _ _ z))
  rcases Nat.lt_trichotomy x y with l | l | l
  · exact js_dpl h l (by omega) n1 n2 (Or.inl q)
  · subst l; exact absurd q (hC.2.1 _)
  · exact js_dpl h l (by omega) n2 n1 (Or.inr q)
/-! counting sequences -/
noncomputable def js_if (P : Prop) (v : Nat) : Nat := @ite Nat P (Classical.propDecidable P) v 0
theorem js_ift {P : Prop} {v : Nat} (h : P) : js_if P v = v := by unfold js_if; rw [if_pos h]
theorem js_iff {P : Prop} {v : Nat} (h : ¬ P) : js_if P v = 0 := by unfold js_if; rw [if_neg h]
def js_ad (A : Nat → Bool) (c : Nat) : Nat → Bool := fun x => decide (x = c) || A x
theorem js_adi {A : Nat → Bool} {c x : Nat} : js_ad A c x = true ↔ x = c ∨ A x = true := by simp [js_ad]
def js_ok (C : Nat → Nat → Bool) (A : Nat → Bool) (c : Nat) : Prop := ¬ A c = true ∧ ∀ x, C x c = true → A x = true
def js_cn (A : Nat → Bool) (n : Nat) : Nat := sg_f (fun x => if A x = true then 1 else 0) n
noncomputable def js_ct (w z : Nat) (C : Nat → Nat → Bool) (n : Nat) : Nat → (Nat → Bool) → Nat
  | 0, _ => z
  | k + 1, A => w + sg_f (fun c => js_if (js_ok C A c) (js_ct w z C n k (js_ad A c))) n
theorem js_cna {A : Nat → Bool} {c n : Nat} (hc : c < n) (h : ¬ A c = true) : js_cn (js_ad A c) n = js_cn A n + 1 := by
  have u := sg_upd (f := fun x => if js_ad A c x = true then 1 else 0) (g := fun x => if A x = true then 1 else 0) hc (fun i hi ne => by
    by_cases z : A i = true
    · have w := js_adi.mpr (Or.inr z : i = c ∨ A i = true)
      simp only [if_pos z, if_pos w]
    · have w : ¬ js_ad A c i = true := fun q => (js_adi.mp q).elim ne z
      simp only [if_neg z, if_neg w])
  have w := js_adi.mpr (Or.inl rfl : c = c ∨ A c = true)
  simp only [if_neg h, if_pos w] at u
  unfold js_cn
  omega
theorem js_cn0 (n : Nat) : js_cn (fun _ => false) n = 0 := sg_zero fun i hi => by simp
theorem js_cnl {A : Nat → Bool} {n : Nat} (h : js_cn A n < n) : ∃ c, c < n ∧ ¬ A c = true := by
  refine Classical.byContradiction fun no => ?_
  have : js_cn A n = n * 1 := by
    rw [← sg_const 1 n]
    refine sg_eq fun i hi => ?_
    have : A i = true := Classical.byContradiction fun q => no ⟨i, hi, q⟩
    simp only [if_pos this]
  omega
theorem js_cnle (A : Nat → Bool) (n : Nat) : js_cn A n ≤ n := by
  have e := sg_const 1 n
  have : js_cn A n ≤ sg_f (fun _ => 1) n := sg_le fun i hi => by (try dsimp only); split <;> omega
  omega
theorem js_ctm {w z n : Nat} {C C' : Nat → Nat → Bool} (h : ∀ x y, C x y = true → C' x y = true) : ∀ k A, js_ct w z C' n k A ≤ js_ct w z C n k A := by
  intro k
  induction k with
  | zero => intro A; exact Nat.le_refl _
  | succ k ih =>
    intro A
    simp only [js_ct]
    refine Nat.add_le_add_left (sg_le fun c hc => ?_) w
    by_cases o : js_ok C' A c
    · have o' : js_ok C A c := ⟨o.1, fun x q => o.2 x (h x c q)⟩
      rw [js_ift o, js_ift o']; exact ih _
    · rw [js_iff o]; exact Nat.zero_le _
theorem js_cts {z n a b : Nat} {C C1 C2 : Nat → Nat → Bool} (h1 : ∀ x y, C x y = true → C1 x y = true) (h2 : ∀ x y, C x y = true → C2 x y = true) (ha : a < n) (hb : b < n) (ne : a ≠ b)
    (q1 : C1 a b = true) (q2 : C2 b a = true) : ∀ k A, js_cn A n + k = n → ¬ A a = true → ¬ A b = true → js_ct 0 z C1 n k A + js_ct 0 z C2 n k A ≤ js_ct 0 z C n k A := by
  intro k
  induction k with
  | zero =>
    intro A e na nb
    have := js_cna ha na
    have := js_cnle (js_ad A a) n
    omega
  | succ k ih =>
    intro A e na nb
    simp only [js_ct, Nat.zero_add]
    rw [← sg_add]
    refine sg_le fun c hc => ?_
    (try dsimp only)
    by_cases o : js_ok C A c
    · rw [js_ift o]
      by_cases ca : c = a
      · subst ca
        have n2 : ¬ js_ok C2 A c := fun o2 => nb (o2.2 b q2)
        rw [js_iff n2]
        by_cases o1 : js_ok C1 A c
        · rw [js_ift o1]; exact js_ctm h1 _ _
        · rw [js_iff o1]; exact Nat.zero_le _
      · by_cases cb : c = b
        · subst cb
          have n1 : ¬ js_ok C1 A c := fun o1 => na (o1.2 a q1)
          rw [js_iff n1, Nat.zero_add]
          by_cases o2 : js_ok C2 A c
          · rw [js_ift o2]; exact js_ctm h2 _ _
          · rw [js_iff o2]; exact Nat.zero_le _
        · have i := ih (js_ad A c) (by have := js_cna hc o.1; omega) (fun q => (js_adi.mp q).elim (fun e => ca e.symm) na) (fun q => (js_adi.mp q).elim (fun e => cb e.symm) nb)
          by_cases o1 : js_ok C1 A c
          · by_cases o2 : js_ok C2 A c
            · rw [js_ift o1, js_ift o2]; exact i
            · rw [js_ift o1, js_iff o2]; omega
          · by_cases o2 : js_ok C2 A c
            · rw [js_iff o1, js_ift o2]; omega
            · rw [js_iff o1, js_iff o2]; omega
    · have n1 : ¬ js_ok C1 A c := fun o1 => o ⟨o1.1, fun x q => o1.2 x (h1 x c q)⟩
      have n2 : ¬ js_ok C2 A c := fun o2 => o ⟨o2.1, fun x q => o2.2 x (h2 x c q)⟩
      rw [js_iff n1, js_iff n2]; exact Nat.zero_le _
theorem js_ctp {n : Nat} {C : Nat → Nat → Bool} (h : js_SO n C) : ∀ k A, js_cn A n + k = n → 1 ≤ js_ct 0 1 C n k A := by
  intro k
  induction k with
  | zero => intro A _; exact Nat.le_refl _
  | succ k ih =>
    intro A e
    obtain ⟨c0, h0, n0⟩ := js_cnl (A := A) (n := n) (by omega)
    obtain ⟨r, ⟨c, hc, nc, er⟩, hm⟩ := pk_least (fun r => ∃ c, c < n ∧ ¬ A c = true ∧ js_rk C n c = r) ⟨_, c0, h0, n0, rfl⟩
    have o : js_ok C A c := ⟨nc, fun x q => Classical.byContradiction fun nx => hm _ (by have := js_rkl h q; omega) ⟨x, (h.1 x c q).1, nx, rfl⟩⟩
    have i := ih (js_ad A c) (by have := js_cna hc nc; omega)
    have m := sg_mem (f := fun c => js_if (js_ok C A c) (js_ct 0 1 C n k (js_ad A c))) hc
    (try dsimp only at m)
    rw [js_ift o] at m
    simp only [js_ct, Nat.zero_add]
    omega
def js_cr (J : Nat → Nat) (n : Nat) (A : Nat → Bool) (j : Nat) : Nat := sg_f (fun x => if ¬ A x = true ∧ J x = j then 1 else 0) n
theorem js_cra {J : Nat → Nat} {n c : Nat} {A : Nat → Bool} (hc : c < n) (h : ¬ A c = true) : js_cr J n (js_ad A c) = fun i => if i = J c then js_cr J n A i - 1 else js_cr J n A i := by
  funext i
  have ne : ∀ x, x ≠ c → (js_ad A c x = true ↔ A x = true) := fun x nx => ⟨fun q => (js_adi.mp q).elim (fun e => absurd e nx) id, fun q => js_adi.mpr (Or.inr q)⟩
  by_cases e : i = J c
  · rw [if_pos e]
    have u := sg_upd (f := fun x => if ¬ js_ad A c x = true ∧ J x = i then 1 else 0) (g := fun x => if ¬ A x = true ∧ J x = i then 1 else 0) hc (fun x hx nx => by simp only [ne x nx])
    have w1 : ¬ (¬ js_ad A c c = true ∧ J c = i) := fun q => q.1 (js_adi.mpr (Or.inl rfl))
    have w2 : ¬ A c = true ∧ J c = i := ⟨h, e.symm⟩
    simp only [if_neg w1, if_pos w2] at u
    unfold js_cr
    omega
  · rw [if_neg e]
    refine sg_eq fun x hx => ?_
    by_cases nx : x = c
    · subst nx
      have w1 : ¬ (¬ js_ad A x x = true ∧ J x = i) := fun q => q.1 (js_adi.mpr (Or.inl rfl))
      have w2 : ¬ (¬ A x = true ∧ J x = i) := fun q => e q.2.symm
      simp only [if_neg w1, if_neg w2]
    · simp only [ne x nx]
def js_bt (w z : Nat) : Nat → (Nat → Nat) → Nat
  | 0, _ => z
  | k + 1, r => w + sg_f (fun j => if 0 < r j then js_bt w z k (fun i => if i = j then r i - 1 else r i) else 0) 4
theorem js_ctb {w z n : Nat} {J : Nat → Nat} {C : Nat → Nat → Bool} (hJ : ∀ x, x < n → J x < 4) (hC : ∀ x y, x < y → y < n → J x = J y → C x y = true) :
    ∀ k A, js_ct w z C n k A ≤ js_bt w z k (js_cr J n A) := by
  intro k
  induction k with
  | zero => intro A; exact Nat.le_refl _
  | succ k ih =>
    intro A
    simp only [js_ct, js_bt]
    refine Nat.add_le_add_left ?_ w
    refine Nat.le_trans (m := sg_f (fun c => sg_f (fun j => js_if (js_ok C A c ∧ J c = j) (js_bt w z k (fun i => if i = j then js_cr J n A i - 1 else js_cr J n A i))) 4) n) (sg_le fun c hc => ?_) ?_
    · by_cases o : js_ok C A c
      · rw [js_ift o]
        have m := sg_mem (f := fun j => js_if (js_ok C A c ∧ J c = j) (js_bt w z k (fun i => if i = j then js_cr J n A i - 1 else js_cr J n A i))) (hJ c hc)
        (try dsimp only at m)
        rw [js_ift (⟨o, rfl⟩ : js_ok C A c ∧ J c = J c)] at m
        refine Nat.le_trans ?_ m
        rw [← js_cra hc o.1]
        exact ih _
      · rw [js_iff o]; exact Nat.zero_le _
    · rw [sg_swap]
      refine sg_le fun j hj => ?_
      refine sg_one (fun c hc => ?_) (fun c c' hc hc' q q' => ?_)
      · by_cases o : js_ok C A c ∧ J c = j
        · have p : 0 < js_cr J n A j := by
            have m := sg_mem (f := fun x => if ¬ A x = true ∧ J x = j then 1 else 0) hc
            have w2 : ¬ A c = true ∧ J c = j := ⟨o.1.1, o.2⟩
            simp only [if_pos w2] at m
            exact m
          rw [js_ift o, if_pos p]; exact Nat.le_refl _
        · rw [js_iff o]; exact Nat.zero_le _
      · have o : js_ok C A c ∧ J c = j := Classical.byContradiction fun o => q (js_iff o)
        have o' : js_ok C A c' ∧ J c' = j := Classical.byContradiction fun o => q' (js_iff o)
        rcases Nat.lt_trichotomy c c' with l | l | l
        · exact absurd (o'.1.2 c (hC c c' l hc' (o.2.trans o'.2.symm))) o.1.1
        · exact l
        · exact absurd (o.1.2 c' (hC c' c l hc (o'.2.trans o.2.symm))) o'.1.1
theorem js_crs {J : Nat → Nat} {n : Nat} (A : Nat → Bool) (hJ : ∀ x, x < n → J x < 4) : sg_f (js_cr J n A) 4 + js_cn A n = n := by
  have e : sg_f (js_cr J n A) 4 = sg_f (fun x => sg_f (fun j => if ¬ A x = true ∧ J x = j then 1 else 0) 4) n := (sg_swap (fun x j => if ¬ A x = true ∧ J x = j then 1 else 0) 4 n).symm
  have e2 : sg_f (fun x => sg_f (fun j => if ¬ A x = true ∧ J x = j then 1 else 0) 4) n = sg_f (fun x => if ¬ A x = true then 1 else 0) n := by
    refine sg_eq fun x hx => ?_
    by_cases z : A x = true
    · have : ¬ ¬ A x = true := fun q => q z
      simp only [if_neg this]
      exact sg_zero fun j hj => by
        have : ¬ (¬ A x = true ∧ J x = j) := fun q => q.1 z
        simp only [if_neg this]
    · simp only [if_pos z]
      refine Nat.le_antisymm (sg_one (fun j hj => ?_) (fun i j hi hj a b => ?_)) ?_
      · (try dsimp only); split <;> omega
      · have a' : ¬ A x = true ∧ J x = i := Classical.byContradiction fun q => a (if_neg q)
        have b' : ¬ A x = true ∧ J x = j := Classical.byContradiction fun q => b (if_neg q)
        exact a'.2.symm.trans b'.2
      · have m := sg_mem (f := fun j => if ¬ A x = true ∧ J x = j then 1 else 0) (hJ x hx)
        have w2 : ¬ A x = true ∧ J x = J x := ⟨z, rfl⟩
        rw [if_pos w2] at m
        exact m
  have s := sg_add (fun x => if ¬ A x = true then 1 else 0) (fun x => if A x = true then 1 else 0) n
  have o : sg_f (fun x => (if ¬ A x = true then 1 else 0) + (if A x = true then 1 else 0)) n = n * 1 := by
    rw [← sg_const 1 n]
    refine sg_eq fun x hx => ?_
    by_cases z : A x = true
    · have : ¬ ¬ A x = true := fun q => q z
      simp only [if_neg this, if_pos z]
    · simp only [if_neg z, if_pos z]
  unfold js_cn
  omega
end
section
def js_tt_t : List (List (List (List Nat))) :=
  [[[[1, 1, 1, 1, 1, 1, 1, 1, 1], [1, 2, 3, 4, 5, 6, 7, 8], [1, 3, 6, 10, 15, 21, 28], [1, 4, 10, 20, 35, 56], [1, 5, 15, 35, 70], [1, 6, 21, 56], [1, 7, 28], [1, 8], [1]], [[1, 2, 3, 4, 5, 6, 7, 8], [2, 6, 12, 20, 30, 42, 56], [3, 12, 30, 60, 105, 168], [4, 20, 60, 140, 280], [5, 30, 105, 280], [6, 42, 168], [7, 56], [8]], [[1, 3, 6, 10, 15, 21, 28], [3, 12, 30, 60, 105, 168], [6, 30, 90, 210, 420], [10, 60, 210, 560], [15, 105, 420], [21, 168], [28]], [[1, 4, 10, 20, 35, 56], [4, 20, 60, 140, 280], [10, 60, 210, 560], [20, 140, 560], [35, 280], [56]], [[1, 5, 15, 35, 70], [5, 30, 105, 280], [15, 105, 420], [35, 280], [70]], [[1, 6, 21, 56], [6, 42, 168], [21, 168], [56]], [[1, 7, 28], [7, 56], [28]], [[1, 8], [8]], [[1]]], [[[1, 2, 3, 4, 5, 6, 7, 8], [2, 6, 12, 20, 30, 42, 56], [3, 12, 30, 60, 105, 168], [4, 20, 60, 140, 280], [5, 30, 105, 280], [6, 42, 168], [7, 56], [8]], [[2, 6, 12, 20, 30, 42, 56], [6, 24, 60, 120, 210, 336], [12, 60, 180, 420, 840], [20, 120, 420, 1120], [30, 210, 840], [42, 336], [56]], [[3, 12, 30, 60, 105, 168], [12, 60, 180, 420, 840], [30, 180, 630, 1680], [60, 420, 1680], [105, 840], [168]], [[4, 20, 60, 140, 280], [20, 120, 420, 1120], [60, 420, 1680], [140, 1120], [280]], [[5, 30, 105, 280], [30, 210, 840], [105, 840], [280]], [[6, 42, 168], [42, 336], [168]], [[7, 56], [56]], [[8]]], [[[1, 3, 6, 10, 15, 21, 28], [3, 12, 30, 60, 105, 168], [6, 30, 90, 210, 420], [10, 60, 210, 560], [15, 105, 420], [21, 168], [28]], [[3, 12, 30, 60, 105, 168], [12, 60, 180, 420, 840], [30, 180, 630, 1680], [60, 420, 1680], [105, 840], [168]], [[6, 30, 90, 210, 420], [30, 180, 630, 1680], [90, 630, 2520], [210, 1680], [420]], [[10, 60, 210, 560], [60, 420, 1680], [210, 1680], [560]], [[15, 105, 420], [105, 840], [420]], [[21, 168], [168]], [[28]]], [[[1, 4, 10, 20, 35, 56], [4, 20, 60, 140, 280], [10, 60, 210, 560], [20, 140, 560], [35, 280], [56]], [[4, 20, 60, 140, 280], [20, 120, 420, 1120], [60, 420, 1680], [140, 1120], [280]], [[10, 60, 210, 560], [60, 420, 1680], [210, 1680], [560]], [[20, 140, 560], [140, 1120], [560]], [[35, 280], [280]], [[56]]], [[[1, 5, 15, 35, 70], [5, 30, 105, 280], [15, 105, 420], [35, 280], [70]], [[5, 30, 105, 280], [30, 210, 840], [105, 840], [280]], [[15, 105, 420], [105, 840], [420]], [[35, 280], [280]], [[70]]], [[[1, 6, 21, 56], [6, 42, 168], [21, 168], [56]], [[6, 42, 168], [42, 336], [168]], [[21, 168], [168]], [[56]]], [[[1, 7, 28], [7, 56], [28]], [[7, 56], [56]], [[28]]], [[[1, 8], [8]], [[8]]], [[[1]]]]
def js_tt (a b c d : Nat) : Nat := ((((js_tt_t.getD a []).getD b []).getD c []).getD d 0)
theorem js_tt_c : ((List.range 9).all fun a => (List.range (9 - a)).all fun b => (List.range (9 - a - b)).all fun c => (List.range (9 - a - b - c)).all fun d => (Nat.beq (a + b + c + d) 0) || Nat.ble (0 + ((((if 0 < a then js_tt (a - 1) b c d else 0) + (if 0 < b then js_tt a (b - 1) c d else 0)) + (if 0 < c then js_tt a b (c - 1) d else 0)) + (if 0 < d then js_tt a b c (d - 1) else 0))) (js_tt a b c d)) = true := by decide +kernel
theorem js_tt_m : ((List.range 9).all fun a => (List.range (9 - a)).all fun b => (List.range (9 - a - b)).all fun c => (List.range (9 - a - b - c)).all fun d => Nat.ble (js_tt a b c d) 2520) = true := by decide +kernel
def js_tk_t : List (List (List (List Nat))) :=
  [[[[0, 9, 18, 27, 36, 45, 54, 63, 72], [9, 27, 54, 90, 135, 189, 252, 324], [18, 54, 117, 216, 360, 558, 819], [27, 90, 216, 441, 810, 1377], [36, 135, 360, 810, 1629], [45, 189, 558, 1377], [54, 252, 819], [63, 324], [72]], [[9, 27, 54, 90, 135, 189, 252, 324], [27, 90, 207, 396, 675, 1062, 1575], [54, 207, 540, 1161, 2205, 3834], [90, 396, 1161, 2772, 5796], [135, 675, 2205, 5796], [189, 1062, 3834], [252, 1575], [324]], [[18, 54, 117, 216, 360, 558, 819], [54, 207, 540, 1161, 2205, 3834], [117, 540, 1629, 3960, 8379], [216, 1161, 3960, 10701], [360, 2205, 8379], [558, 3834], [819]], [[27, 90, 216, 441, 810, 1377], [90, 396, 1161, 2772, 5796], [216, 1161, 3960, 10701], [441, 2772, 10701], [810, 5796], [1377]], [[36, 135, 360, 810, 1629], [135, 675, 2205, 5796], [360, 2205, 8379], [810, 5796], [1629]], [[45, 189, 558, 1377], [189, 1062, 3834], [558, 3834], [1377]], [[54, 252, 819], [252, 1575], [819]], [[63, 324], [324]], [[72]]], [[[9, 27, 54, 90, 135, 189, 252, 324], [27, 90, 207, 396, 675, 1062, 1575], [54, 207, 540, 1161, 2205, 3834], [90, 396, 1161, 2772, 5796], [135, 675, 2205, 5796], [189, 1062, 3834], [252, 1575], [324]], [[27, 90, 207, 396, 675, 1062, 1575], [90, 369, 999, 2196, 4230, 7425], [207, 999, 3087, 7614, 16263], [396, 2196, 7614, 20781], [675, 4230, 16263], [1062, 7425], [1575]], [[54, 207, 540, 1161, 2205, 3834], [207, 999, 3087, 7614, 16263], [540, 3087, 10899, 30096], [1161, 7614, 30096], [2205, 16263], [3834]], [[90, 396, 1161, 2772, 5796], [396, 2196, 7614, 20781], [1161, 7614, 30096], [2772, 20781], [5796]], [[135, 675, 2205, 5796], [675, 4230, 16263], [2205, 16263], [5796]], [[189, 1062, 3834], [1062, 7425], [3834]], [[252, 1575], [1575]], [[324]]], [[[18, 54, 117, 216, 360, 558, 819], [54, 207, 540, 1161, 2205, 3834], [117, 540, 1629, 3960, 8379], [216, 1161, 3960, 10701], [360, 2205, 8379], [558, 3834], [819]], [[54, 207, 540, 1161, 2205, 3834], [207, 999, 3087, 7614, 16263], [540, 3087, 10899, 30096], [1161, 7614, 30096], [2205, 16263], [3834]], [[117, 540, 1629, 3960, 8379], [540, 3087, 10899, 30096], [1629, 10899, 43605], [3960, 30096], [8379]], [[216, 1161, 3960, 10701], [1161, 7614, 30096], [3960, 30096], [10701]], [[360, 2205, 8379], [2205, 16263], [8379]], [[558, 3834], [3834]], [[819]]], [[[27, 90, 216, 441, 810, 1377], [90, 396, 1161, 2772, 5796], [216, 1161, 3960, 10701], [441, 2772, 10701], [810, 5796], [1377]], [[90, 396, 1161, 2772, 5796], [396, 2196, 7614, 20781], [1161, 7614, 30096], [2772, 20781], [5796]], [[216, 1161, 3960, 10701], [1161, 7614, 30096], [3960, 30096], [10701]], [[441, 2772, 10701], [2772, 20781], [10701]], [[810, 5796], [5796]], [[1377]]], [[[36, 135, 360, 810, 1629], [135, 675, 2205, 5796], [360, 2205, 8379], [810, 5796], [1629]], [[135, 675, 2205, 5796], [675, 4230, 16263], [2205, 16263], [5796]], [[360, 2205, 8379], [2205, 16263], [8379]], [[810, 5796], [5796]], [[1629]]], [[[45, 189, 558, 1377], [189, 1062, 3834], [558, 3834], [1377]], [[189, 1062, 3834], [1062, 7425], [3834]], [[558, 3834], [3834]], [[1377]]], [[[54, 252, 819], [252, 1575], [819]], [[252, 1575], [1575]], [[819]]], [[[63, 324], [324]], [[324]]], [[[72]]]]
def js_tk (a b c d : Nat) : Nat := ((((js_tk_t.getD a []).getD b []).getD c []).getD d 0)
theorem js_tk_c : ((List.range 9).all fun a => (List.range (9 - a)).all fun b => (List.range (9 - a - b)).all fun c => (List.range (9 - a - b - c)).all fun d => (Nat.beq (a + b + c + d) 0) || Nat.ble (9 + ((((if 0 < a then js_tk (a - 1) b c d else 0) + (if 0 < b then js_tk a (b - 1) c d else 0)) + (if 0 < c then js_tk a b (c - 1) d else 0)) + (if 0 < d then js_tk a b c (d - 1) else 0))) (js_tk a b c d)) = true := by decide +kernel
theorem js_tk_m : ((List.range 9).all fun a => (List.range (9 - a)).all fun b => (List.range (9 - a - b)).all fun c => (List.range (9 - a - b - c)).all fun d => Nat.ble (js_tk a b c d) 43605) = true := by decide +kernel
theorem js_bt4 (w z : Nat) (B : Nat → Nat → Nat → Nat → Nat) (hz : z ≤ B 0 0 0 0)
    (h : ∀ a b c d, 0 < a + b + c + d → a + b + c + d < 9 → w + ((((if 0 < a then B (a - 1) b c d else 0) + (if 0 < b then B a (b - 1) c d else 0)) + (if 0 < c then B a b (c - 1) d else 0)) + (if 0 < d then B a b c (d - 1) else 0)) ≤ B a b c d) :
    ∀ k r, sg_f r 4 = k → k < 9 → js_bt w z k r ≤ B (r 0) (r 1) (r 2) (r 3) := by
  intro k
  induction k with
  | zero =>
    intro r e _
    have e4 : sg_f r 4 = 0 + r 0 + r 1 + r 2 + r 3 := rfl
    have h0 : r 0 = 0 := by omega
    have h1 : r 1 = 0 := by omega
    have h2 : r 2 = 0 := by omega
    have h3 : r 3 = 0 := by omega
    rw [h0, h1, h2, h3]
    exact hz
  | succ k ih =>
    intro r e hk
    have e4 : sg_f r 4 = 0 + r 0 + r 1 + r 2 + r 3 := rfl
    refine Nat.le_trans ?_ (h (r 0) (r 1) (r 2) (r 3) (by omega) (by omega))
    have t : ∀ j, j < 4 → 0 < r j → sg_f (fun i => if i = j then r i - 1 else r i) 4 = k := by
      intro j hj p
      have u := sg_upd (f := fun i => if i = j then r i - 1 else r i) (g := r) hj (fun i hi ne => by simp only [if_neg ne])
      simp only [if_true, if_pos rfl] at u
      omega
    have s : ∀ j, j < 4 → 0 < r j → js_bt w z k (fun i => if i = j then r i - 1 else r i) ≤ B (if 0 = j then r 0 - 1 else r 0) (if 1 = j then r 1 - 1 else r 1) (if 2 = j then r 2 - 1 else r 2) (if 3 = j then r 3 - 1 else r 3) :=
      fun j hj p => ih _ (t j hj p) (by omega)
    have s0 := s 0 (by omega)
    have s1 := s 1 (by omega)
    have s2 := s 2 (by omega)
    have s3 := s 3 (by omega)
    simp at s0 s1 s2 s3
    have g : js_bt w z (k + 1) r = w + ((((0 + (if 0 < r 0 then js_bt w z k (fun i => if i = 0 then r i - 1 else r i) else 0)) + (if 0 < r 1 then js_bt w z k (fun i => if i = 1 then r i - 1 else r i) else 0)) + (if 0 < r 2 then js_bt w z k (fun i => if i = 2 then r i - 1 else r i) else 0)) + (if 0 < r 3 then js_bt w z k (fun i => if i = 3 then r i - 1 else r i) else 0)) := rfl
    rw [g]
    by_cases p0 : 0 < r 0 <;> by_cases p1 : 0 < r 1 <;> by_cases p2 : 0 < r 2 <;> by_cases p3 : 0 < r 3 <;> simp only [p0, p1, p2, p3, if_true, if_false, true_implies, forall_const] at s0 s1 s2 s3 ⊢ <;> omega
theorem js_all4 {P : Nat → Nat → Nat → Nat → Bool} (h : ((List.range 9).all fun a => (List.range (9 - a)).all fun b => (List.range (9 - a - b)).all fun c => (List.range (9 - a - b - c)).all fun d => P a b c d) = true) :
    ∀ a b c d, a + b + c + d < 9 → P a b c d = true := by
  intro a b c d l
  have h1 := List.all_eq_true.mp h a (List.mem_range.mpr (by omega))
  have h2 := List.all_eq_true.mp h1 b (List.mem_range.mpr (by omega))
  have h3 := List.all_eq_true.mp h2 c (List.mem_range.mpr (by omega))
  exact List.all_eq_true.mp h3 d (List.mem_range.mpr (by omega))
theorem js_btT {k : Nat} {r : Nat → Nat} (e : sg_f r 4 = k) (hk : k < 9) : js_bt 0 1 k r ≤ 2520 := by
  have e4 : sg_f r 4 = 0 + r 0 + r 1 + r 2 + r 3 := rfl
  have a := js_bt4 0 1 js_tt (by decide +kernel) (fun a b c d p l => by
    have q := js_all4 js_tt_c a b c d l
    rcases (Bool.or_eq_true _ _).mp q with q | q
    · have := Nat.eq_of_beq_eq_true q; omega
    · exact Nat.le_of_ble_eq_true q) k r e hk
  exact Nat.le_trans a (Nat.le_of_ble_eq_true (js_all4 js_tt_m _ _ _ _ (by omega)))
theorem js_btK {k : Nat} {r : Nat → Nat} (e : sg_f r 4 = k) (hk : k < 9) : js_bt 9 0 k r ≤ 43605 := by
  have e4 : sg_f r 4 = 0 + r 0 + r 1 + r 2 + r 3 := rfl
  have a := js_bt4 9 0 js_tk (by decide +kernel) (fun a b c d p l => by
    have q := js_all4 js_tk_c a b c d l
    rcases (Bool.or_eq_true _ _).mp q with q | q
    · have := Nat.eq_of_beq_eq_true q; omega
    · exact Nat.le_of_ble_eq_true q) k r e hk
  exact Nat.le_trans a (Nat.le_of_ble_eq_true (js_all4 js_tk_m _ _ _ _ (by omega)))
/-! the two counts at the start -/
theorem js_LEle {n : Nat} {J : Nat → Nat} {C : Nat → Nat → Bool} (hn : n ≤ 8) (hJ : ∀ x, x < n → J x < 4) (hC : ∀ x y, x < y → y < n → J x = J y → C x y = true) : js_ct 0 1 C n n (fun _ => false) ≤ 2520 := by
  have s := js_crs (fun _ => false) hJ
  rw [js_cn0] at s
  exact Nat.le_trans (js_ctb hJ hC n _) (js_btT (by omega) (by omega))
theorem js_KCle {n : Nat} {J : Nat → Nat} {C : Nat → Nat → Bool} (hn : n ≤ 8) (hJ : ∀ x, x < n → J x < 4) (hC : ∀ x y, x < y → y < n → J x = J y → C x y = true) : js_ct 9 0 C n n (fun _ => false) ≤ 43605 := by
  have s := js_crs (fun _ => false) hJ
  rw [js_cn0] at s
  exact Nat.le_trans (js_ctb hJ hC n _) (js_btK (by omega) (by omega))
end
section
def js_ST (n m : Nat) (M : Nat → Nat) (S : Nat → Bool) : Prop := (∀ x, S x = true → x < n ∧ M x = m) ∧ ∃ x, S x = true
def js_su (n : Nat) (D : Nat → Nat) (S : Nat → Bool) : Nat := sg_f (fun x => if S x = true then D x else 0) n
def js_BU (n : Nat) (M D H T : Nat → Nat) (m v : Nat) : Prop := ∀ S h t, js_ST n m M S → (∀ x, S x = true → h ≤ H x ∧ t ≤ T x) → h + js_su n D S + t ≤ v
def js_BE (n : Nat) (M D H T : Nat → Nat) (m v : Nat) : Prop := ∃ S h t, js_ST n m M S ∧ (∀ x, S x = true → h ≤ H x ∧ t ≤ T x) ∧ v ≤ h + js_su n D S + t
def js_BD (n : Nat) (M D H T : Nat → Nat) (m v : Nat) : Prop := js_BU n M D H T m v ∧ (v = 0 ∨ js_BE n M D H T m v)
def js_GB (n nm : Nat) (M D H T : Nat → Nat) (v : Nat) : Prop := (∀ m, m < nm → js_BU n M D H T m v) ∧ (v = 0 ∨ ∃ m, m < nm ∧ js_BE n M D H T m v)
theorem js_BEU {n m v w : Nat} {M D H T : Nat → Nat} (e : js_BE n M D H T m v) (u : js_BU n M D H T m w) : v ≤ w := by
  obtain ⟨S, h, t, a, b, c⟩ := e
  exact Nat.le_trans c (u S h t a b)
theorem js_BDuq {n m v w : Nat} {M D H T : Nat → Nat} (a : js_BD n M D H T m v) (b : js_BD n M D H T m w) : v = w := by
  have l : ∀ {v w : Nat}, js_BD n M D H T m v → js_BD n M D H T m w → v ≤ w := by
    intro v w a b
    rcases a.2 with z | e
    · omega
    · exact js_BEU e b.1
  exact Nat.le_antisymm (l a b) (l b a)
theorem js_GBuq {n nm v w : Nat} {M D H T : Nat → Nat} (a : js_GB n nm M D H T v) (b : js_GB n nm M D H T w) : v = w := by
  have l : ∀ {v w : Nat}, js_GB n nm M D H T v → js_GB n nm M D H T w → v ≤ w := by
    intro v w a b
    rcases a.2 with z | ⟨m, hm, e⟩
    · omega
    · exact js_BEU e (b.1 m hm)
  exact Nat.le_antisymm (l a b) (l b a)
theorem js_BEle {n m v L : Nat} {M D H T s : Nat → Nat} (hs : ∀ x y, x < n → y < n → x ≠ y → M x = M y → s x + D x ≤ s y ∨ s y + D y ≤ s x) (hH : ∀ x, x < n → H x ≤ s x) (hT : ∀ x, x < n → s x + D x + T x ≤ L)
    (e : js_BE n M D H T m v) : v ≤ L := by
  obtain ⟨S, h, t, a, b, c⟩ := e
  obtain ⟨x0, h0⟩ := a.2
  have b0 := b x0 h0
  have l0 := (a.1 x0 h0).1
  have H0 := hH x0 l0
  have T0 := hT x0 l0
  have p := js_pack (n := n) (b := h) (e := L - t) (D := D) (s := s) (S := S) (fun x y hx hy sx sy ne => hs x y hx hy ne ((a.1 x sx).2.trans (a.1 y sy).2.symm))
    (fun x hx sx => Nat.le_trans (b x sx).1 (hH x hx)) (fun x hx sx => by have := hT x hx; have := (b x sx).2; omega) (by omega)
  unfold js_su at c
  omega
theorem js_GBle {n nm v L : Nat} {M D H T s : Nat → Nat} {C : Nat → Nat → Bool} (hC : js_SO n C) (hH : js_HD n D C H) (hT : js_HD n D (js_T C) T) (hs : js_SD n M D C s) (hL : js_sp n D s ≤ L)
    (g : js_GB n nm M D H T v) : v ≤ L := by
  rcases g.2 with z | ⟨m, hm, e⟩
  · omega
  · exact js_BEle hs.2 (fun x hx => hH.2 s hs.1 x hx) (js_HDt hC hT hs.1 (js_sple.mp hL)) e
theorem js_GB1 {n nm v x : Nat} {M D H T : Nat → Nat} (g : js_GB n nm M D H T v) (hx : x < n) (hm : M x < nm) : H x + D x + T x ≤ v := by
  have u := g.1 (M x) hm (fun y => decide (y = x)) (H x) (T x) ⟨fun y q => by have := of_decide_eq_true q; subst this; exact ⟨hx, rfl⟩, x, by simp⟩ (fun y q => by have := of_decide_eq_true q; subst this; exact ⟨Nat.le_refl _, Nat.le_refl _⟩)
  have m := sg_mem (f := fun y => if decide (y = x) = true then D y else 0) hx
  simp only [decide_true, if_true] at m
  unfold js_su at u
  dsimp only at u
  omega
theorem js_GBleaf {n nm v : Nat} {M D H T : Nat → Nat} {C : Nat → Nat → Bool} (hC : js_SO n C) (hM : ∀ x, x < n → M x < nm) (hH : js_HD n D C H) (hT : js_HD n D (js_T C) T)
    (all : ∀ x y, x < n → y < n → x ≠ y → M x = M y → C x y = true ∨ C y x = true) (g : js_GB n nm M D H T v) : js_SD n M D C H ∧ js_sp n D H = v := by
  have sd : js_SD n M D C H := ⟨hH.1, fun x y hx hy ne e => (all x y hx hy ne e).imp (hH.1 x y) (hH.1 y x)⟩
  refine ⟨sd, Nat.le_antisymm (js_sple.mpr fun x hx => ?_) (js_GBle hC hH hT sd (Nat.le_refl _) g)⟩
  have := js_GB1 g hx (hM x hx)
  omega
theorem js_HDb {n : Nat} {D H T : Nat → Nat} {C : Nat → Nat → Bool} (hn : n ≤ 8) (hC : js_SO n C) (hH : js_HD n D C H) (hT : js_HD n D (js_T C) T) (x : Nat) (hx : x < n) : H x + D x + T x ≤ sg_f D n := by
  obtain ⟨s, hs, hl⟩ := js_ser (fun _ => 0) D hC hn
  have a := hH.2 s hs.1 x hx
  have b := js_HDt hC hT hs.1 hl x hx
  omega
theorem js_Ds {n : Nat} {D : Nat → Nat} (hn : n ≤ 8) (hD : ∀ x, x < n → D x ≤ 20) : sg_f D n ≤ 160 := by
  have e := sg_const 20 n
  have l : sg_f D n ≤ sg_f (fun _ => 20) n := sg_le hD
  omega
/-! the preemptive schedule -/
def js_JI (n m : Nat) (M D H T : Nat → Nat) (p : Nat → Bool) (r : Nat → Nat) (t L : Nat) : Prop :=
  (∀ x, p x = true → x < n ∧ M x = m) ∧ (∀ x, x < n → M x = m → (p x = true → 1 ≤ r x ∧ r x ≤ D x) ∧ (¬ p x = true → r x = 0)) ∧
  (∀ θ, ∃ b, b ≤ t ∧ (∀ x, p x = true → θ ≤ T x → b ≤ H x) ∧ t ≤ b + sg_f (fun x => if M x = m ∧ θ ≤ T x ∧ b ≤ H x then D x - r x else 0) n) ∧
  (L = 0 ∨ js_BE n M D H T m L) ∧
  (∀ S h q, js_ST n m M S → (∀ x, S x = true → h ≤ H x ∧ q ≤ T x) → js_su n D S ≤ (t - h) + js_su n r S ∧ ((∃ x, S x = true ∧ p x = true) ∨ h + js_su n D S + q ≤ L))
theorem js_JI0 {n m : Nat} {M D H T r : Nat → Nat} {p : Nat → Bool} (hD : ∀ x, x < n → 1 ≤ D x) (hp : ∀ x, p x = true ↔ x < n ∧ M x = m) (hr : ∀ x, x < n → M x = m → r x = D x) : js_JI n m M D H T p r 0 0 := by
  refine ⟨fun x q => (hp x).mp q, fun x hx e => ⟨fun q => ?_, fun q => absurd ((hp x).mpr ⟨hx, e⟩) q⟩, fun θ => ⟨0, Nat.le_refl _, fun x _ _ => Nat.zero_le _, Nat.zero_le _⟩, Or.inl rfl, fun S h q a b => ⟨?_, Or.inl ?_⟩⟩
  · have := hD x hx
    rw [hr x hx e]; omega
  · have : js_su n D S = js_su n r S := by
      refine sg_eq fun x hx => ?_
      by_cases z : S x = true
      · simp only [if_pos z]; exact (hr x hx (a.1 x z).2).symm
      · simp only [if_neg z]
    omega
  · obtain ⟨x, hx⟩ := a.2
    exact ⟨x, hx, (hp x).mpr (a.1 x hx)⟩
theorem js_JIe {n m t L : Nat} {M D H T r : Nat → Nat} {p : Nat → Bool} (I : js_JI n m M D H T p r t L) (h : ∀ x, ¬ p x = true) : js_BD n M D H T m L := by
  refine ⟨fun S hh q a b => ?_, I.2.2.2.1⟩
  rcases (I.2.2.2.2 S hh q a b).2 with ⟨x, _, px⟩ | z
  · exact absurd px (h x)
  · exact z
theorem js_JIi {n m t t' L : Nat} {M D H T r : Nat → Nat} {p : Nat → Bool} (I : js_JI n m M D H T p r t L) (hl : t ≤ t') (h : ∀ x, p x = true → t' ≤ H x) : js_JI n m M D H T p r t' L := by
  obtain ⟨a, b, c, d, e⟩ := I
  refine ⟨a, b, fun θ => ⟨t', Nat.le_refl _, fun x q _ => h x q, Nat.le_add_right _ _⟩, d, fun S hh q k l => ?_⟩
  obtain ⟨e1, e2⟩ := e S hh q k l
  exact ⟨by omega, e2⟩
theorem js_sua {n x : Nat} {f g : Nat → Nat} {S : Nat → Bool} (hx : x < n) (sx : S x = true) (h : ∀ i, i ≠ x → f i = g i) : js_su n f S + g x = js_su n g S + f x := by
  have u := sg_upd (f := fun i => if S i = true then f i else 0) (g := fun i => if S i = true then g i else 0) hx (fun i hi ne => by simp only [h i ne])
  simp only [if_pos sx] at u
  exact u
theorem js_sun {n x : Nat} {f g : Nat → Nat} {S : Nat → Bool} (sx : ¬ S x = true) (h : ∀ i, i ≠ x → f i = g i) : js_su n f S = js_su n g S := by
  refine sg_eq fun i hi => ?_
  by_cases e : i = x
  · subst e; simp only [if_neg sx]
  · simp only [h i e]
theorem js_JIr {n m a t L w rel : Nat} {M D H T r : Nat → Nat} {p : Nat → Bool} (I : js_JI n m M D H T p r t L) (pa : p a = true) (ha : H a ≤ t) (mx : ∀ x, p x = true → H x ≤ t → T x ≤ T a)
    (hrel : ∀ x, p x = true → t < H x → rel ≤ H x) (hw : w ≤ r a) (hwr : t + w ≤ rel) :
    (w ≠ r a → js_JI n m M D H T p (fun x => if x = a then r a - w else r x) (t + w) L) ∧
    (w = r a → js_JI n m M D H T (fun x => p x && !decide (x = a)) (fun x => if x = a then r a - w else r x) (t + w) (if t + w + T a ≤ L then L else t + w + T a)) := by
  obtain ⟨i1, i2, i3, i4, i5⟩ := I
  have la := i1 a pa
  have ra := (i2 a la.1 la.2).1 pa
  have ne : ∀ i, i ≠ a → (fun x => if x = a then r a - w else r x) i = r i := fun i h => by simp only [if_neg h]
  have ea : (fun x => if x = a then r a - w else r x) a = r a - w := by simp only [if_true, if_pos rfl]
  have c3 : ∀ θ, ∃ b, b ≤ t + w ∧ (∀ x, p x = true → θ ≤ T x → b ≤ H x) ∧ t + w ≤ b + sg_f (fun x => if M x = m ∧ θ ≤ T x ∧ b ≤ H x then D x - (fun x => if x = a then r a - w else r x) x else 0) n := by
    intro θ
    by_cases z : θ ≤ T a
    · obtain ⟨b, b1, b2, b3⟩ := i3 θ
      refine ⟨b, by omega, b2, ?_⟩
      have u := sg_upd (f := fun x => if M x = m ∧ θ ≤ T x ∧ b ≤ H x then D x - (fun x => if x = a then r a - w else r x) x else 0) (g := fun x => if M x = m ∧ θ ≤ T x ∧ b ≤ H x then D x - r x else 0) la.1 (fun i hi h => by simp only [if_neg h])
      have cnd : M a = m ∧ θ ≤ T a ∧ b ≤ H a := ⟨la.2, z, b2 a pa z⟩
      simp only [if_pos cnd, if_true, if_pos rfl] at u
      (try dsimp only)
      omega
    · refine ⟨t + w, Nat.le_refl _, fun x px tx => ?_, Nat.le_add_right _ _⟩
      rcases Nat.lt_or_ge t (H x) with l | l
      · have := hrel x px l; omega
      · have := mx x px l; omega
  have c5 : ∀ S h q, js_ST n m M S → (∀ x, S x = true → h ≤ H x ∧ q ≤ T x) → js_su n D S ≤ (t + w - h) + js_su n (fun x => if x = a then r a - w else r x) S := by
    intro S h q k l
    have e1 := (i5 S h q k l).1
    by_cases sa : S a = true
    · have u := js_sua (f := fun x => if x = a then r a - w else r x) (g := r) la.1 sa ne
      have := (l a sa).1
      rw [if_pos rfl] at u
      omega
    · rw [js_sun (f := fun x => if x = a then r a - w else r x) (g := r) sa ne]
      omega
  have c2 : ∀ x, x < n → M x = m → x ≠ a → (p x = true → 1 ≤ (fun x => if x = a then r a - w else r x) x ∧ (fun x => if x = a then r a - w else r x) x ≤ D x) ∧ (¬ p x = true → (fun x => if x = a then r a - w else r x) x = 0) := by
    intro x hx e h
    rw [ne x h]; exact i2 x hx e
  refine ⟨fun hne => ?_, fun heq => ?_⟩
  · refine ⟨i1, fun x hx e => ?_, c3, i4, fun S h q k l => ⟨c5 S h q k l, (i5 S h q k l).2⟩⟩
    by_cases h : x = a
    · subst h
      rw [ea]
      exact ⟨fun _ => by omega, fun z => absurd pa z⟩
    · exact c2 x hx e h
  · have pp : ∀ x, (p x && !decide (x = a)) = true ↔ p x = true ∧ x ≠ a := fun x => by simp
    have be : js_BE n M D H T m (t + w + T a) := by
      obtain ⟨b, b1, b2, b3⟩ := c3 (T a)
      refine ⟨fun x => decide (x < n ∧ M x = m ∧ T a ≤ T x ∧ b ≤ H x), b, T a, ⟨fun x q => ?_, a, ?_⟩, fun x q => ?_, ?_⟩
      · have := of_decide_eq_true q; exact ⟨this.1, this.2.1⟩
      · exact decide_eq_true ⟨la.1, la.2, Nat.le_refl _, b2 a pa (Nat.le_refl _)⟩
      · have := of_decide_eq_true q; exact ⟨this.2.2.2, this.2.2.1⟩
      · have : sg_f (fun x => if M x = m ∧ T a ≤ T x ∧ b ≤ H x then D x - (fun x => if x = a then r a - w else r x) x else 0) n ≤ js_su n D (fun x => decide (x < n ∧ M x = m ∧ T a ≤ T x ∧ b ≤ H x)) := by
          refine sg_le fun x hx => ?_
          by_cases z : M x = m ∧ T a ≤ T x ∧ b ≤ H x
          · have z' : decide (x < n ∧ M x = m ∧ T a ≤ T x ∧ b ≤ H x) = true := decide_eq_true ⟨hx, z⟩
            simp only [if_pos z, if_pos z']; exact Nat.sub_le _ _
          · simp only [if_neg z]; exact Nat.zero_le _
        omega
    refine ⟨fun x q => i1 x ((pp x).mp q).1, fun x hx e => ?_, fun θ => ?_, ?_, fun S h q k l => ⟨c5 S h q k l, ?_⟩⟩
    · by_cases h : x = a
      · subst h
        rw [ea]
        exact ⟨fun z => absurd rfl ((pp x).mp z).2, fun _ => by omega⟩
      · have c := c2 x hx e h
        exact ⟨fun z => c.1 ((pp x).mp z).1, fun z => c.2 fun z' => z ((pp x).mpr ⟨z', h⟩)⟩
    · obtain ⟨b, b1, b2, b3⟩ := c3 θ
      exact ⟨b, b1, fun x q => b2 x ((pp x).mp q).1, b3⟩
    · by_cases z : t + w + T a ≤ L
      · rw [if_pos z]; exact i4
      · rw [if_neg z]; exact Or.inr be
    · have Lge : L ≤ (if t + w + T a ≤ L then L else t + w + T a) ∧ t + w + T a ≤ (if t + w + T a ≤ L then L else t + w + T a) := by split <;> omega
      by_cases ex : ∃ x, S x = true ∧ (p x && !decide (x = a)) = true
      · exact Or.inl ex
      · refine Or.inr ?_
        by_cases sa : S a = true
        · have z : js_su n (fun x => if x = a then r a - w else r x) S = 0 := by
            refine sg_zero fun x hx => ?_
            by_cases sx : S x = true
            · simp only [if_pos sx]
              by_cases h : x = a
              · simp only [if_pos h]; omega
              · simp only [if_neg h]
                have np : ¬ p x = true := fun px => ex ⟨x, sx, (pp x).mpr ⟨px, h⟩⟩
                exact (i2 x hx (k.1 x sx).2).2 np
            · simp only [if_neg sx]
          have c := c5 S h q k l
          have := l a sa
          omega
        · rcases (i5 S h q k l).2 with ⟨x, sx, px⟩ | z
          · exact absurd ⟨x, sx, (pp x).mpr ⟨px, fun e => sa (e ▸ sx)⟩⟩ ex
          · omega
/-! the turns that are left -/
def js_mu (n : Nat) (H : Nat → Nat) (p : Nat → Bool) (t : Nat) : Nat := sg_f (fun x => (if p x = true then 1 else 0) + (if p x = true ∧ t < H x then 1 else 0)) n
theorem js_mule {n t : Nat} {H : Nat → Nat} {p : Nat → Bool} : js_mu n H p t ≤ n * 2 := by
  rw [← sg_const 2 n]
  refine sg_le fun x hx => ?_
  (try dsimp only)
  split <;> split <;> omega
theorem js_mu0 {n t : Nat} {H : Nat → Nat} {p : Nat → Bool} (hp : ∀ x, p x = true → x < n) (h : js_mu n H p t = 0) : ∀ x, ¬ p x = true := by
  intro x px
  have m := sg_mem (f := fun x => (if p x = true then 1 else 0) + (if p x = true ∧ t < H x then 1 else 0)) (hp x px)
  simp only [if_pos px] at m
  unfold js_mu at h
  omega
theorem js_mut {n t t' x : Nat} {H : Nat → Nat} {p p' : Nat → Bool} (hx : x < n) (sub : ∀ y, p' y = true → p y = true) (tt : t ≤ t') (px : p x = true) (h : t < H x ∧ H x ≤ t' ∨ ¬ p' x = true) : js_mu n H p' t' < js_mu n H p t := by
  have le : ∀ y, y < n → (if p' y = true then 1 else 0) + (if p' y = true ∧ t' < H y then 1 else 0) ≤ (if p y = true then 1 else 0) + (if p y = true ∧ t < H y then 1 else 0) := by
    intro y hy
    by_cases z : p' y = true
    · have w := sub y z
      simp only [if_pos z, if_pos w]
      by_cases u : p' y = true ∧ t' < H y
      · have v : p y = true ∧ t < H y := ⟨w, by omega⟩
        simp only [if_pos u, if_pos v]; omega
      · simp only [if_neg u]; omega
    · have u : ¬ (p' y = true ∧ t' < H y) := fun q => z q.1
      simp only [if_neg z, if_neg u]; omega
  refine sg_lt (a := x) hx le ?_
  (try dsimp only)
  rcases h with ⟨h1, h2⟩ | h
  · have u : ¬ (p' x = true ∧ t' < H x) := fun q => by omega
    have v : p x = true ∧ t < H x := ⟨px, h1⟩
    simp only [if_neg u, if_pos v, if_pos px]
    split <;> omega
  · have u : ¬ (p' x = true ∧ t' < H x) := fun q => h q.1
    simp only [if_neg u, if_neg h, if_pos px]
    split <;> omega
end
section
def js_sq (σ : Nat → Nat) : Nat → Nat → Bool
  | 0 => fun _ => false
  | p + 1 => js_ad (js_sq σ p) (σ p)
theorem js_sqi {σ : Nat → Nat} {x : Nat} : ∀ {p : Nat}, js_sq σ p x = true ↔ ∃ q, q < p ∧ σ q = x
  | 0 => ⟨fun h => by simp [js_sq] at h, fun ⟨q, h, _⟩ => by omega⟩
  | p + 1 => by
    have ih := js_sqi (σ := σ) (x := x) (p := p)
    simp only [js_sq, js_adi]
    constructor
    · rintro (h | h)
      · exact ⟨p, by omega, h.symm⟩
      · obtain ⟨q, hq, e⟩ := ih.mp h
        exact ⟨q, by omega, e⟩
    · rintro ⟨q, hq, e⟩
      by_cases z : q = p
      · subst z; exact Or.inl e.symm
      · exact Or.inr (ih.mpr ⟨q, by omega, e⟩)
theorem js_sqc {σ σ' : Nat → Nat} : ∀ {p : Nat}, (∀ q, q < p → σ q = σ' q) → js_sq σ p = js_sq σ' p
  | 0, _ => rfl
  | p + 1, h => by simp only [js_sq]; rw [js_sqc (p := p) (fun q hq => h q (by omega)), h p (by omega)]
def js_st (n : Nat) (J M D : Nat → Nat) (A : Nat → Bool) (a : Nat → Nat) (c : Nat) : Nat := sg_x (fun x => if A x = true ∧ (J x = J c ∨ M x = M c) then a x + D x else 0) n
def js_ac (n : Nat) (J M D : Nat → Nat) (R : Nat → Nat → Bool) (p : Nat) (σ a : Nat → Nat) (c : Nat) : Prop :=
  js_ok R (js_sq σ p) c ∧ (p = 0 ∨ a (σ (p - 1)) ≤ js_st n J M D (js_sq σ p) a c)
def js_up (a : Nat → Nat) (c v : Nat) : Nat → Nat := fun x => if x = c then v else a x
theorem js_upc {a : Nat → Nat} {c v : Nat} : js_up a c v c = v := by simp [js_up]
theorem js_upn {a : Nat → Nat} {c v x : Nat} (h : x ≠ c) : js_up a c v x = a x := by simp [js_up, h]
/-- the best so far is at least as good as s -/
def js_C (n : Nat) (D b : Nat → Nat) (g : Nat) (s : Nat → Nat) : Prop := g ≠ 0 ∧ (g < js_sp n D s + 1 ∨ (g = js_sp n D s + 1 ∧ js_lex n b s))
def js_GD (n : Nat) (D : Nat → Nat) (P : (Nat → Nat) → Prop) (b : Nat → Nat) (g : Nat) : Prop := g = 0 ∨ (P b ∧ js_sp n D b + 1 = g ∧ g ≤ 161)
def js_KP (n : Nat) (D b : Nat → Nat) (g : Nat) (a b' : Nat → Nat) (g' : Nat) : Prop :=
  (((∀ x, x < n → b' x = a x) ∧ g' = js_sp n D a + 1) ∨ (b' = b ∧ g' = g)) ∧ js_C n D b' g' a ∧ ∀ s, js_C n D b g s → js_C n D b' g' s
theorem js_Ceq {n g : Nat} {D b s s' : Nat → Nat} (e : ∀ x, x < n → s x = s' x) (h : js_C n D b g s) : js_C n D b g s' := by
  refine ⟨h.1, ?_⟩
  rw [← js_speq e]
  rcases h.2 with q | ⟨q, l⟩
  · exact Or.inl q
  · exact Or.inr ⟨q, js_lextr l (js_lexle fun i hi => Nat.le_of_eq (e i hi))⟩
def js_YI (n : Nat) (J M D : Nat → Nat) (R : Nat → Nat → Bool) (p : Nat) (σ a : Nat → Nat) : Prop :=
  (∀ q, q < p → σ q < n) ∧ js_cn (js_sq σ p) n = p ∧ (∀ x y, js_sq σ p y = true → R x y = true → js_sq σ p x = true ∧ a x + D x ≤ a y) ∧
  (∀ x y, js_sq σ p x = true → js_sq σ p y = true → x ≠ y → js_TD J M x y → a x + D x ≤ a y ∨ a y + D y ≤ a x) ∧ (∀ x, js_sq σ p x = true → a x + D x ≤ 20 * p)
theorem js_stge {n c x : Nat} {J M D a : Nat → Nat} {A : Nat → Bool} (hx : x < n) (hA : A x = true) (t : js_TD J M x c) : a x + D x ≤ js_st n J M D A a c := by
  have m := sg_xge (f := fun x => if A x = true ∧ (J x = J c ∨ M x = M c) then a x + D x else 0) hx
  have w : A x = true ∧ (J x = J c ∨ M x = M c) := ⟨hA, t⟩
  simp only [if_pos w] at m
  exact m
theorem js_stle {n c L : Nat} {J M D a : Nat → Nat} {A : Nat → Bool} (h : ∀ x, x < n → A x = true → js_TD J M x c → a x + D x ≤ L) : js_st n J M D A a c ≤ L := by
  refine sg_xle fun x hx => ?_
  by_cases w : A x = true ∧ (J x = J c ∨ M x = M c)
  · simp only [if_pos w]; exact h x hx w.1 w.2
  · simp only [if_neg w]; exact Nat.zero_le _
theorem js_YIs {n p c : Nat} {J M D σ a : Nat → Nat} {R : Nat → Nat → Bool} (hD : ∀ x, x < n → D x ≤ 20) (ht : ∀ x y, R x y = true → js_TD J M x y)
    (I : js_YI n J M D R p σ a) (hc : c < n) (o : js_ok R (js_sq σ p) c) : js_YI n J M D R (p + 1) (js_up σ p c) (js_up a c (js_st n J M D (js_sq σ p) a c)) := by
  obtain ⟨i1, i2, i3, i4, i5⟩ := I
  have e : js_sq (js_up σ p c) (p + 1) = js_ad (js_sq σ p) c := by
    simp only [js_sq]
    rw [js_upc, js_sqc (σ := js_up σ p c) (σ' := σ) (fun q hq => js_upn (by omega))]
  have inn : ∀ x, js_sq σ p x = true → x < n := fun x h => by
    obtain ⟨q, hq, z⟩ := js_sqi.mp h
    rw [← z]; exact i1 q hq
  have ne : ∀ x, js_sq σ p x = true → x ≠ c := fun x h z => o.1 (z ▸ h)
  refine ⟨fun q hq => ?_, ?_, fun x y => ?_, fun x y => ?_, fun x => ?_⟩
  · by_cases z : q = p
    · rw [z, js_upc]; exact hc
    · rw [js_upn z]; exact i1 q (by omega)
  · rw [e, js_cna hc o.1, i2]
  · rw [e, js_adi, js_adi]
    rintro hy r
    by_cases z : y = c
    · subst z
      have ax := o.2 x r
      refine ⟨Or.inr ax, ?_⟩
      rw [js_upc, js_upn (ne x ax)]
      exact js_stge (inn x ax) ax (ht x y r)
    · have ay := hy.elim (fun e => absurd e z) id
      obtain ⟨ax, l⟩ := i3 x y ay r
      refine ⟨Or.inr ax, ?_⟩
      rw [js_upn (ne x ax), js_upn z]
      exact l
  · rw [e, js_adi, js_adi]
    rintro hx hy nxy t
    by_cases z : y = c
    · subst z
      have ax := hx.elim (fun e => absurd e nxy) id
      rw [js_upc, js_upn (ne x ax)]
      exact Or.inl (js_stge (inn x ax) ax t)
    · have ay := hy.elim (fun e => absurd e z) id
      by_cases w : x = c
      · subst w
        rw [js_upc, js_upn z]
        exact Or.inr (js_stge (inn y ay) ay (t.imp Eq.symm Eq.symm))
      · rw [js_upn z, js_upn w]
        exact i4 x y (hx.elim (fun e => absurd e w) id) ay nxy t
  · rw [e, js_adi]
    rintro hx
    by_cases w : x = c
    · subst w
      rw [js_upc]
      have l : js_st n J M D (js_sq σ p) a x ≤ 20 * p := js_stle fun z hz az _ => i5 z az
      have := hD x hc
      omega
    · rw [js_upn w]
      have := i5 x (hx.elim (fun e => absurd e w) id)
      omega
theorem js_YIb {n : Nat} {J M D σ a : Nat → Nat} {R : Nat → Nat → Bool} (hn : n ≤ 8) (I : js_YI n J M D R n σ a) : js_sp n D a ≤ 160 := by
  obtain ⟨i1, i2, i3, i4, i5⟩ := I
  have all : ∀ x, x < n → js_sq σ n x = true := by
    intro x hx
    refine Classical.byContradiction fun no => ?_
    have := js_cna hx no
    have := js_cnle (js_ad (js_sq σ n) x) n
    omega
  refine js_sple.mpr fun x hx => ?_
  have := i5 x (all x hx)
  omega
theorem js_YIf {n : Nat} {J M D σ a : Nat → Nat} {R C : Nat → Nat → Bool} (hn : n ≤ 8) (hC : js_SO n C) (g : js_GN R C) (I : js_YI n J M D R n σ a) : js_SD n M D C a ∧ js_sp n D a ≤ 160 := by
  obtain ⟨i1, i2, i3, i4, i5⟩ := I
  have all : ∀ x, x < n → js_sq σ n x = true := by
    intro x hx
    refine Classical.byContradiction fun no => ?_
    have := js_cna hx no
    have := js_cnle (js_ad (js_sq σ n) x) n
    omega
  refine ⟨⟨js_RSg hC g fun x y r => (i3 x y (all y (hC.1 x y (g.1 x y r)).2) r).2, fun x y hx hy ne e => i4 x y (all x hx) (all y hy) ne (Or.inr e)⟩, ?_⟩
  refine js_sple.mpr fun x hx => ?_
  have := i5 x (all x hx)
  omega
/-- what s is known of: a schedule of which every start is zero or a tied one's end -/
def js_SA (n : Nat) (J M D : Nat → Nat) (R : Nat → Nat → Bool) (s : Nat → Nat) : Prop :=
  (∀ x y, R x y = true → s x + D x ≤ s y) ∧ (∀ x y, x < n → y < n → x ≠ y → js_TD J M x y → s x + D x ≤ s y ∨ s y + D y ≤ s x) ∧
  (∀ y, y < n → s y = 0 ∨ ∃ x, x < n ∧ x ≠ y ∧ js_TD J M x y ∧ s x + D x = s y)
def js_MT (n : Nat) (p : Nat) (σ a s : Nat → Nat) (c : Nat) : Prop :=
  (∀ x, js_sq σ p x = true → a x = s x) ∧ (∀ x y, js_sq σ p x = true → y < n → ¬ js_sq σ p y = true → 8 * s x + x < 8 * s y + y) ∧
  ∃ e, c ≤ e ∧ e < n ∧ ¬ js_sq σ p e = true ∧ ∀ y, y < n → ¬ js_sq σ p y = true → y ≠ e → 8 * s e + e < 8 * s y + y
theorem js_MTst {n p e : Nat} {J M D σ a s : Nat → Nat} {R : Nat → Nat → Bool} (hn : n ≤ 8) (hD : ∀ x, x < n → 1 ≤ D x) (hR : ∀ x y, R x y = true → x < n ∧ y < n) (S : js_SA n J M D R s) (I : js_YI n J M D R p σ a)
    (m1 : ∀ x, js_sq σ p x = true → a x = s x) (m2 : ∀ x y, js_sq σ p x = true → y < n → ¬ js_sq σ p y = true → 8 * s x + x < 8 * s y + y)
    (he : e < n) (ne : ¬ js_sq σ p e = true) (m3 : ∀ y, y < n → ¬ js_sq σ p y = true → y ≠ e → 8 * s e + e < 8 * s y + y) :
    js_ac n J M D R p σ a e ∧ js_st n J M D (js_sq σ p) a e = s e := by
  have inn : ∀ x, js_sq σ p x = true → x < n := fun x h => by
    obtain ⟨q, hq, z⟩ := js_sqi.mp h
    rw [← z]; exact I.1 q hq
  have ok : js_ok R (js_sq σ p) e := by
    refine ⟨ne, fun x r => Classical.byContradiction fun nx => ?_⟩
    have bd := hR x e r
    have l := S.1 x e r
    have d := hD x bd.1
    have nxe : x ≠ e := fun z => by subst z; omega
    have := m3 x bd.1 nx nxe
    omega
  have st : js_st n J M D (js_sq σ p) a e = s e := by
    refine Nat.le_antisymm (js_stle fun x hx ax t => ?_) ?_
    · rw [m1 x ax]
      have nxe : x ≠ e := fun z => ne (z ▸ ax)
      rcases S.2.1 x e hx he nxe t with q | q
      · exact q
      · have := m2 x e ax he ne
        have := hD e he
        omega
    · rcases S.2.2 e he with z | ⟨x, hx, nxe, t, z⟩
      · omega
      · have ax : js_sq σ p x = true := Classical.byContradiction fun nx => by
          have := m3 x hx nx nxe
          have := hD x hx
          omega
        have := js_stge (n := n) (J := J) (M := M) (D := D) (a := a) (c := e) hx ax t
        rw [m1 x ax] at this
        omega
  refine ⟨⟨ok, ?_⟩, st⟩
  by_cases z : p = 0
  · exact Or.inl z
  · have ax : js_sq σ p (σ (p - 1)) = true := js_sqi.mpr ⟨p - 1, by omega, rfl⟩
    refine Or.inr ?_
    rw [st, m1 _ ax]
    have := m2 _ e ax he ne
    have := inn _ ax
    omega
noncomputable def js_rc (n m : Nat) (R : Nat → Nat → Bool) (A : Nat → Bool) (c : Nat) : Nat :=
  (n + 1 - c) + sg_f (fun c' => if c ≤ c' then js_if (js_ok R A c') (js_ct 9 0 R n m (js_ad A c')) else 0) n
theorem js_rcs {n m c : Nat} {R : Nat → Nat → Bool} {A : Nat → Bool} (hc : c < n) : js_rc n m R A c = 1 + js_rc n m R A (c + 1) + js_if (js_ok R A c) (js_ct 9 0 R n m (js_ad A c)) := by
  have u := sg_upd (f := fun c' => if c ≤ c' then js_if (js_ok R A c') (js_ct 9 0 R n m (js_ad A c')) else 0) (g := fun c' => if c + 1 ≤ c' then js_if (js_ok R A c') (js_ct 9 0 R n m (js_ad A c')) else 0) hc (fun i hi ne => by
    by_cases z : c ≤ i
    · have w : c + 1 ≤ i := by omega
      simp only [if_pos z, if_pos w]
    · have w : ¬ c + 1 ≤ i := by omega
      simp only [if_neg z, if_neg w])
  have w : ¬ c + 1 ≤ c := by omega
  simp only [if_pos (Nat.le_refl c), if_neg w] at u
  unfold js_rc
  omega
theorem js_rc0 {n m : Nat} {R : Nat → Nat → Bool} {A : Nat → Bool} (hn : n ≤ 8) : js_rc n m R A 0 ≤ js_ct 9 0 R n (m + 1) A := by
  have e : sg_f (fun c' => if 0 ≤ c' then js_if (js_ok R A c') (js_ct 9 0 R n m (js_ad A c')) else 0) n = sg_f (fun c => js_if (js_ok R A c) (js_ct 9 0 R n m (js_ad A c))) n :=
    sg_eq fun i hi => by simp only [if_pos (Nat.zero_le i)]
  unfold js_rc
  simp only [js_ct]
  omega
theorem js_rcn {n m : Nat} {R : Nat → Nat → Bool} {A : Nat → Bool} : js_rc n m R A n ≥ 1 := by unfold js_rc; omega
def js_PO (n : Nat) (J M D : Nat → Nat) (R : Nat → Nat → Bool) (P : (Nat → Nat) → Prop) (p : Nat) (σ s : Nat → Nat) (c : Nat) (a b : Nat → Nat) (g : Nat) (a' b' : Nat → Nat) (g' : Nat) : Prop :=
  (∀ x, js_sq σ p x = true → a' x = a x) ∧ js_GD n D P b' g' ∧ (∀ t, js_C n D b g t → js_C n D b' g' t) ∧ (js_SA n J M D R s → js_MT n p σ a s c → js_C n D b' g' s)
def js_Wt : Type := Nat → Nat → Nat → (Nat → Nat) → (Nat → Nat) → (Nat → Nat) → Nat → Prop
theorem js_dfs {n : Nat} {J M D s : Nat → Nat} {R : Nat → Nat → Bool} {P : (Nat → Nat) → Prop} (W : js_Wt) (hn : n ≤ 8) (hD : ∀ x, x < n → 1 ≤ D x ∧ D x ≤ 20) (hR : ∀ x y, R x y = true → x < n ∧ y < n) (ht : ∀ x y, R x y = true → js_TD J M x y)
    (hP : ∀ b b', (∀ x, x < n → b x = b' x) → P b → P b') (fin : ∀ σ a, js_YI n J M D R n σ a → P a)
    (r1 : ∀ k p σ a b g, k < 100000 → p + 1 < n → W (k + 1) p (σ p + 1) σ a b g → W k (p + 1) n σ a b g)
    (r2 : ∀ k p c σ a b g, k < 100000 → p < n → c < n → js_YI n J M D R p σ a → ¬ js_ac n J M D R p σ a c → W (k + 1) p (c + 1) σ a b g → W k p c σ a b g)
    (r3 : ∀ k p c σ a b g, k < 100000 → p + 1 = n → c < n → js_YI n J M D R p σ a → js_ac n J M D R p σ a c → js_GD n D P b g → (∀ b' g', js_KP n D b g (js_up a c (js_st n J M D (js_sq σ p) a c)) b' g' → W (k + 1) p (c + 1) σ (js_up a c (js_st n J M D (js_sq σ p) a c)) b' g') → W k p c σ a b g)
    (r4 : ∀ k p c σ a b g, k < 100000 → p + 1 < n → c < n → js_YI n J M D R p σ a → js_ac n J M D R p σ a c → W (k + 1) (p + 1) 0 (js_up σ p c) (js_up a c (js_st n J M D (js_sq σ p) a c)) b g → W k p c σ a b g)
    (r5 : ∀ k p c σ σ' a b g, (∀ q, q < p → σ q = σ' q) → W k p c σ a b g → W k p c σ' a b g) :
    ∀ m p, p + m + 1 = n → ∀ d c, c + d = n → ∀ (σ a b : Nat → Nat) (g k : Nat) (Q : Nat → (Nat → Nat) → (Nat → Nat) → Nat → Prop), (∀ k a b g, k < 100000 → Q (k + 1) a b g → W k p n σ a b g) →
      js_YI n J M D R p σ a → js_GD n D P b g → k + js_rc n m R (js_sq σ p) c ≤ 100000 →
      (∀ k' a' b' g', k' ≤ k + js_rc n m R (js_sq σ p) c → js_PO n J M D R P p σ s c a b g a' b' g' → Q k' a' b' g') → W k p c σ a b g := by
  have hD1 : ∀ x, x < n → 1 ≤ D x := fun x hx => (hD x hx).1
  have hD2 : ∀ x, x < n → D x ≤ 20 := fun x hx => (hD x hx).2
  intro m
  induction m with
  | zero =>
    intro p hp d
    induction d with
    | zero =>
      intro c hc σ a b g k Q hQ I G hk K
      have ec : c = n := by omega
      subst ec
      have l := js_rcn (n := c) (m := 0) (R := R) (A := js_sq σ p)
      refine hQ k a b g (by omega) (K (k + 1) a b g (by omega) ⟨fun x _ => rfl, G, fun t h => h, fun _ mt => ?_⟩)
      obtain ⟨_, _, e, h1, h2, _⟩ := mt
      omega
    | succ d ih =>
      intro c hc σ a b g k Q hQ I G hk K
      have rs := js_rcs (n := n) (m := 0) (c := c) (R := R) (A := js_sq σ p) (by omega)
      by_cases ac : js_ac n J M D R p σ a c
      · refine r3 k p c σ a b g (by omega) (by omega) (by omega) I ac G (fun b' g' kp => ?_)
        have I' := js_YIs hD2 ht I (by omega) ac.1
        have I'' : js_YI n J M D R n (js_up σ p c) (js_up a c (js_st n J M D (js_sq σ p) a c)) := by
          have e : p + 1 = n := by omega
          rw [e] at I'; exact I'
        have F := fin _ _ I''
        have F2 := js_YIb hn I''
        have G' : js_GD n D P b' g' := by
          rcases kp.1 with ⟨e, eg⟩ | ⟨e, eg⟩
          · refine Or.inr ⟨hP _ _ (fun x hx => (e x hx).symm) F, ?_, ?_⟩
            · rw [js_speq e, eg]
            · omega
          · rw [e, eg]; exact G
        have agr : ∀ x, js_sq σ p x = true → js_up a c (js_st n J M D (js_sq σ p) a c) x = a x := fun x h => js_upn (fun z => ac.1.1 (z ▸ h))
        refine ih (c + 1) (by omega) σ _ b' g' (k + 1) Q hQ ?_ G' (by omega) (fun k' a'' b'' g'' hk' po => K k' a'' b'' g'' (by omega) ⟨fun x h => (po.1 x h).trans (agr x h), po.2.1, fun t h => po.2.2.1 t (kp.2.2 t h), fun S mt => ?_⟩)
        · obtain ⟨i1, i2, i3, i4, i5⟩ := I
          refine ⟨i1, i2, fun x y hy r => ?_, fun x y hx hy => ?_, fun x hx => ?_⟩
          · obtain ⟨ax, l⟩ := i3 x y hy r
            rw [agr x ax, agr y hy]; exact ⟨ax, l⟩
          · rw [agr x hx, agr y hy]; exact i4 x y hx hy
          · rw [agr x hx]; exact i5 x hx
        · obtain ⟨m1, m2, e, e1, e2, e3, e4⟩ := mt
          by_cases z : e = c
          · subst z
            have st := (js_MTst hn hD1 hR S I m1 m2 e2 e3 e4).2
            refine po.2.2.1 s (js_Ceq (fun x hx => ?_) kp.2.1)
            by_cases w : x = e
            · rw [w, js_upc, st]
            · have ax : js_sq σ p x = true := by
                refine Classical.byContradiction fun nx => ?_
                have c1 := js_cna e2 e3
                have c2 := js_cna (A := js_ad (js_sq σ p) e) hx (fun q => (js_adi.mp q).elim w nx)
                have c3 := js_cnle (js_ad (js_ad (js_sq σ p) e) x) n
                have c4 := I.2.1
                omega
              rw [agr x ax, m1 x ax]
          · exact po.2.2.2 S ⟨fun x h => (agr x h).trans (m1 x h), m2, e, by omega, e2, e3, e4⟩
      · refine r2 k p c σ a b g (by omega) (by omega) (by omega) I ac ?_
        refine ih (c + 1) (by omega) σ a b g (k + 1) Q hQ I G (by omega) (fun k' a'' b'' g'' hk' po => K k' a'' b'' g'' (by omega) ⟨po.1, po.2.1, po.2.2.1, fun S mt => ?_⟩)
        obtain ⟨m1, m2, e, e1, e2, e3, e4⟩ := mt
        have z : e ≠ c := fun z => by subst z; exact ac (js_MTst hn hD1 hR S I m1 m2 e2 e3 e4).1
        exact po.2.2.2 S ⟨m1, m2, e, by omega, e2, e3, e4⟩
  | succ m ihm =>
    intro p hp d
    induction d with
    | zero =>
      intro c hc σ a b g k Q hQ I G hk K
      have ec : c = n := by omega
      subst ec
      have l := js_rcn (n := c) (m := m + 1) (R := R) (A := js_sq σ p)
      refine hQ k a b g (by omega) (K (k + 1) a b g (by omega) ⟨fun x _ => rfl, G, fun t h => h, fun _ mt => ?_⟩)
      obtain ⟨_, _, e, h1, h2, _⟩ := mt
      omega
    | succ d ih =>
      intro c hc σ a b g k Q hQ I G hk K
      have rs := js_rcs (n := n) (m := m + 1) (c := c) (R := R) (A := js_sq σ p) (by omega)
      by_cases ac : js_ac n J M D R p σ a c
      · have e : js_sq (js_up σ p c) (p + 1) = js_ad (js_sq σ p) c := by
          simp only [js_sq]
          rw [js_upc, js_sqc (σ := js_up σ p c) (σ' := σ) (fun q hq => js_upn (by omega))]
        have agr : ∀ x, js_sq σ p x = true → js_up a c (js_st n J M D (js_sq σ p) a c) x = a x := fun x h => js_upn (fun z => ac.1.1 (z ▸ h))
        rw [js_ift ac.1] at rs
        have c0 := js_rc0 (n := n) (m := m) (R := R) (A := js_ad (js_sq σ p) c) hn
        refine r4 k p c σ a b g (by omega) (by omega) (by omega) I ac ?_
        refine ihm (p + 1) (by omega) n 0 (by omega) (js_up σ p c) _ b g (k + 1) (fun k a b g => W k p (c + 1) σ a b g) (fun k a b g hk q => r1 k p (js_up σ p c) a b g hk (by omega) (by rw [js_upc]; exact r5 _ _ _ _ _ _ _ _ (fun q hq => (js_upn (by omega)).symm) q))
          (js_YIs hD2 ht I (by omega) ac.1) G (by rw [e]; omega) (fun k' a' b' g' hk' po => ?_)
        rw [e] at hk'
        have pa : ∀ x, js_sq σ p x = true → a' x = a x := fun x h => (po.1 x (by rw [e]; exact js_adi.mpr (Or.inr h))).trans (agr x h)
        refine ih (c + 1) (by omega) σ a' b' g' k' Q hQ ?_ po.2.1 (by omega) (fun k'' a'' b'' g'' hk'' po' => K k'' a'' b'' g'' (by omega) ⟨fun x h => (po'.1 x h).trans (pa x h), po'.2.1, fun t h => po'.2.2.1 t (po.2.2.1 t h), fun S mt => ?_⟩)
        · obtain ⟨i1, i2, i3, i4, i5⟩ := I
          refine ⟨i1, i2, fun x y hy r => ?_, fun x y hx hy => ?_, fun x hx => ?_⟩
          · obtain ⟨ax, l⟩ := i3 x y hy r
            rw [pa x ax, pa y hy]; exact ⟨ax, l⟩
          · rw [pa x hx, pa y hy]; exact i4 x y hx hy
          · rw [pa x hx]; exact i5 x hx
        · obtain ⟨m1, m2, e0, e1, e2, e3, e4⟩ := mt
          by_cases z : e0 = c
          · subst z
            have st := (js_MTst hn hD1 hR S I m1 m2 e2 e3 e4).2
            refine po'.2.2.1 s (po.2.2.2 S ⟨fun x => ?_, fun x y => ?_, ?_⟩)
            · rw [e, js_adi]
              rintro hx
              by_cases w : x = e0
              · rw [w, js_upc, st]
              · have ax := hx.elim (fun q => absurd q w) id
                rw [agr x ax, m1 x ax]
            · rw [e, js_adi, js_adi]
              rintro hx hy ny
              have ny1 : y ≠ e0 := fun q => ny (Or.inl q)
              have ny2 : ¬ js_sq σ p y = true := fun q => ny (Or.inr q)
              by_cases w : x = e0
              · rw [w]; exact e4 y hy ny2 ny1
              · exact m2 x y (hx.elim (fun q => absurd q w) id) hy ny2
            · have cn : js_cn (js_sq (js_up σ p e0) (p + 1)) n < n := by
                rw [e, js_cna e2 e3, I.2.1]; omega
              obtain ⟨c0', h0, n0⟩ := js_cnl cn
              obtain ⟨r, ⟨f, hf, nf, er⟩, hm⟩ := pk_least (fun r => ∃ f, f < n ∧ ¬ js_sq (js_up σ p e0) (p + 1) f = true ∧ 8 * s f + f = r) ⟨_, c0', h0, n0, rfl⟩
              refine ⟨f, Nat.zero_le _, hf, nf, fun y hy ny nyf => ?_⟩
              rcases Nat.lt_trichotomy (8 * s f + f) (8 * s y + y) with l | l | l
              · exact l
              · omega
              · exact absurd ⟨y, hy, ny, rfl⟩ (hm _ (by omega))
          · exact po'.2.2.2 S ⟨fun x h => (pa x h).trans (m1 x h), m2, e0, by omega, e2, e3, e4⟩
      · refine r2 k p c σ a b g (by omega) (by omega) (by omega) I ac ?_
        refine ih (c + 1) (by omega) σ a b g (k + 1) Q hQ I G (by omega) (fun k' a'' b'' g'' hk' po => K k' a'' b'' g'' (by omega) ⟨po.1, po.2.1, po.2.2.1, fun S mt => ?_⟩)
        obtain ⟨m1, m2, e, e1, e2, e3, e4⟩ := mt
        have z : e ≠ c := fun z => by subst z; exact ac (js_MTst hn hD1 hR S I m1 m2 e2 e3 e4).1
        exact po.2.2.2 S ⟨m1, m2, e, by omega, e2, e3, e4⟩
end
section
def js_gb (o : Int64) (i : Nat) : Bool := o.toBitVec.getLsbD i
theorem js_gshl (v : Int64) {k : Nat} (hk : k < 64) (i : Nat) : js_gb (v <<< ((nI k).toInt64 &&& 63)) i = (decide (i < 64) && (decide (k ≤ i) && js_gb v (i - k))) := by
  unfold js_gb
  rw [wb_c k hk, Int64.toBitVec_shiftLeft, wb_tb, wb_sm k hk, BitVec.shiftLeft_eq', BitVec.toNat_ofNat, Nat.mod_eq_of_lt (show k < 2 ^ 64 by omega), BitVec.getLsbD_shiftLeft]
  by_cases h : i < k
  · simp [h, Nat.not_le.mpr h]
  · simp [h, Nat.not_lt.mp h]
theorem js_gshr (v : Int64) {k : Nat} (hk : k < 64) (i : Nat) : js_gb ((v.toUInt64 >>> ((nI k).toInt64.toUInt64 &&& Int64.toUInt64 63)).toInt64) i = js_gb v (k + i) := by
  have e : (v.toUInt64 >>> UInt64.ofNat k).toInt64.toBitVec = v.toBitVec >>> k := by
    apply BitVec.eq_of_toNat_eq
    show (v.toUInt64 >>> UInt64.ofNat k).toNat = _
    rw [UInt64.toNat_shiftRight, u_tn (by omega), Nat.mod_eq_of_lt hk, BitVec.toNat_ushiftRight]
    rfl
  unfold js_gb
  rw [wb_cu k hk, e, BitVec.getLsbD_ushiftRight]
theorem js_gor (a b : Int64) (i : Nat) : js_gb (a ||| b) i = (js_gb a i || js_gb b i) := by unfold js_gb; rw [Int64.toBitVec_or, BitVec.getLsbD_or]
theorem js_gand (a b : Int64) (i : Nat) : js_gb (a &&& b) i = (js_gb a i && js_gb b i) := by unfold js_gb; rw [Int64.toBitVec_and, BitVec.getLsbD_and]
theorem js_gbig {x : Int64} {i : Nat} (h : 64 ≤ i) : js_gb x i = false := BitVec.getLsbD_of_ge _ _ h
theorem js_g255 (i : Nat) : js_gb 255 i = decide (i < 8) := by
  rcases Nat.lt_or_ge i 64 with h | h
  · exact (by decide +kernel : ∀ i, i < 64 → js_gb 255 i = decide (i < 8)) i h
  · rw [js_gbig h, decide_eq_false (by omega)]
theorem js_g1 (i : Nat) : js_gb 1 i = decide (i = 0) := by
  rcases Nat.lt_or_ge i 64 with h | h
  · exact (by decide +kernel : ∀ i, i < 64 → js_gb 1 i = decide (i = 0)) i h
  · rw [js_gbig h, decide_eq_false (by omega)]
theorem js_g0 (i : Nat) : js_gb 0 i = false := BitVec.getLsbD_zero
theorem js_8 (b : Nat) : (8 : Int32) * nI b = nI (8 * b) := pk_mul 8 b
theorem js_8a (x y : Nat) : (8 : Int32) * nI x + nI y = nI (8 * x + y) := by rw [js_8, nI_add]
def js_bo (o : Int64) : Nat → Nat → Bool := fun x y => decide (x < 8 ∧ y < 8) && js_gb o (8 * x + y)
theorem js_bog {o : Int64} {x y : Nat} (hx : x < 8) (hy : y < 8) : js_bo o x y = js_gb o (8 * x + y) := by simp [js_bo, hx, hy]
theorem js_bob {o : Int64} {x y : Nat} (h : js_bo o x y = true) : x < 8 ∧ y < 8 := by
  simp [js_bo] at h; exact h.1
theorem js_boinj {o o' : Int64} (h : js_bo o = js_bo o') : o = o' := by
  refine wb_inj (BitVec.eq_of_getLsbD_eq fun i hi => ?_)
  have e := congrFun (congrFun h (i / 8)) (i % 8)
  rw [js_bog (by omega) (by omega), js_bog (by omega) (by omega)] at e
  have : 8 * (i / 8) + i % 8 = i := by omega
  rw [this] at e
  exact e
theorem js_bo0 : js_bo 0 = fun _ _ => false := by
  funext x y
  simp [js_bo, js_g0]
theorem js_bopos {n : Nat} {o : Int64} (h : js_SO n (js_bo o)) : ¬ o < 0 := by
  have b : js_gb o 63 = false := by
    have := h.2.1 7
    rw [js_bog (by omega) (by omega)] at this
    simpa using this
  have m : o.toBitVec.msb = false := by rw [BitVec.msb_eq_getLsbD_last]; exact b
  rw [Int64.lt_iff_toInt_lt]
  have z : (0 : Int64).toInt = 0 := by decide
  have t : o.toInt = o.toBitVec.toInt := rfl
  rw [BitVec.msb_eq_toInt] at m
  have := of_decide_eq_false m
  omega
theorem js_neg1 : (-1 : Int64) < 0 := by decide
/-! one bit of a relation -/
theorem js_pz (o : Int64) {x y : Nat} (hx : x < 8) (hy : y < 8) : ((o.toUInt64 >>> (((8 * nI x) + nI y).toInt64.toUInt64 &&& Int64.toUInt64 63)).toInt64 &&& 1) = 0 ↔ ¬ js_bo o x y = true := by
  rw [js_8a, js_bog hx hy, ts_bit (j := 8 * x + y) (by omega) (by rw [wb_cu _ (by omega), u_tn (by omega)])]
  unfold js_gb
  simp
/-! the rows of the link -/
def js_af (o : Int64) (b : Nat) (y : Nat) : Bool := decide (y < 8) && (decide (y = b) || js_bo o b y)
theorem js_afe (o : Int64) {b : Nat} (hb : b < 8) (y : Nat) : js_gb ((((o.toUInt64 >>> ((8 * nI b).toInt64.toUInt64 &&& Int64.toUInt64 63)).toInt64) &&& 255) ||| ((1 : Int64) <<< ((nI b).toInt64 &&& 63))) y = js_af o b y := by
  rw [js_8, js_gor, js_gand, js_gshr _ (by omega), js_g255, js_gshl _ (by omega), js_g1]
  unfold js_af
  by_cases hy : y < 8
  · rw [js_bog hb hy]
    by_cases e : y = b
    · subst e; simp [hy, show y < 64 by omega]
    · have : ¬ (b ≤ y ∧ y - b = 0) := by omega
      by_cases l : b ≤ y
      · have : ¬ (y - b = 0) := by omega
        simp [hy, e, this]
      · simp [hy, e, l]
  · have : ¬ (b ≤ y ∧ y - b = 0) := by omega
    by_cases l : b ≤ y
    · have : ¬ (y - b = 0) := by omega
      simp [hy, this]
    · simp [hy, l]
def js_LI (o : Int64) (a b i : Nat) (l : Int64) : Prop := ∀ x y, x < 8 → y < 8 → js_gb l (8 * x + y) = (js_bo o x y || (decide (x < i) && ((decide (x = a) || js_bo o x a) && js_af o b y)))
theorem js_LI0 (o : Int64) (a b : Nat) : js_LI o a b 0 o := fun x y hx hy => by simp [js_bog hx hy]
theorem js_LIy {o l x5 : Int64} {a b i : Nat} (hi : i < 8) (h5 : ∀ y, js_gb x5 y = js_af o b y) (I : js_LI o a b i l) (q : i = a ∨ js_bo o i a = true) : js_LI o a b (i + 1) (l ||| (x5 <<< ((8 * nI i).toInt64 &&& 63))) := by
  intro x y hx hy
  rw [js_gor, I x y hx hy, js_8, js_gshl _ (by omega), h5]
  have q' : (decide (i = a) || js_bo o i a) = true := by simpa using q
  rcases Nat.lt_trichotomy x i with l | l | l
  · have h1 : ¬ 8 * i ≤ 8 * x + y := by omega
    have h2 : x < i + 1 := by omega
    simp [h1, l, h2]
  · subst l
    have h1 : 8 * x ≤ 8 * x + y := by omega
    have h2 : 8 * x + y - 8 * x = y := by omega
    have h3 : 8 * x + y < 64 := by omega
    have h4 : ¬ x < x := by omega
    rw [h2, q']
    simp [h3]
  · have h1 : ¬ (8 * x + y - 8 * i) < 8 := by omega
    have h2 : ¬ x < i := by omega
    have h3 : ¬ x < i + 1 := by omega
    have h4 : js_af o b (8 * x + y - 8 * i) = false := by unfold js_af; simp [h1]
    rw [h4]
    simp [h2, h3]
theorem js_LIn {o l : Int64} {a b i : Nat} (I : js_LI o a b i l) (q : ¬ (i = a ∨ js_bo o i a = true)) : js_LI o a b (i + 1) l := by
  intro x y hx hy
  rw [I x y hx hy]
  by_cases e : x = i
  · subst e
    have q' : (decide (x = a) || js_bo o x a) = false := by simpa using q
    rw [q']; simp
  · have : (x < i + 1) = (x < i) := propext ⟨fun h => by omega, fun h => by omega⟩
    simp only [this]
theorem js_LIe {o l : Int64} {a b n : Nat} (hn : n ≤ 8) (ha : a < n) (hb : b < n) (hC : js_SO n (js_bo o)) (I : js_LI o a b n l) : js_bo l = js_LK (js_bo o) a b := by
  funext x y
  by_cases hxy : x < 8 ∧ y < 8
  · rw [js_bog hxy.1 hxy.2, I x y hxy.1 hxy.2]
    unfold js_LK js_af
    by_cases q : (decide (x = a) || js_bo o x a) = true
    · have hx : x < n := by
        rcases (Bool.or_eq_true _ _).mp q with q | q
        · have := of_decide_eq_true q; omega
        · exact (hC.1 x a q).1
      simp [hx, hxy.2]
    · have q' : (decide (x = a) || js_bo o x a) = false := by simpa using q
      rw [q']; simp
  · have h1 : js_bo l x y = false := by
      have : ¬ js_bo l x y = true := fun h => hxy (js_bob h)
      simpa using this
    have h2 : ¬ js_LK (js_bo o) a b x y = true := by
      intro h
      rcases js_LKi.mp h with h | ⟨h, h'⟩
      · exact hxy (js_bob h)
      · refine hxy ⟨?_, ?_⟩
        · rcases h with h | h
          · omega
          · exact (js_bob h).1
        · rcases h' with h' | h'
          · omega
          · exact (js_bob h').2
    rw [h1]
    simpa using h2
/-! masks in an int -/
theorem js_b1 {j i : Nat} (hj : j < 32) (hi : i < 32) : bt ((1 : Int32) <<< (nI j &&& 31)) i = decide (i = j) := by
  have o : ∀ k, k < 32 → bt 1 k = decide (k = 0) := by decide +kernel
  rw [b_shl j hj _ hi, o _ (by omega)]
  by_cases e : i = j
  · subst e; simp
  · by_cases l : j ≤ i
    · have : ¬ (i - j = 0) := by omega
      simp [e, this]
    · simp [e, l]
theorem js_bs {x : Int32} {j i : Nat} (hj : j < 32) (hi : i < 32) : bt (x ||| ((1 : Int32) <<< (nI j &&& 31))) i = (bt x i || decide (i = j)) := by rw [b_or, js_b1 hj hi]
theorem js_bc {x : Int32} {j i : Nat} (hj : j < 32) (hi : i < 32) : bt (x &&& (((1 : Int32) <<< (nI j &&& 31)) ^^^ (-1))) i = (bt x i && !decide (i = j)) := by
  rw [b_and, b_xor, js_b1 hj hi, b_m1 i hi]
  simp
theorem js_bsh (x : Int32) {j : Nat} (hj : j < 31) : ((x >>> (nI j &&& 31)) &&& 1) = if bt x j = true then 1 else 0 := by
  have o : ∀ k, k < 32 → bt 1 k = decide (k = 0) := by decide +kernel
  refine b_ext fun i hi => ?_
  rw [b_and, b_sshr j (by omega) x hi, o i hi]
  by_cases e : i = 0
  · subst e
    rw [if_pos (show j + 0 < 32 by omega), Nat.add_zero]
    by_cases q : bt x j = true
    · rw [if_pos q, q, o 0 (by omega)]; simp
    · rw [if_neg q, b_0]; simpa using q
  · by_cases q : bt x j = true
    · rw [if_pos q, o i hi]; simp [e]
    · rw [if_neg q, b_0]; simp [e]
theorem js_bz (x : Int32) {j : Nat} (hj : j < 31) : ((x >>> (nI j &&& 31)) &&& 1) = 0 ↔ ¬ bt x j = true := by
  rw [js_bsh x hj]
  by_cases q : bt x j = true
  · rw [if_pos q]; exact ⟨fun h => absurd h (by decide), fun h => absurd q h⟩
  · rw [if_neg q]; exact ⟨fun _ => q, fun _ => rfl⟩
theorem js_b0 {x : Int32} : x = 0 ↔ ∀ i, i < 32 → ¬ bt x i = true := by
  constructor
  · intro h i _; rw [h, b_0]; simp
  · intro h
    refine b_ext fun i hi => ?_
    rw [b_0]
    simpa using h i hi
/-! arrays by facts -/
def js_Ar (n : Nat) (a : Nat → Int32) (H : Nat → Nat) : Prop := ∀ i, i < n → a i = nI (H i)
theorem js_Aru {n k v : Nat} {a : Nat → Int32} {H : Nat → Nat} (h : js_Ar n a H) : js_Ar n (upd a k (nI v)) (fun i => if i = k then v else H i) := by
  intro i hi
  unfold upd
  by_cases e : i = k
  · simp only [if_pos e]
  · simp only [if_neg e]; exact h i hi
theorem js_cl {x : Nat} (h : x < 8) : (nI x).toNatClampNeg = x := nI_clamp (by omega)
theorem js_rd {n x : Nat} {a : Nat → Int32} {H : Nat → Nat} (h : js_Ar n a H) (hn : n ≤ 8) (hx : x < n) : a (nI x).toNatClampNeg = nI (H x) := by
  rw [js_cl (by omega)]; exact h x hx
end
section
theorem xh_ge {f : Int32} {n i : Nat} (hc : f = nI n) (h : i < n) (hn : n ≤ 8) : ¬ f ≤ nI i := by rw [hc]; exact nI_ge h (by omega)
theorem xh_le {f : Int32} {n : Nat} (hc : f = nI n) : f ≤ nI n := by rw [hc]; exact Int32.le_refl _
theorem xh_in {x : Nat} (h : x < 8) : vp_in (nI x) 8 := vp_in_nI h (by omega)
section
variable {f_jobs f_machines f_count f_depth f_lower f_upper f_planned f_planSpan f_criticalSet f_clock f_nodeBound f_found f_bestSpan : Int32} {a_jobOf a_machineOf a_duration a_planStart a_heads a_tails a_rest a_best : Nat → Int32} {a_trail a_nodes : Nat → Int64}
theorem xw_prec {post : Int32 → Prop} {x y : Nat} {o : Int64} (hx : x < 8) (hy : y < 8) (h1 : js_bo o x y = true → post 1) (h0 : ¬ js_bo o x y = true → post 0) : wpX_precedes post (f_jobs, f_machines, f_count, f_depth, f_lower, f_upper, f_planned, f_planSpan, f_criticalSet, f_clock, f_nodeBound, f_found, f_bestSpan, a_jobOf, a_machineOf, a_duration, a_trail, a_planStart, a_heads, a_tails, a_rest, a_nodes, a_best) o (nI x) (nI y) := by
  unfold wpX_precedes
  exact br_c (fun h => h0 ((js_pz o hx hy).mp h)) (fun h => h1 (Classical.byContradiction fun q => h ((js_pz o hx hy).mpr q)))
theorem xw_link24 {post : Int64 → Prop} {n a b : Nat} {o x5 : Int64} (hc : f_count = nI n) (hn : n ≤ 8) (ha : a < n) (h5 : ∀ y, js_gb x5 y = js_af o b y)
    (K : ∀ l, js_LI o a b n l → post l) : ∀ d i l, i + d = n → js_LI o a b i l → wX_link_24 post o (nI a) x5 f_jobs f_machines f_count f_depth f_lower f_upper f_planned f_planSpan f_criticalSet f_clock f_nodeBound f_found f_bestSpan a_jobOf a_machineOf a_duration a_trail a_planStart a_heads a_tails a_rest a_nodes a_best (d + 1) l (nI i) := by
  intro d
  induction d with
  | zero =>
    intro i l hi I
    have e : i = n := by omega
    subst e
    exact br_t (xh_le hc) (K l I)
  | succ d ih =>
    intro i l hi I
    refine br_f (xh_ge hc (by omega) hn) ?_
    refine br_c (fun e => ?_) (fun e => ?_)
    · have e' : i = a := (nI_eq (by omega) (by omega)).mp e
      unfold wX_link_50
      exact nm_e (nm_r (nI_1 i) (ih (i + 1) _ (by omega) (js_LIy (by omega) h5 I (Or.inl e'))))
    · have e' : ¬ i = a := fun q => e (by rw [q])
      refine xw_prec (by omega) (by omega) (fun q => ?_) (fun q => ?_)
      · refine br_f (by decide) ?_
        unfold wX_link_50
        exact nm_e (nm_r (nI_1 i) (ih (i + 1) _ (by omega) (js_LIy (by omega) h5 I (Or.inr q))))
      · exact br_t rfl (nm_r (nI_1 i) (ih (i + 1) _ (by omega) (js_LIn I (fun z => z.elim e' q))))
theorem xw_link {post : Int64 → Prop} {n a b : Nat} {o : Int64} (hc : f_count = nI n) (hn : n ≤ 8) (ha : a < n) (hb : b < n) (hC : js_SO n (js_bo o))
    (K : ∀ r, js_bo r = js_LK (js_bo o) a b → post r) : wpX_link post (f_jobs, f_machines, f_count, f_depth, f_lower, f_upper, f_planned, f_planSpan, f_criticalSet, f_clock, f_nodeBound, f_found, f_bestSpan, a_jobOf, a_machineOf, a_duration, a_trail, a_planStart, a_heads, a_tails, a_rest, a_nodes, a_best) o (nI a) (nI b) := by
  unfold wpX_link
  refine nm_e ⟨n + 1, ?_⟩
  exact xw_link24 hc hn ha (fun y => js_afe o (show b < 8 by omega) y) (fun l I => K l (js_LIe hn ha hb hC I)) n 0 o (by omega) (js_LI0 o a b)
theorem xw_und {post : Int32 → Prop} {n a b : Nat} {M : Nat → Nat} {o : Int64} (hM : js_Ar n a_machineOf M) (hm : ∀ x, x < n → M x < 4) (hn : n ≤ 8) (ha : a < n) (hb : b < n)
    (h1 : a ≠ b → M a = M b → ¬ js_bo o a b = true → ¬ js_bo o b a = true → post 1) (h0 : (a = b ∨ M a ≠ M b ∨ js_bo o a b = true ∨ js_bo o b a = true) → post 0) : wpX_undecided post (f_jobs, f_machines, f_count, f_depth, f_lower, f_upper, f_planned, f_planSpan, f_criticalSet, f_clock, f_nodeBound, f_found, f_bestSpan, a_jobOf, a_machineOf, a_duration, a_trail, a_planStart, a_heads, a_tails, a_rest, a_nodes, a_best) o (nI a) (nI b) := by
  unfold wpX_undecided
  refine br_c (fun e => h0 (Or.inl ((nI_eq (by omega) (by omega)).mp e))) (fun e => ?_)
  have ne : a ≠ b := fun q => e (by rw [q])
  refine ⟨xh_in (by omega), xh_in (by omega), ?_⟩
  have ma := hm a ha
  have mb := hm b hb
  refine br_c (fun q => ?_) (fun q => ?_)
  · rw [js_rd hM hn ha, js_rd hM hn hb, nI_eq (by omega) (by omega)] at q
    refine xw_prec (by omega) (by omega) (fun p => br_f (by decide) (h0 (Or.inr (Or.inr (Or.inl p))))) (fun p => br_t rfl ?_)
    exact xw_prec (by omega) (by omega) (fun r => br_f (by decide) (h0 (Or.inr (Or.inr (Or.inr r))))) (fun r => br_t rfl (h1 ne q p r))
  · rw [js_rd hM hn ha, js_rd hM hn hb, nI_eq (by omega) (by omega)] at q
    exact h0 (Or.inr (Or.inl q))
end
end
section
def js_CX (n : Nat) (D : Nat → Nat) (C : Nat → Nat → Bool) (H T : Nat → Nat) : Prop :=
  n ≤ 8 ∧ (∀ x, x < n → 1 ≤ D x ∧ D x ≤ 20) ∧ js_SO n C ∧ js_HD n D C H ∧ js_HD n D (js_T C) T
theorem js_CXb {n : Nat} {D H T : Nat → Nat} {C : Nat → Nat → Bool} (c : js_CX n D C H T) : ∀ x, x < n → H x + D x + T x ≤ 160 := by
  intro x hx
  have a := js_HDb c.1 c.2.2.1 c.2.2.2.1 c.2.2.2.2 x hx
  have b := js_Ds c.1 (fun x hx => (c.2.1 x hx).2)
  omega
theorem js_GNr (C : Nat → Nat → Bool) : js_GN C C := ⟨fun _ _ h => h, fun x y h => ⟨x, h, Or.inl rfl⟩⟩
/-- one round, up to the arc (X, j) -/
def js_RL (n : Nat) (D : Nat → Nat) (R C : Nat → Nat → Bool) (H T : Nat → Nat) (k X j : Nat) (h t : Nat → Nat) : Prop :=
  js_RI n k D H R C (js_Pr X j) h ∧ js_RI n k D T (js_T R) (js_T C) (fun a b => js_Pr X j b a) t
def js_RM (D : Nat → Nat) (C : Nat → Nat → Bool) (X j : Nat) (mv : Int32) (h t : Nat → Nat) : Prop :=
  (mv = 0 ∧ js_MI D C (js_Pr X j) h ∧ js_MI D (js_T C) (fun a b => js_Pr X j b a) t) ∨ mv = 1
theorem js_RLb {n k X j : Nat} {D H T h t : Nat → Nat} {R C : Nat → Nat → Bool} (c : js_CX n D C H T) (I : js_RL n D R C H T k X j h t) : ∀ x, x < n → h x ≤ 160 ∧ t x ≤ 160 ∧ 1 ≤ D x ∧ D x ≤ 20 := by
  intro x hx
  have a := js_CXb c x hx
  have b := I.1.1 x hx
  have d := I.2.1 x hx
  have e := c.2.1 x hx
  omega
theorem js_RLa {n k X j : Nat} {D H T h t : Nat → Nat} {R C : Nat → Nat → Bool} (c : js_CX n D C H T) (hR : ∀ x y, R x y = true → C x y = true) (I : js_RL n D R C H T k X j h t) (q : R X j = true) : js_RL n D R C H T k X (j + 1) (js_rx D h X j) (js_rx D t j X) := by
  refine ⟨js_RIa c.2.2.1 hR c.2.2.2.1.1 js_Prs I.1 q, ?_⟩
  exact js_RIa (js_Ts c.2.2.1) (fun x y r => hR y x r) c.2.2.2.2.1 (fun a b p => (js_Prs b a p).imp id And.symm) I.2 q
theorem js_RLs {n k X j : Nat} {D H T h t : Nat → Nat} {R C : Nat → Nat → Bool} (I : js_RL n D R C H T k X j h t) (q : ¬ R X j = true) : js_RL n D R C H T k X (j + 1) h t := by
  refine ⟨js_RIs js_Prs I.1 q, ?_⟩
  exact js_RIs (fun a b p => (js_Prs b a p).imp id And.symm) I.2 q
theorem js_RLr {n k X : Nat} {D H T h t : Nat → Nat} {R C : Nat → Nat → Bool} (c : js_CX n D C H T) (hR : ∀ x y, R x y = true → C x y = true) (I : js_RL n D R C H T k X n h t) : js_RL n D R C H T k (X + 1) 0 h t := by
  refine ⟨js_RIw (fun a b r p => js_Prr (c.2.2.1.1 a b (hR a b r)).2 p) I.1, ?_⟩
  exact js_RIw (fun a b r p => js_Prr (c.2.2.1.1 b a (hR b a r)).2 p) I.2
theorem js_RLe {n k Y : Nat} {D H T h t : Nat → Nat} {R C : Nat → Nat → Bool} (c : js_CX n D C H T) (g : js_GN R C) (g' : js_GN (js_T R) (js_T C)) (I : js_RL n D R C H T k n Y h t) : js_RL n D R C H T (k + 1) 0 0 h t := by
  have hR := g.1
  have hD := fun x hx => (c.2.1 x hx).1
  have a := js_RIe c.2.2.1 hD g c.2.2.2.1 (fun a b r => js_Pre (c.2.2.1.1 a b (hR a b r)).1) I.1
  have b := js_RIe (js_Ts c.2.2.1) hD g' c.2.2.2.2 (fun a b r => js_Pre (c.2.2.1.1 b a (hR b a r)).1) I.2
  refine ⟨js_RIw (fun a b r p => ?_) a, js_RIw (fun a b r p => ?_) b⟩
  · unfold js_Pr at p; omega
  · unfold js_Pr at p; omega
theorem js_RL0 {n : Nat} {D H T h t : Nat → Nat} {R C : Nat → Nat → Bool} (h0 : ∀ y, y < n → h y = 0) (t0 : ∀ y, y < n → t y = 0) : js_RL n D R C H T 0 0 0 h t := by
  refine ⟨js_RIw (fun a b r p => ?_) (js_RI0 h0), js_RIw (fun a b r p => ?_) (js_RI0 t0)⟩
  · unfold js_Pr at p; omega
  · unfold js_Pr at p; omega
theorem js_RMa {X j : Nat} {D h t : Nat → Nat} {C : Nat → Nat → Bool} {mv : Int32} (I : js_RM D C X j mv h t) (q1 : h X + D X ≤ h j) (q2 : t j + D j ≤ t X) : js_RM D C X (j + 1) mv h t := by
  rcases I with ⟨e, a, b⟩ | e
  · refine Or.inl ⟨e, fun x y c p => ?_, fun x y c p => ?_⟩
    · rcases js_Prs x y p with p | ⟨p, p'⟩
      · exact a x y c p
      · rw [p, p']; exact q1
    · rcases js_Prs y x p with p | ⟨p, p'⟩
      · exact b x y c p
      · rw [p, p']; exact q2
  · exact Or.inr e
theorem js_RMs {X j : Nat} {D h t : Nat → Nat} {C : Nat → Nat → Bool} {mv : Int32} (I : js_RM D C X j mv h t) (q : ¬ C X j = true) : js_RM D C X (j + 1) mv h t := by
  rcases I with ⟨e, a, b⟩ | e
  · refine Or.inl ⟨e, fun x y c p => ?_, fun x y c p => ?_⟩
    · rcases js_Prs x y p with p | ⟨p, p'⟩
      · exact a x y c p
      · rw [p, p'] at c; exact absurd c q
    · rcases js_Prs y x p with p | ⟨p, p'⟩
      · exact b x y c p
      · have c' : C y x = true := c
        rw [p, p'] at c'; exact absurd c' q
  · exact Or.inr e
theorem js_RMr {n X : Nat} {D h t : Nat → Nat} {C : Nat → Nat → Bool} {mv : Int32} (hC : js_SO n C) (I : js_RM D C X n mv h t) : js_RM D C (X + 1) 0 mv h t := by
  rcases I with ⟨e, a, b⟩ | e
  · refine Or.inl ⟨e, fun x y c p => a x y c (js_Prr (hC.1 x y c).2 p), fun x y c p => b x y c (js_Prr (hC.1 y x c).2 p)⟩
  · exact Or.inr e
section
variable {f_jobs f_machines f_count f_depth f_lower f_upper f_planned f_planSpan f_criticalSet f_clock f_nodeBound f_found f_bestSpan : Int32} {a_jobOf a_machineOf a_duration a_planStart a_heads a_tails a_rest a_best : Nat → Int32} {a_trail a_nodes : Nat → Int64}
theorem xw_arc {post : Int32 → SX → Prop} {n x y : Nat} {D h t : Nat → Nat} (hD : js_Ar n a_duration D) (hH : js_Ar n a_heads h) (hT : js_Ar n a_tails t) (hn : n ≤ 8) (hx : x < n) (hy : y < n)
    (b : ∀ x, x < n → h x ≤ 160 ∧ t x ≤ 160 ∧ 1 ≤ D x ∧ D x ≤ 20)
    (K0 : h x + D x ≤ h y → t y + D y ≤ t x → post 0 (f_jobs, f_machines, f_count, f_depth, f_lower, f_upper, f_planned, f_planSpan, f_criticalSet, f_clock, f_nodeBound, f_found, f_bestSpan, a_jobOf, a_machineOf, a_duration, a_trail, a_planStart, a_heads, a_tails, a_rest, a_nodes, a_best))
    (K1 : ∀ ah at', js_Ar n ah (js_rx D h x y) → js_Ar n at' (js_rx D t y x) → post 1 (f_jobs, f_machines, f_count, f_depth, f_lower, f_upper, f_planned, f_planSpan, f_criticalSet, f_clock, f_nodeBound, f_found, f_bestSpan, a_jobOf, a_machineOf, a_duration, a_trail, a_planStart, ah, at', a_rest, a_nodes, a_best)) : wpX_relaxArc post (f_jobs, f_machines, f_count, f_depth, f_lower, f_upper, f_planned, f_planSpan, f_criticalSet, f_clock, f_nodeBound, f_found, f_bestSpan, a_jobOf, a_machineOf, a_duration, a_trail, a_planStart, a_heads, a_tails, a_rest, a_nodes, a_best) (nI x) (nI y) := by
  have ix := xh_in (show x < 8 by omega)
  have iy := xh_in (show y < 8 by omega)
  have bx := b x hx
  have by' := b y hy
  unfold wpX_relaxArc
  refine ⟨ix, ix, iy, ?_⟩
  refine br_c (fun q => ?_) (fun q => ?_)
  · rw [js_rd hH hn hx, js_rd hD hn hx, js_rd hH hn hy, nI_add, nI_leI (by omega) (by omega)] at q
    have eh := js_rxn (D := D) q
    unfold wX_relaxArc_45
    refine ⟨iy, iy, ix, ?_⟩
    refine br_c (fun r => ?_) (fun r => ?_)
    · rw [js_rd hT hn hy, js_rd hD hn hy, js_rd hT hn hx, nI_add, nI_leI (by omega) (by omega)] at r
      exact ⟨by rfl, K0 q (by omega)⟩
    · rw [js_rd hT hn hy, js_rd hD hn hy, js_rd hT hn hx, nI_add, nI_leI (by omega) (by omega)] at r
      have r' : ¬ t y + D y ≤ t x := by omega
      refine ⟨iy, iy, ix, nm_r (e' := upd a_tails x (nI (t y + D y))) (by rw [js_rd hT hn hy, js_rd hD hn hy, js_cl (by omega), nI_add, Nat.add_comm]) ?_⟩
      refine K1 _ _ (by rw [eh]; exact hH) ?_
      rw [js_rxp r']
      exact js_Aru hT
  · rw [js_rd hH hn hx, js_rd hD hn hx, js_rd hH hn hy, nI_add, nI_leI (by omega) (by omega)] at q
    have eh := js_rxp (D := D) q
    refine ⟨ix, ix, iy, nm_r (e' := upd a_heads y (nI (h x + D x))) (by rw [js_rd hH hn hx, js_rd hD hn hx, js_cl (by omega), nI_add]) ?_⟩
    have hH' : js_Ar n (upd a_heads y (nI (h x + D x))) (js_rx D h x y) := by rw [eh]; exact js_Aru hH
    unfold wX_relaxArc_45
    refine ⟨iy, iy, ix, ?_⟩
    refine br_c (fun r => ?_) (fun r => ?_)
    · rw [js_rd hT hn hy, js_rd hD hn hy, js_rd hT hn hx, nI_add, nI_leI (by omega) (by omega)] at r
      have et := js_rxn (D := D) (h := t) (x := y) (y := x) (by omega)
      exact ⟨by rfl, K1 _ _ hH' (by rw [et]; exact hT)⟩
    · rw [js_rd hT hn hy, js_rd hD hn hy, js_rd hT hn hx, nI_add, nI_leI (by omega) (by omega)] at r
      have r' : ¬ t y + D y ≤ t x := by omega
      refine ⟨iy, iy, ix, nm_r (e' := upd a_tails x (nI (t y + D y))) (by rw [js_rd hT hn hy, js_rd hD hn hy, js_cl (by omega), nI_add, Nat.add_comm]) ?_⟩
      refine K1 _ _ hH' ?_
      rw [js_rxp r']
      exact js_Aru hT
theorem xw_relax17 {post : Int32 → SX → Prop} {J5 : Int32 → Int32 → Int32 → Int32 → Int32 → Int32 → Int32 → Int32 → Int32 → Int32 → Int32 → Int32 → Int32 → Int32 → Int32 → (Nat → Int32) → (Nat → Int32) → (Nat → Int32) → (Nat → Int64) → (Nat → Int32) → (Nat → Int32) → (Nat → Int32) → (Nat → Int32) → (Nat → Int64) → (Nat → Int32) → Prop}
    {n k X : Nat} {D H T : Nat → Nat} {o : Int64} (c : js_CX n D (js_bo o) H T) (hc : f_count = nI n) (hD : js_Ar n a_duration D) (hX : X < n)
    (K : ∀ mv ah at' h t, js_Ar n ah h → js_Ar n at' t → js_RL n D (js_bo o) (js_bo o) H T k X n h t → js_RM D (js_bo o) X n mv h t → J5 mv (nI (X + 1)) f_jobs f_machines f_count f_depth f_lower f_upper f_planned f_planSpan f_criticalSet f_clock f_nodeBound f_found f_bestSpan a_jobOf a_machineOf a_duration a_trail a_planStart ah at' a_rest a_nodes a_best) :
    ∀ d j, j + d = n → ∀ mv ah at' h t, js_Ar n ah h → js_Ar n at' t → js_RL n D (js_bo o) (js_bo o) H T k X j h t → js_RM D (js_bo o) X j mv h t → wX_relax_17 post J5 o (nI X) (d + 1) mv (nI j) f_jobs f_machines f_count f_depth f_lower f_upper f_planned f_planSpan f_criticalSet f_clock f_nodeBound f_found f_bestSpan a_jobOf a_machineOf a_duration a_trail a_planStart ah at' a_rest a_nodes a_best := by
  have hn := c.1
  intro d
  induction d with
  | zero =>
    intro j hj mv ah at' h t hH hT I Im
    have e : j = n := by omega
    subst e
    exact br_t (xh_le hc) (nm_r (nI_1 X) (K mv ah at' h t hH hT I Im))
  | succ d ih =>
    intro j hj mv ah at' h t hH hT I Im
    refine br_f (xh_ge hc (by omega) hn) ?_
    refine xw_prec (by omega) (by omega) (fun q => br_f (by decide) ?_) (fun q => br_t rfl (nm_r (nI_1 j) (ih (j + 1) (by omega) mv ah at' h t hH hT (js_RLs I q) (js_RMs Im q))))
    refine xw_arc hD hH hT hn hX (by omega) (js_RLb c I) (fun q1 q2 => ?_) (fun ah' at'' hH' hT' => ?_)
    · refine br_t rfl (nm_r (nI_1 j) (ih (j + 1) (by omega) mv ah at' h t hH hT ?_ (js_RMa Im q1 q2)))
      have I' := js_RLa c (fun x y r => r) I q
      rw [js_rxn q1, js_rxn q2] at I'
      exact I'
    · exact br_f (by decide) (nm_r (nI_1 j) (ih (j + 1) (by omega) 1 ah' at'' _ _ hH' hT' (js_RLa c (fun x y r => r) I q) (Or.inr rfl)))
theorem xw_relax5 {post : Int32 → SX → Prop} {n k : Nat} {D H T : Nat → Nat} {o : Int64} (c : js_CX n D (js_bo o) H T) (hc : f_count = nI n) (hD : js_Ar n a_duration D)
    (K : ∀ mv ah at' h t, js_Ar n ah h → js_Ar n at' t → js_RL n D (js_bo o) (js_bo o) H T k n 0 h t → js_RM D (js_bo o) n 0 mv h t → post mv (f_jobs, f_machines, f_count, f_depth, f_lower, f_upper, f_planned, f_planSpan, f_criticalSet, f_clock, f_nodeBound, f_found, f_bestSpan, a_jobOf, a_machineOf, a_duration, a_trail, a_planStart, ah, at', a_rest, a_nodes, a_best)) :
    ∀ d X, X + d = n → ∀ mv ah at' h t, js_Ar n ah h → js_Ar n at' t → js_RL n D (js_bo o) (js_bo o) H T k X 0 h t → js_RM D (js_bo o) X 0 mv h t → wX_relax_5 post o (d + 1) mv (nI X) f_jobs f_machines f_count f_depth f_lower f_upper f_planned f_planSpan f_criticalSet f_clock f_nodeBound f_found f_bestSpan a_jobOf a_machineOf a_duration a_trail a_planStart ah at' a_rest a_nodes a_best := by
  have hn := c.1
  intro d
  induction d with
  | zero =>
    intro X hX mv ah at' h t hH hT I Im
    have e : X = n := by omega
    subst e
    refine br_t (xh_le hc) ⟨?_, K mv ah at' h t hH hT I Im⟩
    rcases Im with ⟨e, _⟩ | e <;> rw [e] <;> rfl
  | succ d ih =>
    intro X hX mv ah at' h t hH hT I Im
    refine br_f (xh_ge hc (by omega) hn) ⟨n + 1, ?_⟩
    exact xw_relax17 c hc hD (by omega) (fun mv ah at' h t hH hT I Im => ih (X + 1) (by omega) mv ah at' h t hH hT (js_RLr c (fun x y r => r) I) (js_RMr c.2.2.1 Im)) n 0 (by omega) mv ah at' h t hH hT I Im
theorem xw_relax {post : Int32 → SX → Prop} {n k : Nat} {D H T h t : Nat → Nat} {o : Int64} (c : js_CX n D (js_bo o) H T) (hc : f_count = nI n) (hD : js_Ar n a_duration D) (hH : js_Ar n a_heads h) (hT : js_Ar n a_tails t) (I : js_RL n D (js_bo o) (js_bo o) H T k 0 0 h t)
    (K : ∀ mv ah at' h t, js_Ar n ah h → js_Ar n at' t → js_RL n D (js_bo o) (js_bo o) H T (k + 1) 0 0 h t → ((mv = 0 ∧ ∀ x, x < n → h x = H x ∧ t x = T x) ∨ mv = 1) → post mv (f_jobs, f_machines, f_count, f_depth, f_lower, f_upper, f_planned, f_planSpan, f_criticalSet, f_clock, f_nodeBound, f_found, f_bestSpan, a_jobOf, a_machineOf, a_duration, a_trail, a_planStart, ah, at', a_rest, a_nodes, a_best)) : wpX_relax post (f_jobs, f_machines, f_count, f_depth, f_lower, f_upper, f_planned, f_planSpan, f_criticalSet, f_clock, f_nodeBound, f_found, f_bestSpan, a_jobOf, a_machineOf, a_duration, a_trail, a_planStart, a_heads, a_tails, a_rest, a_nodes, a_best) o := by
  unfold wpX_relax
  refine ⟨n + 1, xw_relax5 c hc hD (fun mv ah at' h t hH hT I Im => K mv ah at' h t hH hT (js_RLe c (js_GNr _) (js_GNr _) I) ?_) n 0 (by omega) 0 a_heads a_tails h t hH hT I (Or.inl ⟨rfl, fun x y _ p => ?_, fun x y _ p => ?_⟩)⟩
  · rcases Im with ⟨e, a, b⟩ | e
    · refine Or.inl ⟨e, fun x hx => ⟨?_, ?_⟩⟩
      · exact js_RIm c.2.2.2.1 I.1 (fun x y q => a x y q (js_Pre (c.2.2.1.1 x y q).1)) x hx
      · exact js_RIm c.2.2.2.2 I.2 (fun x y q => b x y q (js_Pre (c.2.2.1.1 y x q).1)) x hx
    · exact Or.inr e
  · unfold js_Pr at p; omega
  · unfold js_Pr at p; omega
theorem xw_eval35 {post : SX → Prop} {n : Nat} {D H T : Nat → Nat} {o : Int64} (c : js_CX n D (js_bo o) H T) (hc : f_count = nI n) (hD : js_Ar n a_duration D)
    (K : ∀ ah at', js_Ar n ah H → js_Ar n at' T → post (f_jobs, f_machines, f_count, f_depth, f_lower, f_upper, f_planned, f_planSpan, f_criticalSet, f_clock, f_nodeBound, f_found, f_bestSpan, a_jobOf, a_machineOf, a_duration, a_trail, a_planStart, ah, at', a_rest, a_nodes, a_best)) :
    ∀ d k, k + d = 8 → ∀ mv ah at' h t, js_Ar n ah h → js_Ar n at' t → js_RL n D (js_bo o) (js_bo o) H T k 0 0 h t → ((mv = 0 ∧ ∀ x, x < n → h x = H x ∧ t x = T x) ∨ mv = 1) → wX_evaluate_35 post o (d + 1) mv (nI k) f_jobs f_machines f_count f_depth f_lower f_upper f_planned f_planSpan f_criticalSet f_clock f_nodeBound f_found f_bestSpan a_jobOf a_machineOf a_duration a_trail a_planStart ah at' a_rest a_nodes a_best := by
  have hn := c.1
  intro d
  induction d with
  | zero =>
    intro k hk mv ah at' h t hH hT I Im
    have e : k = 8 := by omega
    subst e
    refine br_t (by decide) (K ah at' (fun i hi => ?_) (fun i hi => ?_))
    · rw [hH i hi, js_RIf c.2.2.1 hn I.1 i hi]
    · rw [hT i hi, js_RIf (js_Ts c.2.2.1) hn I.2 i hi]
  | succ d ih =>
    intro k hk mv ah at' h t hH hT I Im
    refine br_f (nI_ge (b := 8) (by omega) (by decide)) ?_
    rcases Im with ⟨e, a⟩ | e
    · refine br_t e (K ah at' (fun i hi => ?_) (fun i hi => ?_))
      · rw [hH i hi, (a i hi).1]
      · rw [hT i hi, (a i hi).2]
    · refine br_f (by rw [e]; decide) ?_
      exact xw_relax c hc hD hH hT I (fun mv ah at' h t hH hT I Im => nm_r (nI_1 k) (ih (k + 1) (by omega) mv ah at' h t hH hT I Im))
theorem xw_eval2 {post : SX → Prop} {n : Nat} {D H T : Nat → Nat} {o : Int64} (c : js_CX n D (js_bo o) H T) (hc : f_count = nI n) (hD : js_Ar n a_duration D)
    (K : ∀ ah at', js_Ar n ah H → js_Ar n at' T → post (f_jobs, f_machines, f_count, f_depth, f_lower, f_upper, f_planned, f_planSpan, f_criticalSet, f_clock, f_nodeBound, f_found, f_bestSpan, a_jobOf, a_machineOf, a_duration, a_trail, a_planStart, ah, at', a_rest, a_nodes, a_best)) :
    ∀ d i, i + d = n → ∀ ah at', (∀ j, j < i → ah j = 0 ∧ at' j = 0) → wX_evaluate_2 post o f_jobs f_machines f_count f_depth f_lower f_upper f_planned f_planSpan f_criticalSet f_clock f_nodeBound f_found f_bestSpan (d + 1) (nI i) a_jobOf a_machineOf a_duration a_trail a_planStart ah at' a_rest a_nodes a_best := by
  have hn := c.1
  intro d
  induction d with
  | zero =>
    intro i hi ah at' z
    have e : i = n := by omega
    subst e
    refine br_t (xh_le hc) ⟨9, ?_⟩
    exact xw_eval35 c hc hD K 8 0 (by omega) 1 ah at' (fun _ => 0) (fun _ => 0) (fun j hj => (z j hj).1) (fun j hj => (z j hj).2) (js_RL0 (fun _ _ => rfl) (fun _ _ => rfl)) (Or.inr rfl)
  | succ d ih =>
    intro i hi ah at' z
    have ii := xh_in (show i < 8 by omega)
    refine br_f (xh_ge hc (by omega) hn) ⟨ii, nm_r (by rw [js_cl (by omega)]) ⟨ii, nm_r (by rw [js_cl (by omega)]) (nm_r (nI_1 i) (ih (i + 1) (by omega) (upd ah i 0) (upd at' i 0) (fun j hj => ?_)))⟩⟩
    by_cases e : j = i
    · rw [e, pk_us, pk_us]; exact ⟨rfl, rfl⟩
    · rw [pk_un e, pk_un e]; exact z j (by omega)
theorem xw_eval {post : SX → Prop} {n : Nat} {D H T : Nat → Nat} {o : Int64} (c : js_CX n D (js_bo o) H T) (hc : f_count = nI n) (hD : js_Ar n a_duration D)
    (K : ∀ ah at', js_Ar n ah H → js_Ar n at' T → post (f_jobs, f_machines, f_count, f_depth, f_lower, f_upper, f_planned, f_planSpan, f_criticalSet, f_clock, f_nodeBound, f_found, f_bestSpan, a_jobOf, a_machineOf, a_duration, a_trail, a_planStart, ah, at', a_rest, a_nodes, a_best)) : wpX_evaluate post (f_jobs, f_machines, f_count, f_depth, f_lower, f_upper, f_planned, f_planSpan, f_criticalSet, f_clock, f_nodeBound, f_found, f_bestSpan, a_jobOf, a_machineOf, a_duration, a_trail, a_planStart, a_heads, a_tails, a_rest, a_nodes, a_best) o := by
  unfold wpX_evaluate
  exact ⟨n + 1, xw_eval2 c hc hD K n 0 (by omega) a_heads a_tails (fun j hj => by omega)⟩
end
end
section
theorem js_BUm {n m v w : Nat} {M D H T : Nat → Nat} (h : js_BU n M D H T m v) (l : v ≤ w) : js_BU n M D H T m w := fun S a b c d => Nat.le_trans (h S a b c d) l
theorem xh_btc (x : Int32) {a : Nat} (ha : a < 8) : bt (x &&& (((1 : Int32) <<< (nI a &&& 31)) ^^^ (-1))) = fun i => bt x i && !decide (i = a) := by
  funext i
  rcases Nat.lt_or_ge i 32 with l | l
  · rw [js_bc (by omega) l]
  · rw [b_big l, b_big l]; rfl
section
variable {f_jobs f_machines f_count f_depth f_lower f_upper f_planned f_planSpan f_criticalSet f_clock f_nodeBound f_found f_bestSpan : Int32} {a_jobOf a_machineOf a_duration a_planStart a_heads a_tails a_rest a_best : Nat → Int32} {a_trail a_nodes : Nat → Int64}
theorem xw_rel6 {post : Int32 → Prop} {n t : Nat} {H : Nat → Nat} {x1 : Int32} (hc : f_count = nI n) (hn : n ≤ 8) (hH : js_Ar n a_heads H) (bH : ∀ x, x < n → H x ≤ 160) (bt' : t ≤ 2000)
    (K : ∀ rel, rel ≤ 1000000 → t < rel → (∀ x, x < n → bt x1 x = true → t < H x → rel ≤ H x) → (rel = 1000000 ∨ ∃ x, x < n ∧ bt x1 x = true ∧ H x = rel) → post (nI rel)) :
    ∀ d i, i + d = n → ∀ rel, rel ≤ 1000000 → t < rel → (∀ x, x < i → bt x1 x = true → t < H x → rel ≤ H x) → (rel = 1000000 ∨ ∃ x, x < n ∧ bt x1 x = true ∧ H x = rel) → wX_nextRelease_6 post x1 (nI t) f_jobs f_machines f_count f_depth f_lower f_upper f_planned f_planSpan f_criticalSet f_clock f_nodeBound f_found f_bestSpan a_jobOf a_machineOf a_duration a_trail a_planStart a_heads a_tails a_rest a_nodes a_best (d + 1) (nI rel) (nI i) := by
  intro d
  induction d with
  | zero =>
    intro i hi rel h1 h2 h3 h4
    have e : i = n := by omega
    subst e
    exact br_t (xh_le hc) (K rel h1 h2 h3 h4)
  | succ d ih =>
    intro i hi rel h1 h2 h3 h4
    have ii := xh_in (show i < 8 by omega)
    have bi := bH i (by omega)
    refine br_f (xh_ge hc (by omega) hn) ?_
    refine br_c (fun q => ?_) (fun q => ?_)
    · have q' := (js_bz x1 (by omega)).mp q
      exact nm_r (nI_1 i) (ih (i + 1) (by omega) rel h1 h2 (lt_s h3 (fun z => absurd z q')) h4)
    · have q' : bt x1 i = true := Classical.byContradiction fun z => q ((js_bz x1 (by omega)).mpr z)
      refine ⟨ii, br_c (fun r => ?_) (fun r => ?_)⟩
      · rw [js_rd hH hn (by omega), nI_leI (by omega) (by omega)] at r
        exact nm_r (nI_1 i) (ih (i + 1) (by omega) rel h1 h2 (lt_s h3 (fun _ z => by omega)) h4)
      · rw [js_rd hH hn (by omega), nI_leI (by omega) (by omega)] at r
        refine ⟨ii, br_c (fun s => ?_) (fun s => ?_)⟩
        · rw [js_rd hH hn (by omega), nI_leI (by omega) (by omega)] at s
          exact nm_r (nI_1 i) (ih (i + 1) (by omega) rel h1 h2 (lt_s h3 (fun _ z => s)) h4)
        · rw [js_rd hH hn (by omega), nI_leI (by omega) (by omega)] at s
          refine ⟨ii, nm_r (js_rd hH hn (by omega)) (nm_r (nI_1 i) (ih (i + 1) (by omega) (H i) (by omega) (by omega) (lt_s (fun x hx y z => ?_) (fun _ _ => Nat.le_refl _)) (Or.inr ⟨i, by omega, q', rfl⟩)))⟩
          have := h3 x hx y z
          omega
theorem xw_rel {post : Int32 → Prop} {n t : Nat} {H : Nat → Nat} {x1 : Int32} (hc : f_count = nI n) (hn : n ≤ 8) (hH : js_Ar n a_heads H) (bH : ∀ x, x < n → H x ≤ 160) (bt' : t ≤ 2000)
    (K : ∀ rel, rel ≤ 1000000 → t < rel → (∀ x, x < n → bt x1 x = true → t < H x → rel ≤ H x) → (rel = 1000000 ∨ ∃ x, x < n ∧ bt x1 x = true ∧ H x = rel) → post (nI rel)) : wpX_nextRelease post (f_jobs, f_machines, f_count, f_depth, f_lower, f_upper, f_planned, f_planSpan, f_criticalSet, f_clock, f_nodeBound, f_found, f_bestSpan, a_jobOf, a_machineOf, a_duration, a_trail, a_planStart, a_heads, a_tails, a_rest, a_nodes, a_best) x1 (nI t) := by
  unfold wpX_nextRelease
  exact ⟨n + 1, xw_rel6 hc hn hH bH bt' K n 0 (by omega) 1000000 (by omega) (by omega) (fun x hx => by omega) (Or.inl rfl)⟩
theorem xw_urg5 {post : Int32 → Prop} {n t : Nat} {H T : Nat → Nat} {x1 : Int32} (hc : f_count = nI n) (hn : n ≤ 8) (hH : js_Ar n a_heads H) (hT : js_Ar n a_tails T) (bH : ∀ x, x < n → H x ≤ 160 ∧ T x ≤ 160) (bt' : t ≤ 2000)
    (K0 : (∀ x, x < n → bt x1 x = true → t < H x) → post (-1)) (K1 : ∀ c, c < n → bt x1 c = true → H c ≤ t → (∀ x, x < n → bt x1 x = true → H x ≤ t → T x ≤ T c) → post (nI c)) :
    ∀ d i, i + d = n → ∀ x3, ((x3 = -1 ∧ ∀ x, x < i → bt x1 x = true → t < H x) ∨ ∃ c, c < n ∧ x3 = nI c ∧ bt x1 c = true ∧ H c ≤ t ∧ ∀ x, x < i → bt x1 x = true → H x ≤ t → T x ≤ T c) → wX_mostUrgent_5 post x1 (nI t) f_jobs f_machines f_count f_depth f_lower f_upper f_planned f_planSpan f_criticalSet f_clock f_nodeBound f_found f_bestSpan a_jobOf a_machineOf a_duration a_trail a_planStart a_heads a_tails a_rest a_nodes a_best (d + 1) x3 (nI i) := by
  intro d
  induction d with
  | zero =>
    intro i hi x3 h
    have e : i = n := by omega
    subst e
    refine br_t (xh_le hc) ?_
    rcases h with ⟨e, h⟩ | ⟨c, h1, e, h2, h3, h4⟩
    · rw [e]; exact K0 h
    · rw [e]; exact K1 c h1 h2 h3 h4
  | succ d ih =>
    intro i hi x3 h
    have ii := xh_in (show i < 8 by omega)
    have bi := bH i (by omega)
    refine br_f (xh_ge hc (by omega) hn) ?_
    refine br_c (fun q => ?_) (fun q => ?_)
    · have q' := (js_bz x1 (by omega)).mp q
      refine nm_r (nI_1 i) (ih (i + 1) (by omega) x3 ?_)
      rcases h with ⟨e, h⟩ | ⟨c, h1, e, h2, h3, h4⟩
      · exact Or.inl ⟨e, lt_s h (fun z => absurd z q')⟩
      · exact Or.inr ⟨c, h1, e, h2, h3, lt_s h4 (fun z => absurd z q')⟩
    · have q' : bt x1 i = true := Classical.byContradiction fun z => q ((js_bz x1 (by omega)).mpr z)
      refine ⟨ii, br_c (fun r => ?_) (fun r => ?_)⟩
      · rw [js_rd hH hn (by omega), nI_ltI (by omega) (by omega)] at r
        refine nm_r (nI_1 i) (ih (i + 1) (by omega) x3 ?_)
        rcases h with ⟨e, h⟩ | ⟨c, h1, e, h2, h3, h4⟩
        · exact Or.inl ⟨e, lt_s h (fun _ => r)⟩
        · exact Or.inr ⟨c, h1, e, h2, h3, lt_s h4 (fun _ z => by omega)⟩
      · rw [js_rd hH hn (by omega), nI_ltI (by omega) (by omega)] at r
        rcases h with ⟨e, h⟩ | ⟨c, h1, e, h2, h3, h4⟩
        · refine br_t (by rw [e]; decide) (nm_r (nI_1 i) (ih (i + 1) (by omega) (nI i) (Or.inr ⟨i, by omega, rfl, q', by omega, lt_s (fun x hx y z => ?_) (fun _ _ => Nat.le_refl _)⟩)))
          have := h x hx y
          omega
        · have bc := bH c h1
          refine br_f (by rw [e]; exact nI_pos (by omega)) ⟨ii, by rw [e]; exact xh_in (by omega), ?_⟩
          rw [e]
          refine br_c (fun s => ?_) (fun s => ?_)
          · rw [js_rd hT hn (by omega), js_rd hT hn h1, nI_leI (by omega) (by omega)] at s
            exact nm_r (nI_1 i) (ih (i + 1) (by omega) (nI c) (Or.inr ⟨c, h1, rfl, h2, h3, lt_s h4 (fun _ _ => s)⟩))
          · rw [js_rd hT hn (by omega), js_rd hT hn h1, nI_leI (by omega) (by omega)] at s
            refine nm_r (nI_1 i) (ih (i + 1) (by omega) (nI i) (Or.inr ⟨i, by omega, rfl, q', by omega, lt_s (fun x hx y z => ?_) (fun _ _ => Nat.le_refl _)⟩))
            have := h4 x hx y z
            omega
theorem xw_urg {post : Int32 → Prop} {n t : Nat} {H T : Nat → Nat} {x1 : Int32} (hc : f_count = nI n) (hn : n ≤ 8) (hH : js_Ar n a_heads H) (hT : js_Ar n a_tails T) (bH : ∀ x, x < n → H x ≤ 160 ∧ T x ≤ 160) (bt' : t ≤ 2000)
    (K0 : (∀ x, x < n → bt x1 x = true → t < H x) → post (-1)) (K1 : ∀ c, c < n → bt x1 c = true → H c ≤ t → (∀ x, x < n → bt x1 x = true → H x ≤ t → T x ≤ T c) → post (nI c)) : wpX_mostUrgent post (f_jobs, f_machines, f_count, f_depth, f_lower, f_upper, f_planned, f_planSpan, f_criticalSet, f_clock, f_nodeBound, f_found, f_bestSpan, a_jobOf, a_machineOf, a_duration, a_trail, a_planStart, a_heads, a_tails, a_rest, a_nodes, a_best) x1 (nI t) := by
  unfold wpX_mostUrgent
  exact ⟨n + 1, xw_urg5 hc hn hH hT bH bt' K0 K1 n 0 (by omega) (-1) (Or.inl ⟨rfl, fun x hx => by omega⟩)⟩
theorem xw_j120 {post : Int32 → SX → Prop} {J54 : Int32 → Int32 → Int32 → Int32 → (Nat → Int32) → (Nat → Int32) → (Nat → Int32) → (Nat → Int64) → (Nat → Int32) → (Nat → Int32) → (Nat → Int32) → (Nat → Int32) → (Nat → Int64) → (Nat → Int32) → Prop}
    {n a w t L k : Nat} {r T : Nat → Nat} {x2 : Int32} (hn : n ≤ 8) (ha : a < n) (hr : a_rest a = nI (r a)) (hT : js_Ar n a_tails T) (br : r a ≤ 20) (bT : T a ≤ 160) (bt' : t ≤ 2000) (bL : L ≤ 3000) (hw : w ≤ r a)
    (K0 : w ≠ r a → J54 x2 (nI (t + w)) (nI L) (nI (k + 1)) a_jobOf a_machineOf a_duration a_trail a_planStart a_heads a_tails (upd a_rest a (nI (r a - w))) a_nodes a_best)
    (K1 : w = r a → J54 (x2 &&& (((1 : Int32) <<< (nI a &&& 31)) ^^^ (-1))) (nI (t + w)) (nI (if t + w + T a ≤ L then L else t + w + T a)) (nI (k + 1)) a_jobOf a_machineOf a_duration a_trail a_planStart a_heads a_tails (upd a_rest a (nI (r a - w))) a_nodes a_best) :
    wX_jackson_120 post J54 x2 (nI t) (nI L) (nI k) (nI a) (nI w) f_jobs f_machines f_count f_depth f_lower f_upper f_planned f_planSpan f_criticalSet f_clock f_nodeBound f_found f_bestSpan a_jobOf a_machineOf a_duration a_trail a_planStart a_heads a_tails a_rest a_nodes a_best := by
  have ia := xh_in (show a < 8 by omega)
  unfold wX_jackson_120
  refine nm_r (nI_add t w) ⟨ia, ia, nm_r (e' := upd a_rest a (nI (r a - w))) (by rw [js_cl (by omega), hr, pk_sub hw]) ⟨ia, ?_⟩⟩
  rw [js_cl (by omega), pk_us]
  refine br_c (fun q => ?_) (fun q => ?_)
  · have q' : r a - w = 0 := (nI_eq (by omega) (by omega)).mp q
    refine nm_e ⟨ia, br_c (fun s => ?_) (fun s => ?_)⟩
    · rw [hT a ha, nI_add, nI_leI (by omega) (by omega)] at s
      have K := K1 (by omega)
      rw [if_pos s] at K
      exact nm_r (nI_1 k) K
    · rw [hT a ha, nI_add, nI_leI (by omega) (by omega)] at s
      have K := K1 (by omega)
      rw [if_neg s] at K
      exact ⟨ia, nm_r (e' := nI (t + w + T a)) (by rw [hT a ha, nI_add]) (nm_r (nI_1 k) K)⟩
  · have q' : w ≠ r a := fun z => q (by rw [z, Nat.sub_self]; rfl)
    exact nm_r (nI_1 k) (K0 q')
theorem xw_j54 {post : Int32 → SX → Prop} {n m : Nat} {M D H T : Nat → Nat} {C : Nat → Nat → Bool} (c : js_CX n D C H T) (hc : f_count = nI n) (hH : js_Ar n a_heads H) (hT : js_Ar n a_tails T)
    (K : ∀ ar v, v ≤ 3000 → js_BD n M D H T m v → post (nI v) (f_jobs, f_machines, f_count, f_depth, f_lower, f_upper, f_planned, f_planSpan, f_criticalSet, f_clock, f_nodeBound, f_found, f_bestSpan, a_jobOf, a_machineOf, a_duration, a_trail, a_planStart, a_heads, a_tails, ar, a_nodes, a_best)) :
    ∀ d k, k + d = 16 → ∀ x2 ar r t L, (∀ x, x < n → M x = m → ar x = nI (r x)) → js_JI n m M D H T (bt x2) r t L → k + js_mu n H (bt x2) t ≤ 16 → t ≤ 160 + 20 * k → L ≤ t + 160 → wX_jackson_54 post f_jobs f_machines f_count f_depth f_lower f_upper f_planned f_planSpan f_criticalSet f_clock f_nodeBound f_found f_bestSpan (d + 1) x2 (nI t) (nI L) (nI k) a_jobOf a_machineOf a_duration a_trail a_planStart a_heads a_tails ar a_nodes a_best := by
  have hn := c.1
  have b3 := js_CXb c
  have bHT : ∀ x, x < n → H x ≤ 160 ∧ T x ≤ 160 := fun x hx => by have := b3 x hx; omega
  intro d
  induction d with
  | zero =>
    intro k hk x2 ar r t L hr I mu ht hL
    have e : k = 16 := by omega
    subst e
    exact br_t (by decide) (K ar L (by omega) (js_JIe I (js_mu0 (t := t) (H := H) (fun x p => (I.1 x p).1) (by omega))))
  | succ d ih =>
    intro k hk x2 ar r t L hr I mu ht hL
    refine br_f (nI_ge (b := 16) (by omega) (by decide)) ?_
    refine br_c (fun q => K ar L (by omega) (js_JIe I fun x p => js_b0.mp q x (by have := (I.1 x p).1; omega) p)) (fun q => ?_)
    have ex : ∃ x, bt x2 x = true := Classical.byContradiction fun no => q (js_b0.mpr fun i _ p => no ⟨i, p⟩)
    refine xw_rel hc hn hH (fun x hx => (bHT x hx).1) (by omega) (fun rel r1 r2 r3 r4 => ?_)
    refine xw_urg hc hn hH hT bHT (by omega) (fun no => br_f (by decide) ?_) (fun a ha pa la mx => br_t (nI_pos' (by omega)) ?_)
    · obtain ⟨x0, p0⟩ := ex
      have l0 := (I.1 x0 p0).1
      have h0 := no x0 l0 p0
      have e0 := r3 x0 l0 p0 h0
      have b0 := bHT x0 l0
      have I' := js_JIi I (Nat.le_of_lt r2) (fun x p => r3 x (I.1 x p).1 p (no x (I.1 x p).1 p))
      refine nm_r (nI_1 k) (ih (k + 1) (by omega) x2 ar r rel L hr I' ?_ (by omega) (by omega))
      rcases r4 with z | ⟨x, hx, px, ex⟩
      · omega
      · have := js_mut (p := bt x2) (p' := bt x2) (t := t) (t' := rel) (H := H) hx (fun y z => z) (by omega) px (Or.inl ⟨by omega, by omega⟩)
        omega
    · have ia := xh_in (show a < 8 by omega)
      have ma := (I.1 a pa).2
      have ra := (I.2.1 a ha ma).1 pa
      have Da := c.2.1 a ha
      have ba := bHT a ha
      have hra := hr a ha ma
      have rest' : ∀ w x, x < n → M x = m → upd ar a (nI (r a - w)) x = nI ((fun x => if x = a then r a - w else r x) x) := by
        intro w x hx e
        by_cases z : x = a
        · rw [z, pk_us]; simp only [if_true, if_pos rfl]
        · rw [pk_un z]; simp only [if_neg z]; exact hr x hx e
      have fin : ∀ w, w ≤ r a → t + w ≤ rel → (w ≠ r a → rel ≤ t + w) → wX_jackson_120 post (wX_jackson_54 post f_jobs f_machines f_count f_depth f_lower f_upper f_planned f_planSpan f_criticalSet f_clock f_nodeBound f_found f_bestSpan (d + 1)) x2 (nI t) (nI L) (nI k) (nI a) (nI w) f_jobs f_machines f_count f_depth f_lower f_upper f_planned f_planSpan f_criticalSet f_clock f_nodeBound f_found f_bestSpan a_jobOf a_machineOf a_duration a_trail a_planStart a_heads a_tails ar a_nodes a_best := by
        intro w hw hwr hx
        have st := js_JIr I pa la (fun x p l => mx x (I.1 x p).1 p l) (fun x p l => r3 x (I.1 x p).1 p l) hw hwr
        refine xw_j120 (r := r) hn ha hra hT (by omega) (by omega) (by omega) (by omega) hw (fun ne => ?_) (fun eq => ?_)
        · refine ih (k + 1) (by omega) x2 _ _ (t + w) L (rest' w) (st.1 ne) ?_ (by omega) (by omega)
          rcases r4 with z | ⟨x, hx', px, ex⟩
          · have := hx ne; omega
          · have := js_mut (p := bt x2) (p' := bt x2) (t := t) (t' := t + w) (H := H) hx' (fun y z => z) (by omega) px (Or.inl ⟨by omega, by have := hx ne; omega⟩)
            omega
        · have st' := st.2 eq
          rw [← xh_btc x2 (show a < 8 by omega)] at st'
          refine ih (k + 1) (by omega) _ _ _ (t + w) _ (rest' w) st' ?_ (by omega) (by split <;> omega)
          have e2 := xh_btc x2 (show a < 8 by omega)
          have := js_mut (p := bt x2) (p' := bt (x2 &&& (((1 : Int32) <<< (nI a &&& 31)) ^^^ (-1)))) (t := t) (t' := t + w) (H := H) ha (fun y z => by rw [e2] at z; simp at z; exact z.1) (by omega) pa (Or.inr (by rw [e2]; simp))
          omega
      refine ⟨ia, ?_⟩
      rw [js_cl (show a < 8 by omega), hra, pk_sub (Nat.le_of_lt r2)]
      refine br_c (fun s => ?_) (fun s => ?_)
      · rw [nI_leI (by omega) (by omega)] at s
        exact fin (rel - t) s (by omega) (fun _ => by omega)
      · rw [nI_leI (by omega) (by omega)] at s
        exact ⟨ia, fin (r a) (Nat.le_refl _) (by omega) (fun z => absurd rfl z)⟩
theorem xw_j4 {post : Int32 → SX → Prop} {n m : Nat} {M D H T : Nat → Nat} {C : Nat → Nat → Bool} (c : js_CX n D C H T) (hc : f_count = nI n) (hM : js_Ar n a_machineOf M) (hm : ∀ x, x < n → M x < 4) (m4 : m < 4) (hD : js_Ar n a_duration D) (hH : js_Ar n a_heads H) (hT : js_Ar n a_tails T)
    (K : ∀ ar v, v ≤ 3000 → js_BD n M D H T m v → post (nI v) (f_jobs, f_machines, f_count, f_depth, f_lower, f_upper, f_planned, f_planSpan, f_criticalSet, f_clock, f_nodeBound, f_found, f_bestSpan, a_jobOf, a_machineOf, a_duration, a_trail, a_planStart, a_heads, a_tails, ar, a_nodes, a_best)) :
    ∀ d i, i + d = n → ∀ x2 ar, (∀ x, bt x2 x = true ↔ x < i ∧ M x = m) → (∀ x, x < i → M x = m → ar x = nI (D x)) → wX_jackson_4 post (nI m) f_jobs f_machines f_count f_depth f_lower f_upper f_planned f_planSpan f_criticalSet f_clock f_nodeBound f_found f_bestSpan (d + 1) x2 (nI i) a_jobOf a_machineOf a_duration a_trail a_planStart a_heads a_tails ar a_nodes a_best := by
  have hn := c.1
  intro d
  induction d with
  | zero =>
    intro i hi x2 ar h1 h2
    have e : i = n := by omega
    subst e
    refine br_t (xh_le hc) ⟨17, xw_j54 c hc hH hT K 16 0 (by omega) x2 ar D 0 0 h2 (js_JI0 (fun x hx => (c.2.1 x hx).1) h1 (fun x _ _ => rfl)) ?_ (by omega) (by omega)⟩
    have := js_mule (n := i) (t := 0) (H := H) (p := bt x2)
    omega
  | succ d ih =>
    intro i hi x2 ar h1 h2
    have ii := xh_in (show i < 8 by omega)
    have mi := hm i (by omega)
    refine br_f (xh_ge hc (by omega) hn) ⟨ii, ?_⟩
    refine br_c (fun q => ?_) (fun q => ?_)
    · rw [js_rd hM hn (by omega), nI_eq (by omega) (by omega)] at q
      refine nm_e ⟨ii, ii, nm_r (e' := upd ar i (nI (D i))) (by rw [js_rd hD hn (by omega), js_cl (by omega)]) (nm_r (nI_1 i) (ih (i + 1) (by omega) _ _ (fun x => ?_) (fun x hx e => ?_)))⟩
      · rcases Nat.lt_or_ge x 32 with l | l
        · rw [js_bs (by omega) l, Bool.or_eq_true, h1, decide_eq_true_eq]
          constructor
          · rintro (⟨z, w⟩ | z)
            · exact ⟨by omega, w⟩
            · rw [z]; exact ⟨by omega, q⟩
          · rintro ⟨z, w⟩
            by_cases z' : x = i
            · exact Or.inr z'
            · exact Or.inl ⟨by omega, w⟩
        · rw [b_big l]
          constructor
          · intro z; exact absurd z (by decide)
          · rintro ⟨z, w⟩; omega
      · by_cases z : x = i
        · rw [z, pk_us]
        · rw [pk_un z]; exact h2 x (by omega) e
    · rw [js_rd hM hn (by omega), nI_eq (by omega) (by omega)] at q
      refine nm_r (nI_1 i) (ih (i + 1) (by omega) x2 ar (fun x => ?_) (fun x hx e => ?_))
      · rw [h1]
        constructor
        · rintro ⟨z, w⟩; exact ⟨by omega, w⟩
        · rintro ⟨z, w⟩
          have : x ≠ i := fun e => q (by rw [← e]; exact w)
          exact ⟨by omega, w⟩
      · have : x ≠ i := fun z => q (by rw [← z]; exact e)
        exact h2 x (by omega) e
theorem xw_jack {post : Int32 → SX → Prop} {n m : Nat} {M D H T : Nat → Nat} {C : Nat → Nat → Bool} (c : js_CX n D C H T) (hc : f_count = nI n) (hM : js_Ar n a_machineOf M) (hm : ∀ x, x < n → M x < 4) (m4 : m < 4) (hD : js_Ar n a_duration D) (hH : js_Ar n a_heads H) (hT : js_Ar n a_tails T)
    (K : ∀ ar v, v ≤ 3000 → js_BD n M D H T m v → post (nI v) (f_jobs, f_machines, f_count, f_depth, f_lower, f_upper, f_planned, f_planSpan, f_criticalSet, f_clock, f_nodeBound, f_found, f_bestSpan, a_jobOf, a_machineOf, a_duration, a_trail, a_planStart, a_heads, a_tails, ar, a_nodes, a_best)) : wpX_jackson post (f_jobs, f_machines, f_count, f_depth, f_lower, f_upper, f_planned, f_planSpan, f_criticalSet, f_clock, f_nodeBound, f_found, f_bestSpan, a_jobOf, a_machineOf, a_duration, a_trail, a_planStart, a_heads, a_tails, a_rest, a_nodes, a_best) (nI m) := by
  unfold wpX_jackson
  exact ⟨n + 1, xw_j4 c hc hM hm m4 hD hH hT K n 0 (by omega) 0 a_rest (fun x => ⟨fun h => by rw [b_0] at h; exact absurd h (by decide), fun h => by omega⟩) (fun x hx => by omega)⟩
theorem xw_bound4 {post : Int32 → SX → Prop} {n nm : Nat} {M D H T : Nat → Nat} {C : Nat → Nat → Bool} (c : js_CX n D C H T) (hc : f_count = nI n) (hmc : f_machines = nI nm) (nm4 : nm ≤ 4) (hM : js_Ar n a_machineOf M) (hm : ∀ x, x < n → M x < 4) (hD : js_Ar n a_duration D) (hH : js_Ar n a_heads H) (hT : js_Ar n a_tails T)
    (K : ∀ ar v, v ≤ 3000 → js_GB n nm M D H T v → post (nI v) (f_jobs, f_machines, f_count, f_depth, f_lower, f_upper, f_planned, f_planSpan, f_criticalSet, f_clock, f_nodeBound, f_found, f_bestSpan, a_jobOf, a_machineOf, a_duration, a_trail, a_planStart, a_heads, a_tails, ar, a_nodes, a_best)) :
    ∀ d i, i + d = nm → ∀ g ar, g ≤ 3000 → (∀ m, m < i → js_BU n M D H T m g) → (g = 0 ∨ ∃ m, m < nm ∧ js_BE n M D H T m g) → wX_bound_4 post (d + 1) (nI g) (nI i) f_jobs f_machines f_count f_depth f_lower f_upper f_planned f_planSpan f_criticalSet f_clock f_nodeBound f_found f_bestSpan a_jobOf a_machineOf a_duration a_trail a_planStart a_heads a_tails ar a_nodes a_best := by
  intro d
  induction d with
  | zero =>
    intro i hi g ar hg h1 h2
    have e : i = nm := by omega
    subst e
    exact br_t (xh_le hmc) (K ar g hg ⟨h1, h2⟩)
  | succ d ih =>
    intro i hi g ar hg h1 h2
    refine br_f (xh_ge hmc (by omega) (by omega)) ?_
    refine xw_jack c hc hM hm (by omega) hD hH hT (fun ar' v hv bd => ?_)
    refine br_c (fun q => ?_) (fun q => ?_)
    · rw [nI_leI (by omega) (by omega)] at q
      exact nm_r (nI_1 i) (ih (i + 1) (by omega) g ar' hg (lt_s h1 (js_BUm bd.1 q)) h2)
    · rw [nI_leI (by omega) (by omega)] at q
      refine nm_r (nI_1 i) (ih (i + 1) (by omega) v ar' hv (lt_s (fun x hx => js_BUm (h1 x hx) (by omega)) bd.1) ?_)
      rcases bd.2 with z | z
      · exact Or.inl z
      · exact Or.inr ⟨i, by omega, z⟩
theorem xw_bound {post : Int32 → SX → Prop} {n nm : Nat} {M D H T : Nat → Nat} {C : Nat → Nat → Bool} (c : js_CX n D C H T) (hc : f_count = nI n) (hmc : f_machines = nI nm) (nm4 : nm ≤ 4) (hM : js_Ar n a_machineOf M) (hm : ∀ x, x < n → M x < 4) (hD : js_Ar n a_duration D) (hH : js_Ar n a_heads H) (hT : js_Ar n a_tails T)
    (K : ∀ ar v, v ≤ 3000 → js_GB n nm M D H T v → post (nI v) (f_jobs, f_machines, f_count, f_depth, f_lower, f_upper, f_planned, f_planSpan, f_criticalSet, f_clock, f_nodeBound, f_found, f_bestSpan, a_jobOf, a_machineOf, a_duration, a_trail, a_planStart, a_heads, a_tails, ar, a_nodes, a_best)) : wpX_bound post (f_jobs, f_machines, f_count, f_depth, f_lower, f_upper, f_planned, f_planSpan, f_criticalSet, f_clock, f_nodeBound, f_found, f_bestSpan, a_jobOf, a_machineOf, a_duration, a_trail, a_planStart, a_heads, a_tails, a_rest, a_nodes, a_best) := by
  unfold wpX_bound
  exact ⟨nm + 1, xw_bound4 c hc hmc nm4 hM hm hD hH hT K nm 0 (by omega) 0 a_rest (by omega) (fun m h => by omega) (Or.inl rfl)⟩
end
end
section
def js_DI (n : Nat) (M D : Nat → Nat) (lim : Nat) (C0 C : Nat → Nat → Bool) : Prop :=
  js_SO n C ∧ (∀ x y, C0 x y = true → C x y = true) ∧ (∀ s, js_SD n M D C0 s → js_sp n D s ≤ lim → js_SD n M D C s)
theorem js_DIl {n lim a b : Nat} {M D : Nat → Nat} {C0 C : Nat → Nat → Bool} (I : js_DI n M D lim C0 C) (ha : a < n) (hb : b < n) (ne : a ≠ b) (nb : ¬ C b a = true)
    (h : ∀ s, js_SD n M D C0 s → js_sp n D s ≤ lim → s a + D a ≤ s b) : js_DI n M D lim C0 (js_LK C a b) :=
  ⟨js_LKs I.1 ha hb ne nb, fun x y q => js_LKsub (I.2.1 x y q), fun s hs hl => js_SDlk (I.2.2 s hs hl) (h s hs hl)⟩
theorem js_DI0 {n lim : Nat} {M D : Nat → Nat} {C0 : Nat → Nat → Bool} (h : js_SO n C0) : js_DI n M D lim C0 C0 := ⟨h, fun _ _ q => q, fun s hs _ => hs⟩
theorem js_sel {n lim a b : Nat} {M D H T : Nat → Nat} {C : Nat → Nat → Bool} (c : js_CX n D C H T) (ha : a < n) (hb : b < n) (ne : a ≠ b) (e : M a = M b) (h : lim < H a + D a + D b + T b) :
    ∀ s, js_SD n M D C s → js_sp n D s ≤ lim → s b + D b ≤ s a := by
  intro s hs hl
  rcases hs.2 a b ha hb ne e with q | q
  · have h1 := c.2.2.2.1.2 s hs.1 a ha
    have h2 := js_HDt c.2.2.1 c.2.2.2.2 hs.1 (js_sple.mp hl) b hb
    omega
  · exact q
theorem js_suc {n c : Nat} {D : Nat → Nat} {S : Nat → Bool} (hc : c < n) (nc : ¬ S c = true) : js_su n D (fun x => S x || decide (x = c)) = js_su n D S + D c := by
  have u := sg_upd (f := fun x => if (S x || decide (x = c)) = true then D x else 0) (g := fun x => if S x = true then D x else 0) hc (fun i hi ne => by simp [ne])
  have w : (S c || decide (c = c)) = true := by simp
  rw [if_pos w, if_neg nc] at u
  exact u
theorem js_edge1 {n lim c b rl dl : Nat} {M D H T : Nat → Nat} {C : Nat → Nat → Bool} {S : Nat → Bool} (cx : js_CX n D C H T) (hc : c < n) (nc : ¬ S c = true)
    (hS : ∀ x, S x = true → x < n ∧ M x = M c ∧ rl ≤ H x ∧ dl ≤ T x) (b1 : b ≤ H c) (b2 : b ≤ rl) (h : lim < b + (D c + js_su n D S) + dl) :
    ∀ s, js_SD n M D C s → js_sp n D s ≤ lim → ∀ x, S x = true → s x + D x ≤ s c := by
  intro s hs hl x0 s0
  have hH := cx.2.2.2.1.2 s hs.1
  have hT := js_HDt cx.2.2.1 cx.2.2.2.2 hs.1 (js_sple.mp hl)
  have f0 := hS x0 s0
  rcases hs.2 x0 c f0.1 hc (fun e => nc (e ▸ s0)) f0.2.1 with q | q
  · exact q
  · exfalso
    have t0 := hT x0 f0.1
    have hh0 := hH x0 f0.1
    have hc0 := hH c hc
    have dec : ∀ x, (S x || decide (x = c)) = true → S x = true ∨ x = c := fun x w => by simpa using w
    have mm : ∀ x, (S x || decide (x = c)) = true → M x = M c := fun x w => (dec x w).elim (fun w => (hS x w).2.1) (fun w => by rw [w])
    have p := js_pack (n := n) (b := b) (e := lim - dl) (D := D) (s := s) (S := fun x => S x || decide (x = c)) (fun x y hx hy sx sy ne => hs.2 x y hx hy ne ((mm x sx).trans (mm y sy).symm))
      (fun x hx sx => by
        rcases dec x sx with w | w
        · have := hS x w; have := hH x hx; omega
        · rw [w]; omega)
      (fun x hx sx => by
        rcases dec x sx with w | w
        · have := hS x w; have := hT x hx; omega
        · rw [w]; omega) (by omega)
    have e := js_suc (D := D) hc nc
    unfold js_su at e h
    dsimp only at e
    omega
theorem js_edge2 {n lim c b rl dl : Nat} {M D H T : Nat → Nat} {C : Nat → Nat → Bool} {S : Nat → Bool} (cx : js_CX n D C H T) (hc : c < n) (nc : ¬ S c = true)
    (hS : ∀ x, S x = true → x < n ∧ M x = M c ∧ rl ≤ H x ∧ dl ≤ T x) (b1 : b ≤ T c) (b2 : b ≤ dl) (h : lim < rl + (D c + js_su n D S) + b) :
    ∀ s, js_SD n M D C s → js_sp n D s ≤ lim → ∀ x, S x = true → s c + D c ≤ s x := by
  intro s hs hl x0 s0
  have hH := cx.2.2.2.1.2 s hs.1
  have hT := js_HDt cx.2.2.1 cx.2.2.2.2 hs.1 (js_sple.mp hl)
  have f0 := hS x0 s0
  rcases hs.2 x0 c f0.1 hc (fun e => nc (e ▸ s0)) f0.2.1 with q | q
  · exfalso
    have t0 := hT x0 f0.1
    have hh0 := hH x0 f0.1
    have hc0 := hH c hc
    have tc0 := hT c hc
    have dec : ∀ x, (S x || decide (x = c)) = true → S x = true ∨ x = c := fun x w => by simpa using w
    have mm : ∀ x, (S x || decide (x = c)) = true → M x = M c := fun x w => (dec x w).elim (fun w => (hS x w).2.1) (fun w => by rw [w])
    have p := js_pack (n := n) (b := rl) (e := lim - b) (D := D) (s := s) (S := fun x => S x || decide (x = c)) (fun x y hx hy sx sy ne => hs.2 x y hx hy ne ((mm x sx).trans (mm y sy).symm))
      (fun x hx sx => by
        rcases dec x sx with w | w
        · have := hS x w; have := hH x hx; omega
        · rw [w]; omega)
      (fun x hx sx => by
        rcases dec x sx with w | w
        · have := hS x w; have := hT x hx; omega
        · rw [w]; omega) (by omega)
    have e := js_suc (D := D) hc nc
    unfold js_su at e h
    dsimp only at e
    omega
  · exact q
def js_XC (n nm : Nat) (M D : Nat → Nat) (f_count f_machines : Int32) (a_machineOf a_duration : Nat → Int32) : Prop :=
  f_count = nI n ∧ f_machines = nI nm ∧ nm ≤ 4 ∧ js_Ar n a_machineOf M ∧ (∀ x, x < n → M x < nm) ∧ js_Ar n a_duration D
theorem js_XCm {n nm : Nat} {M D : Nat → Nat} {f_count f_machines : Int32} {a_machineOf a_duration : Nat → Int32} (h : js_XC n nm M D f_count f_machines a_machineOf a_duration) : ∀ x, x < n → M x < 4 :=
  fun x hx => by have := h.2.2.2.2.1 x hx; have := h.2.2.1; omega
section
variable {f_jobs f_machines f_count f_depth f_lower f_upper f_planned f_planSpan f_criticalSet f_clock f_nodeBound f_found f_bestSpan : Int32} {a_jobOf a_machineOf a_duration a_planStart a_heads a_tails a_rest a_best : Nat → Int32} {a_trail a_nodes : Nat → Int64}
theorem xw_sel18 {post : Int64 → Prop} {J6 : Int64 → Int32 → Prop} {n nm lim a : Nat} {M D H T : Nat → Nat} {C0 : Nat → Nat → Bool} (c : js_CX n D C0 H T) (xc : js_XC n nm M D f_count f_machines a_machineOf a_duration) (hH : js_Ar n a_heads H) (hT : js_Ar n a_tails T) (hl : lim < 2 ^ 31) (ha : a < n)
    (K : ∀ o, js_DI n M D lim C0 (js_bo o) → J6 o (nI (a + 1))) :
    ∀ d j, j + d = n → ∀ o, js_DI n M D lim C0 (js_bo o) → wX_selectPairs_18 post J6 (nI lim) (nI a) f_jobs f_machines f_count f_depth f_lower f_upper f_planned f_planSpan f_criticalSet f_clock f_nodeBound f_found f_bestSpan a_jobOf a_machineOf a_duration a_trail a_planStart a_heads a_tails a_rest a_nodes a_best (d + 1) o (nI j) := by
  have hn := c.1
  have hD := xc.2.2.2.2.2
  have bb := js_CXb c
  intro d
  induction d with
  | zero =>
    intro j hj o I
    have e : j = n := by omega
    subst e
    exact br_t (xh_le xc.1) (nm_r (nI_1 a) (K o I))
  | succ d ih =>
    intro j hj o I
    have hj' : j < n := by omega
    refine br_f (xh_ge xc.1 hj' hn) ?_
    refine xw_und xc.2.2.2.1 (js_XCm xc) hn ha hj' (fun ne em n1 n2 => br_f (by decide) ?_) (fun _ => br_t rfl (nm_r (nI_1 j) (ih (j + 1) (by omega) o I)))
    have ia := xh_in (show a < 8 by omega)
    have ij := xh_in (show j < 8 by omega)
    have ba := bb a ha
    have bj := bb j hj'
    unfold wpX_chained
    refine ⟨ia, ia, ij, ij, ?_⟩
    rw [js_rd hH hn ha, js_rd hD hn ha, js_rd hD hn hj', js_rd hT hn hj', nI_add, nI_add, nI_add]
    refine br_c (fun q => nm_r (nI_1 j) (ih (j + 1) (by omega) o I)) (fun q => ?_)
    rw [nI_leI (by omega) (by omega)] at q
    refine xw_link xc.1 hn hj' ha I.1 (fun r er => nm_r (nI_1 j) (ih (j + 1) (by omega) r ?_))
    rw [er]
    exact js_DIl I hj' ha (fun e => ne e.symm) n1 (js_sel c ha hj' ne em (by omega))
theorem xw_sel {post : Int64 → Prop} {n nm lim : Nat} {M D H T : Nat → Nat} {C0 : Nat → Nat → Bool} {o : Int64} (c : js_CX n D C0 H T) (xc : js_XC n nm M D f_count f_machines a_machineOf a_duration) (hH : js_Ar n a_heads H) (hT : js_Ar n a_tails T) (hl : lim < 2 ^ 31)
    (I : js_DI n M D lim C0 (js_bo o)) (K : ∀ o, js_DI n M D lim C0 (js_bo o) → post o) : wpX_selectPairs post (f_jobs, f_machines, f_count, f_depth, f_lower, f_upper, f_planned, f_planSpan, f_criticalSet, f_clock, f_nodeBound, f_found, f_bestSpan, a_jobOf, a_machineOf, a_duration, a_trail, a_planStart, a_heads, a_tails, a_rest, a_nodes, a_best) o (nI lim) := by
  have hn := c.1
  have key : ∀ d a, a + d = n → ∀ o, js_DI n M D lim C0 (js_bo o) → wX_selectPairs_6 post (nI lim) f_jobs f_machines f_count f_depth f_lower f_upper f_planned f_planSpan f_criticalSet f_clock f_nodeBound f_found f_bestSpan a_jobOf a_machineOf a_duration a_trail a_planStart a_heads a_tails a_rest a_nodes a_best (d + 1) o (nI a) := by
    intro d
    induction d with
    | zero =>
      intro a ha o I
      have e : a = n := by omega
      subst e
      exact br_t (xh_le xc.1) (K o I)
    | succ d ih =>
      intro a ha o I
      exact br_f (xh_ge xc.1 (by omega) hn) ⟨n + 1, xw_sel18 c xc hH hT hl (by omega) (fun o I => ih (a + 1) (by omega) o I) n 0 (by omega) o I⟩
  unfold wpX_selectPairs
  exact ⟨n + 1, key n 0 (by omega) o I⟩
theorem xw_lset {post : Int64 → Prop} {n nm lim c : Nat} {M D H T : Nat → Nat} {C0 : Nat → Nat → Bool} {o : Int64} {set fst : Int32} (cx : js_CX n D C0 H T) (xc : js_XC n nm M D f_count f_machines a_machineOf a_duration) (hc : c < n)
    (h : ∀ x, x < n → bt set x = true → ∀ s, js_SD n M D C0 s → js_sp n D s ≤ lim → (¬ fst = 0 → s x + D x ≤ s c) ∧ (fst = 0 → s c + D c ≤ s x))
    (I : js_DI n M D lim C0 (js_bo o)) (K : ∀ o, js_DI n M D lim C0 (js_bo o) → post o) : wpX_linkSet post (f_jobs, f_machines, f_count, f_depth, f_lower, f_upper, f_planned, f_planSpan, f_criticalSet, f_clock, f_nodeBound, f_found, f_bestSpan, a_jobOf, a_machineOf, a_duration, a_trail, a_planStart, a_heads, a_tails, a_rest, a_nodes, a_best) o set (nI c) fst := by
  have hn := cx.1
  have key : ∀ d a, a + d = n → ∀ o, js_DI n M D lim C0 (js_bo o) → wX_linkSet_6 post set (nI c) fst f_jobs f_machines f_count f_depth f_lower f_upper f_planned f_planSpan f_criticalSet f_clock f_nodeBound f_found f_bestSpan a_jobOf a_machineOf a_duration a_trail a_planStart a_heads a_tails a_rest a_nodes a_best (d + 1) o (nI a) := by
    intro d
    induction d with
    | zero =>
      intro a ha o I
      have e : a = n := by omega
      subst e
      exact br_t (xh_le xc.1) (K o I)
    | succ d ih =>
      intro a ha o I
      have ha' : a < n := by omega
      refine br_f (xh_ge xc.1 ha' hn) (br_c (fun q => nm_r (nI_1 a) (ih (a + 1) (by omega) o I)) (fun q => ?_))
      have q' : bt set a = true := Classical.byContradiction fun z => q ((js_bz set (by omega)).mpr z)
      refine xw_und xc.2.2.2.1 (js_XCm xc) hn ha' hc (fun ne em n1 n2 => br_f (by decide) ?_) (fun _ => br_t rfl (nm_r (nI_1 a) (ih (a + 1) (by omega) o I)))
      refine br_c (fun z => ?_) (fun z => ?_)
      · refine xw_link xc.1 hn hc ha' I.1 (fun r er => nm_r (nI_1 a) (ih (a + 1) (by omega) r ?_))
        rw [er]
        exact js_DIl I hc ha' (fun e => ne e.symm) n1 (fun s hs hl => (h a ha' q' s hs hl).2 z)
      · refine xw_link xc.1 hn ha' hc I.1 (fun r er => nm_r (nI_1 a) (ih (a + 1) (by omega) r ?_))
        rw [er]
        exact js_DIl I ha' hc ne n2 (fun s hs hl => (h a ha' q' s hs hl).1 z)
  unfold wpX_linkSet
  exact ⟨n + 1, key n 0 (by omega) o I⟩
def js_cf (n : Nat) (M H T : Nat → Nat) (c rl dl i : Nat) (x : Nat) : Bool := decide (x < i ∧ x ≠ c ∧ M x = M c ∧ rl ≤ H x ∧ dl ≤ T x)
theorem xw_conf {post : Int64 → Prop} {n nm lim c rl dl : Nat} {M D H T : Nat → Nat} {C0 : Nat → Nat → Bool} {o : Int64} (cx : js_CX n D C0 H T) (xc : js_XC n nm M D f_count f_machines a_machineOf a_duration) (hH : js_Ar n a_heads H) (hT : js_Ar n a_tails T) (hl : lim < 2 ^ 31) (hc : c < n) (brl : rl ≤ 160) (bdl : dl ≤ 160)
    (I : js_DI n M D lim C0 (js_bo o)) (K : ∀ o, js_DI n M D lim C0 (js_bo o) → post o) : wpX_confront post (f_jobs, f_machines, f_count, f_depth, f_lower, f_upper, f_planned, f_planSpan, f_criticalSet, f_clock, f_nodeBound, f_found, f_bestSpan, a_jobOf, a_machineOf, a_duration, a_trail, a_planStart, a_heads, a_tails, a_rest, a_nodes, a_best) o (nI c) (nI rl) (nI dl) (nI lim) := by
  have hn := cx.1
  have hD := xc.2.2.2.2.2
  have hM := xc.2.2.2.1
  have hm := js_XCm xc
  have bb := js_CXb cx
  have ic := xh_in (show c < 8 by omega)
  have bc := bb c hc
  have bw : ∀ i, i ≤ n → sg_f (fun x => if js_cf n M H T c rl dl i x = true then D x else 0) i ≤ 160 := by
    intro i hi
    have e := sg_const 20 i
    have l : sg_f (fun x => if js_cf n M H T c rl dl i x = true then D x else 0) i ≤ sg_f (fun _ => 20) i := sg_le fun x hx => by
      have := (cx.2.1 x (by omega)).2
      split <;> omega
    omega
  -- the end, from the begin value on
  have fin : ∀ set w, (∀ x, bt set x = true ↔ js_cf n M H T c rl dl n x = true) → w = D c + js_su n D (js_cf n M H T c rl dl n) → w ≤ 400 →
      ∀ bg, bg ≤ H c → bg ≤ rl → wX_confront_137 post o (nI c) (nI rl) (nI dl) (nI lim) set (nI w) (nI bg) f_jobs f_machines f_count f_depth f_lower f_upper f_planned f_planSpan f_criticalSet f_clock f_nodeBound f_found f_bestSpan a_jobOf a_machineOf a_duration a_trail a_planStart a_heads a_tails a_rest a_nodes a_best := by
    intro set w hset ew bw' bg b1 b2
    have nc : ¬ js_cf n M H T c rl dl n c = true := fun z => (of_decide_eq_true z).2.1 rfl
    have hS : ∀ x, js_cf n M H T c rl dl n x = true → x < n ∧ M x = M c ∧ rl ≤ H x ∧ dl ≤ T x := fun x z => ⟨(of_decide_eq_true z).1, (of_decide_eq_true z).2.2⟩
    have f191 : ∀ en o, en ≤ T c → en ≤ dl → js_DI n M D lim C0 (js_bo o) → wX_confront_191 post (nI c) (nI rl) (nI lim) set (nI w) (nI en) o f_jobs f_machines f_count f_depth f_lower f_upper f_planned f_planSpan f_criticalSet f_clock f_nodeBound f_found f_bestSpan a_jobOf a_machineOf a_duration a_trail a_planStart a_heads a_tails a_rest a_nodes a_best := by
      intro en o e1 e2 I
      unfold wX_confront_191
      rw [nI_add, nI_add]
      refine br_c (fun _ => K o I) (fun q => ?_)
      rw [nI_leI (by omega) (by omega)] at q
      refine xw_lset cx xc hc (fun x hx bx s hs hl => ⟨fun z => absurd rfl z, fun _ => ?_⟩) I K
      exact js_edge2 cx hc nc hS e1 e2 (by omega) s hs hl x ((hset x).mp bx)
    have f161 : ∀ en, en ≤ T c → en ≤ dl → wX_confront_161 post o (nI c) (nI rl) (nI dl) (nI lim) set (nI w) (nI bg) (nI en) f_jobs f_machines f_count f_depth f_lower f_upper f_planned f_planSpan f_criticalSet f_clock f_nodeBound f_found f_bestSpan a_jobOf a_machineOf a_duration a_trail a_planStart a_heads a_tails a_rest a_nodes a_best := by
      intro en e1 e2
      unfold wX_confront_161
      rw [nI_add, nI_add]
      refine br_c (fun _ => f191 en o e1 e2 I) (fun q => ?_)
      rw [nI_leI (by omega) (by omega)] at q
      refine xw_lset cx xc hc (fun x hx bx s hs hl => ⟨fun _ => ?_, fun z => absurd z (by decide)⟩) I (fun o I => f191 en o e1 e2 I)
      exact js_edge1 cx hc nc hS b1 b2 (by omega) s hs hl x ((hset x).mp bx)
    unfold wX_confront_137
    refine ⟨ic, ?_⟩
    rw [js_rd hT hn hc]
    refine br_c (fun q => ?_) (fun q => ⟨ic, ?_⟩)
    · rw [nI_leI (by omega) (by omega)] at q
      exact f161 dl q (Nat.le_refl _)
    · rw [nI_leI (by omega) (by omega)] at q
      exact f161 (T c) (Nat.le_refl _) (by omega)
  have key : ∀ d i, i + d = n → ∀ set w, (∀ x, bt set x = true ↔ js_cf n M H T c rl dl i x = true) → w = D c + sg_f (fun x => if js_cf n M H T c rl dl i x = true then D x else 0) i → wX_confront_14 post o (nI c) (nI rl) (nI dl) (nI lim) f_jobs f_machines f_count f_depth f_lower f_upper f_planned f_planSpan f_criticalSet f_clock f_nodeBound f_found f_bestSpan a_jobOf a_machineOf a_duration a_trail a_planStart a_heads a_tails a_rest a_nodes a_best (d + 1) set (nI w) (nI i) := by
    intro d
    induction d with
    | zero =>
      intro i hi set w hs hw
      have e : i = n := by omega
      subst e
      have b := bw i (Nat.le_refl _)
      refine br_t (xh_le xc.1) (br_c (fun _ => K o I) (fun _ => ⟨ic, ?_⟩))
      rw [js_rd hH hn hc]
      refine br_c (fun q => ?_) (fun q => ⟨ic, ?_⟩)
      · rw [nI_leI (by omega) (by omega)] at q
        exact fin set w hs hw (by omega) rl q (Nat.le_refl _)
      · rw [nI_leI (by omega) (by omega)] at q
        exact fin set w hs hw (by omega) (H c) (Nat.le_refl _) (by omega)
    | succ d ih =>
      intro i hi set w hs hw
      have hi' : i < n := by omega
      have ii := xh_in (show i < 8 by omega)
      have mi := hm i hi'
      have mc := hm c hc
      have bi := bb i hi'
      have b0 := bw i (by omega)
      have old : ∀ x, x ≠ i → (js_cf n M H T c rl dl (i + 1) x = true ↔ js_cf n M H T c rl dl i x = true) := fun x nx => by
        unfold js_cf
        rw [decide_eq_true_eq, decide_eq_true_eq]
        constructor
        · rintro ⟨a, b⟩; exact ⟨by omega, b⟩
        · rintro ⟨a, b⟩; exact ⟨by omega, b⟩
      have oldi : ¬ js_cf n M H T c rl dl i i = true := fun z => by have := (of_decide_eq_true z).1; omega
      have sums : sg_f (fun x => if js_cf n M H T c rl dl (i + 1) x = true then D x else 0) (i + 1) = sg_f (fun x => if js_cf n M H T c rl dl i x = true then D x else 0) i + (if js_cf n M H T c rl dl (i + 1) i = true then D i else 0) := by
        have e : sg_f (fun x => if js_cf n M H T c rl dl (i + 1) x = true then D x else 0) i = sg_f (fun x => if js_cf n M H T c rl dl i x = true then D x else 0) i := sg_eq fun x hx => by
          simp only [old x (by omega)]
        simp only [sg_f]
        rw [e]
      have skip : ¬ js_cf n M H T c rl dl (i + 1) i = true → wX_confront_14 post o (nI c) (nI rl) (nI dl) (nI lim) f_jobs f_machines f_count f_depth f_lower f_upper f_planned f_planSpan f_criticalSet f_clock f_nodeBound f_found f_bestSpan a_jobOf a_machineOf a_duration a_trail a_planStart a_heads a_tails a_rest a_nodes a_best (d + 1) set (nI w) (nI i + 1) := by
        intro z
        rw [nI_1]
        refine ih (i + 1) (by omega) set w (fun x => ?_) (by rw [sums, if_neg z, Nat.add_zero]; exact hw)
        by_cases e : x = i
        · rw [e, hs i]; exact ⟨fun q => absurd q oldi, fun q => absurd q z⟩
        · rw [hs x, old x e]
      have f50 : ∀ z0, (z0 = 0 ∧ (i = c ∨ M i ≠ M c)) ∨ (z0 = 1 ∧ i ≠ c ∧ M i = M c) → wX_confront_50 post (wX_confront_14 post o (nI c) (nI rl) (nI dl) (nI lim) f_jobs f_machines f_count f_depth f_lower f_upper f_planned f_planSpan f_criticalSet f_clock f_nodeBound f_found f_bestSpan a_jobOf a_machineOf a_duration a_trail a_planStart a_heads a_tails a_rest a_nodes a_best (d + 1)) o (nI c) (nI rl) (nI dl) (nI lim) set (nI w) (nI i) z0 f_jobs f_machines f_count f_depth f_lower f_upper f_planned f_planSpan f_criticalSet f_clock f_nodeBound f_found f_bestSpan a_jobOf a_machineOf a_duration a_trail a_planStart a_heads a_tails a_rest a_nodes a_best := by
        intro z0 hz
        unfold wX_confront_50
        rcases hz with ⟨ez, hz⟩ | ⟨ez, z1, z2⟩
        · refine br_t ez (nm_e (skip fun q => ?_))
          have q' := of_decide_eq_true q
          exact hz.elim q'.2.1 (fun z => z q'.2.2.1)
        · refine br_f (by rw [ez]; decide) ⟨ii, ?_⟩
          rw [js_rd hH hn hi', js_rd hT hn hi', js_rd hD hn hi']
          refine br_c (fun q => ?_) (fun q => ⟨ii, br_c (fun r => ?_) (fun r => ?_)⟩)
          · rw [nI_ltI (by omega) (by omega)] at q
            exact nm_e (skip fun y => by have := (of_decide_eq_true y).2.2.2.1; omega)
          · rw [nI_ltI (by omega) (by omega)] at r
            exact nm_e (skip fun y => by have := (of_decide_eq_true y).2.2.2.2; omega)
          · rw [nI_ltI (by omega) (by omega)] at q r
            have cfi : js_cf n M H T c rl dl (i + 1) i = true := decide_eq_true ⟨by omega, z1, z2, by omega, by omega⟩
            refine nm_e ⟨ii, nm_r (nI_add w (D i)) (nm_r (nI_1 i) (ih (i + 1) (by omega) _ (w + D i) (fun x => ?_) (by rw [sums, if_pos cfi, hw]; omega)))⟩
            rcases Nat.lt_or_ge x 32 with l | l
            · rw [js_bs (by omega) l, Bool.or_eq_true, hs x, decide_eq_true_eq]
              by_cases e : x = i
              · rw [e]; exact ⟨fun _ => cfi, fun _ => Or.inr rfl⟩
              · rw [old x e]; exact ⟨fun z => z.elim id (fun z => absurd z e), Or.inl⟩
            · rw [b_big l]
              exact ⟨fun z => absurd z (by decide), fun z => by have := (of_decide_eq_true z).1; omega⟩
      refine br_f (xh_ge xc.1 hi' hn) (br_c (fun q => ?_) (fun q => ⟨ii, ic, ?_⟩))
      · have e : i = c := (nI_eq (by omega) (by omega)).mp q
        exact f50 0 (Or.inl ⟨rfl, Or.inl e⟩)
      · have ne : i ≠ c := fun e => q (by rw [e])
        rw [js_rd hM hn hi', js_rd hM hn hc]
        refine br_c (fun r => ?_) (fun r => ?_)
        · rw [nI_eq (by omega) (by omega)] at r
          exact f50 1 (Or.inr ⟨rfl, ne, r⟩)
        · rw [nI_eq (by omega) (by omega)] at r
          exact f50 0 (Or.inl ⟨rfl, Or.inr r⟩)
  unfold wpX_confront
  refine ⟨ic, nm_r (js_rd hD hn hc) ⟨n + 1, key n 0 (by omega) 0 (D c) (fun x => ?_) rfl⟩⟩
  rw [b_0]
  exact ⟨fun z => absurd z (by decide), fun z => by have := (of_decide_eq_true z).1; omega⟩
theorem xw_find {post : Int64 → Prop} {n nm lim c : Nat} {M D H T : Nat → Nat} {C0 : Nat → Nat → Bool} {o : Int64} (cx : js_CX n D C0 H T) (xc : js_XC n nm M D f_count f_machines a_machineOf a_duration) (hH : js_Ar n a_heads H) (hT : js_Ar n a_tails T) (hl : lim < 2 ^ 31) (hc : c < n)
    (I : js_DI n M D lim C0 (js_bo o)) (K : ∀ o, js_DI n M D lim C0 (js_bo o) → post o) : wpX_findEdges post (f_jobs, f_machines, f_count, f_depth, f_lower, f_upper, f_planned, f_planSpan, f_criticalSet, f_clock, f_nodeBound, f_found, f_bestSpan, a_jobOf, a_machineOf, a_duration, a_trail, a_planStart, a_heads, a_tails, a_rest, a_nodes, a_best) o (nI c) (nI lim) := by
  have hn := cx.1
  have bb := js_CXb cx
  have ic := xh_in (show c < 8 by omega)
  have inner : ∀ (J6 : Int64 → Int32 → Prop) k, k < n → (∀ o, js_DI n M D lim C0 (js_bo o) → J6 o (nI (k + 1))) → ∀ d l, l + d = n → ∀ o, js_DI n M D lim C0 (js_bo o) → wX_findEdges_18 post J6 (nI c) (nI lim) (nI k) f_jobs f_machines f_count f_depth f_lower f_upper f_planned f_planSpan f_criticalSet f_clock f_nodeBound f_found f_bestSpan a_jobOf a_machineOf a_duration a_trail a_planStart a_heads a_tails a_rest a_nodes a_best (d + 1) o (nI l) := by
    intro J6 k hk KJ d
    have ik := xh_in (show k < 8 by omega)
    induction d with
    | zero =>
      intro l h o I
      have e : l = n := by omega
      subst e
      exact br_t (xh_le xc.1) (nm_r (nI_1 k) (KJ o I))
    | succ d ih =>
      intro l h o I
      have hl' : l < n := by omega
      have il := xh_in (show l < 8 by omega)
      have bk := bb k hk
      have bl := bb l hl'
      have f64 : ∀ z0, wX_findEdges_64 post J6 (wX_findEdges_18 post J6 (nI c) (nI lim) (nI k) f_jobs f_machines f_count f_depth f_lower f_upper f_planned f_planSpan f_criticalSet f_clock f_nodeBound f_found f_bestSpan a_jobOf a_machineOf a_duration a_trail a_planStart a_heads a_tails a_rest a_nodes a_best (d + 1)) (nI c) (nI lim) o (nI k) (nI l) z0 f_jobs f_machines f_count f_depth f_lower f_upper f_planned f_planSpan f_criticalSet f_clock f_nodeBound f_found f_bestSpan a_jobOf a_machineOf a_duration a_trail a_planStart a_heads a_tails a_rest a_nodes a_best := by
        intro z0
        unfold wX_findEdges_64
        have nx : ∀ y, y = nI l + 1 → wX_findEdges_18 post J6 (nI c) (nI lim) (nI k) f_jobs f_machines f_count f_depth f_lower f_upper f_planned f_planSpan f_criticalSet f_clock f_nodeBound f_found f_bestSpan a_jobOf a_machineOf a_duration a_trail a_planStart a_heads a_tails a_rest a_nodes a_best (d + 1) o y := nm_r (nI_1 l) (ih (l + 1) (by omega) o I)
        refine br_c (fun _ => nx) (fun _ => br_c (fun _ => nx) (fun _ => br_c (fun _ => nx) (fun _ => ⟨ik, il, ?_⟩)))
        rw [js_rd hH hn hk, js_rd hT hn hl']
        exact xw_conf cx xc hH hT hl hc (by omega) (by omega) I (fun o I => nm_r (nI_1 l) (ih (l + 1) (by omega) o I))
      exact br_f (xh_ge xc.1 hl' hn) ⟨ik, ic, br_c (fun _ => ⟨il, ic, br_c (fun _ => f64 1) (fun _ => f64 0)⟩) (fun _ => f64 0)⟩
  have key : ∀ d k, k + d = n → ∀ o, js_DI n M D lim C0 (js_bo o) → wX_findEdges_6 post (nI c) (nI lim) f_jobs f_machines f_count f_depth f_lower f_upper f_planned f_planSpan f_criticalSet f_clock f_nodeBound f_found f_bestSpan a_jobOf a_machineOf a_duration a_trail a_planStart a_heads a_tails a_rest a_nodes a_best (d + 1) o (nI k) := by
    intro d
    induction d with
    | zero =>
      intro a ha o I
      have e : a = n := by omega
      subst e
      exact br_t (xh_le xc.1) (K o I)
    | succ d ih =>
      intro a ha o I
      exact br_f (xh_ge xc.1 (by omega) hn) ⟨n + 1, inner _ a (by omega) (fun o I => ih (a + 1) (by omega) o I) n 0 (by omega) o I⟩
  unfold wpX_findEdges
  exact ⟨n + 1, key n 0 (by omega) o I⟩
theorem xw_ded {post : Int64 → Prop} {n nm lim : Nat} {M D H T : Nat → Nat} {o : Int64} (cx : js_CX n D (js_bo o) H T) (xc : js_XC n nm M D f_count f_machines a_machineOf a_duration) (hH : js_Ar n a_heads H) (hT : js_Ar n a_tails T) (hl : lim < 2 ^ 31)
    (K : ∀ o', js_DI n M D lim (js_bo o) (js_bo o') → post o') : wpX_deduce post (f_jobs, f_machines, f_count, f_depth, f_lower, f_upper, f_planned, f_planSpan, f_criticalSet, f_clock, f_nodeBound, f_found, f_bestSpan, a_jobOf, a_machineOf, a_duration, a_trail, a_planStart, a_heads, a_tails, a_rest, a_nodes, a_best) o (nI lim) := by
  have hn := cx.1
  have key : ∀ d k, k + d = n → ∀ o', js_DI n M D lim (js_bo o) (js_bo o') → wX_deduce_11 post (nI lim) f_jobs f_machines f_count f_depth f_lower f_upper f_planned f_planSpan f_criticalSet f_clock f_nodeBound f_found f_bestSpan a_jobOf a_machineOf a_duration a_trail a_planStart a_heads a_tails a_rest a_nodes a_best (d + 1) o' (nI k) := by
    intro d
    induction d with
    | zero =>
      intro a ha o I
      have e : a = n := by omega
      subst e
      exact br_t (xh_le xc.1) (K o I)
    | succ d ih =>
      intro a ha o I
      exact br_f (xh_ge xc.1 (by omega) hn) (xw_find cx xc hH hT hl (by omega) I (fun o I => nm_r (nI_1 a) (ih (a + 1) (by omega) o I)))
  unfold wpX_deduce
  exact xw_sel cx xc hH hT hl (js_DI0 cx.2.2.1) (fun o I => ⟨n + 1, key n 0 (by omega) o I⟩)
end
end
section
theorem js_DItr {n lim : Nat} {M D : Nat → Nat} {C0 C C' : Nat → Nat → Bool} (a : js_DI n M D lim C0 C) (b : js_DI n M D lim C C') : js_DI n M D lim C0 C' :=
  ⟨b.1, fun x y q => b.2.1 x y (a.2.1 x y q), fun s hs hl => b.2.2 s (a.2.2 s hs hl) hl⟩
theorem js_dpo {n lim : Nat} {M D : Nat → Nat} {o o' : Int64} (hn : n ≤ 8) (I : js_DI n M D lim (js_bo o) (js_bo o')) (ne : ¬ o' = o) : js_dp (js_bo o) < js_dp (js_bo o') := by
  have ex : ∃ x y, js_bo o' x y = true ∧ ¬ js_bo o x y = true := by
    refine Classical.byContradiction fun no => ne (js_boinj ?_)
    funext x y
    by_cases q : js_bo o x y = true
    · rw [q, I.2.1 x y q]
    · by_cases r : js_bo o' x y = true
      · exact absurd ⟨x, y, r, q⟩ no
      · rw [Bool.eq_false_iff.mpr q, Bool.eq_false_iff.mpr r]
  obtain ⟨x, y, q, r⟩ := ex
  exact js_dpn hn I.1 I.2.1 r q
section
variable {f_jobs f_machines f_count f_depth f_lower f_upper f_planned f_planSpan f_criticalSet f_clock f_nodeBound f_found f_bestSpan : Int32} {a_jobOf a_machineOf a_duration a_planStart a_heads a_tails a_rest a_best : Nat → Int32} {a_trail a_nodes : Nat → Int64}
theorem xw_tight6 {post : Int64 → SX → Prop} {n nm lim : Nat} {M D : Nat → Nat} {o : Int64} (hn : n ≤ 8) (hD1 : ∀ x, x < n → 1 ≤ D x ∧ D x ≤ 20) (xc : js_XC n nm M D f_count f_machines a_machineOf a_duration) (hl : lim < 2 ^ 31)
    (K0 : (∀ s, js_SD n M D (js_bo o) s → ¬ js_sp n D s ≤ lim) → ∀ nb ah at' ar, post (-1) (f_jobs, f_machines, f_count, f_depth, f_lower, f_upper, f_planned, f_planSpan, f_criticalSet, f_clock, nb, f_found, f_bestSpan, a_jobOf, a_machineOf, a_duration, a_trail, a_planStart, ah, at', ar, a_nodes, a_best))
    (K1 : ∀ o' v H T ah at' ar, js_DI n M D lim (js_bo o) (js_bo o') → js_CX n D (js_bo o') H T → js_Ar n ah H → js_Ar n at' T → js_GB n nm M D H T v → v ≤ lim → v ≤ 3000 → post o' (f_jobs, f_machines, f_count, f_depth, f_lower, f_upper, f_planned, f_planSpan, f_criticalSet, f_clock, nI v, f_found, f_bestSpan, a_jobOf, a_machineOf, a_duration, a_trail, a_planStart, ah, at', ar, a_nodes, a_best)) :
    ∀ d k, k + d = 29 → ∀ o' nb ah at' ar, js_DI n M D lim (js_bo o) (js_bo o') → k ≤ js_dp (js_bo o') → wX_tighten_6 post (nI lim) (d + 1) o' (nI k) f_jobs f_machines f_count f_depth f_lower f_upper f_planned f_planSpan f_criticalSet f_clock nb f_found f_bestSpan a_jobOf a_machineOf a_duration a_trail a_planStart ah at' ar a_nodes a_best := by
  intro d
  induction d with
  | zero =>
    intro k hk o' nb ah at' ar I l
    have := js_dple (js_bo o')
    omega
  | succ d ih =>
    intro k hk o' nb ah at' ar I l
    obtain ⟨H, hH⟩ := js_HDex D I.1
    obtain ⟨T, hT⟩ := js_HDex D (js_Ts I.1)
    have cx : js_CX n D (js_bo o') H T := ⟨hn, hD1, I.1, hH, hT⟩
    refine br_f (nI_ge (b := 29) (by omega) (by decide)) ?_
    refine xw_eval cx xc.1 xc.2.2.2.2.2 (fun ah at' rH rT => ?_)
    refine xw_bound cx xc.1 xc.2.1 xc.2.2.1 xc.2.2.2.1 (js_XCm xc) xc.2.2.2.2.2 rH rT (fun ar v hv gb => ?_)
    refine br_c (fun q => ?_) (fun q => ?_)
    · rw [nI_leI (by omega) hl] at q
      refine xw_ded cx xc rH rT hl (fun o'' I' => br_c (fun e => K1 o' v H T ah at' ar I cx rH rT gb q hv) (fun ne => ?_))
      have := js_dpo hn I' ne
      exact nm_r (nI_1 k) (ih (k + 1) (by omega) o'' _ _ _ _ (js_DItr I I') (by omega))
    · rw [nI_leI (by omega) hl] at q
      exact K0 (fun s hs hl' => by have := js_GBle I.1 hH hT (I.2.2 s hs hl') hl' gb; omega) _ _ _ _
theorem xw_tight {post : Int64 → SX → Prop} {n nm lim : Nat} {M D : Nat → Nat} {o : Int64} (hn : n ≤ 8) (hD1 : ∀ x, x < n → 1 ≤ D x ∧ D x ≤ 20) (xc : js_XC n nm M D f_count f_machines a_machineOf a_duration) (hl : lim < 2 ^ 31) (hC : js_SO n (js_bo o))
    (K0 : (∀ s, js_SD n M D (js_bo o) s → ¬ js_sp n D s ≤ lim) → ∀ nb ah at' ar, post (-1) (f_jobs, f_machines, f_count, f_depth, f_lower, f_upper, f_planned, f_planSpan, f_criticalSet, f_clock, nb, f_found, f_bestSpan, a_jobOf, a_machineOf, a_duration, a_trail, a_planStart, ah, at', ar, a_nodes, a_best))
    (K1 : ∀ o' v H T ah at' ar, js_DI n M D lim (js_bo o) (js_bo o') → js_CX n D (js_bo o') H T → js_Ar n ah H → js_Ar n at' T → js_GB n nm M D H T v → v ≤ lim → v ≤ 3000 → post o' (f_jobs, f_machines, f_count, f_depth, f_lower, f_upper, f_planned, f_planSpan, f_criticalSet, f_clock, nI v, f_found, f_bestSpan, a_jobOf, a_machineOf, a_duration, a_trail, a_planStart, ah, at', ar, a_nodes, a_best)) : wpX_tighten post (f_jobs, f_machines, f_count, f_depth, f_lower, f_upper, f_planned, f_planSpan, f_criticalSet, f_clock, f_nodeBound, f_found, f_bestSpan, a_jobOf, a_machineOf, a_duration, a_trail, a_planStart, a_heads, a_tails, a_rest, a_nodes, a_best) o (nI lim) := by
  unfold wpX_tighten
  exact ⟨30, xw_tight6 hn hD1 xc hl K0 K1 29 0 (by omega) o _ _ _ _ (js_DI0 hC) (Nat.zero_le _)⟩
theorem xw_prom {post : Int32 → Prop} {n v w : Nat} {H b : Nat → Nat} (hn : n ≤ 8) (hc : f_count = nI n) (hH : js_Ar n a_heads H) (bH : ∀ x, x < n → H x < 2 ^ 31) (hv : f_bestSpan = nI v) (hw : f_nodeBound = nI w) (bv : v < 2 ^ 31) (bw : w < 2 ^ 31)
    (hb : ¬ f_found = 0 → js_Ar n a_best b ∧ ∀ x, x < n → b x < 2 ^ 31)
    (P1 : (f_found = 0 ∨ w < v ∨ js_lex n H b) → post 1) (P0 : ¬ f_found = 0 → v ≤ w → js_lex n b H → post 0) : wpX_promising post (f_jobs, f_machines, f_count, f_depth, f_lower, f_upper, f_planned, f_planSpan, f_criticalSet, f_clock, f_nodeBound, f_found, f_bestSpan, a_jobOf, a_machineOf, a_duration, a_trail, a_planStart, a_heads, a_tails, a_rest, a_nodes, a_best) := by
  unfold wpX_promising
  refine br_c (fun q => P1 (Or.inl q)) (fun q => ?_)
  obtain ⟨ab, bb⟩ := hb q
  rw [hv, hw]
  refine br_c (fun r => ?_) (fun r => ?_)
  · rw [nI_leI bv bw] at r
    have key : ∀ d i, i + d = n → (∀ j, j < i → b j = H j) → wX_promising_22 post f_jobs f_machines f_count f_depth f_lower f_upper f_planned f_planSpan f_criticalSet f_clock (nI w) f_found (nI v) a_jobOf a_machineOf a_duration a_trail a_planStart a_heads a_tails a_rest a_nodes a_best (d + 1) (nI i) := by
      intro d
      induction d with
      | zero =>
        intro i hi h
        have e : i = n := by omega
        subst e
        exact br_t (xh_le hc) (P0 q r (Or.inl h))
      | succ d ih =>
        intro i hi h
        have ii := xh_in (show i < 8 by omega)
        have hi' : i < n := by omega
        refine br_f (xh_ge hc hi' hn) ⟨ii, ii, ?_⟩
        rw [js_rd hH hn hi', js_rd ab hn hi']
        refine br_c (fun s => ?_) (fun s => ⟨ii, ii, br_c (fun t => ?_) (fun t => ?_)⟩)
        · rw [nI_eq (bH i hi') (bb i hi')] at s
          exact nm_r (nI_1 i) (ih (i + 1) (by omega) (lt_s h s.symm))
        · rw [nI_eq (bH i hi') (bb i hi')] at s
          rw [nI_leI (bb i hi') (bH i hi')] at t
          exact P0 q r (Or.inr ⟨i, hi', h, by omega⟩)
        · rw [nI_leI (bb i hi') (bH i hi')] at t
          exact P1 (Or.inr (Or.inr (Or.inr ⟨i, hi', fun j hj => (h j hj).symm, by omega⟩)))
    exact ⟨n + 1, key n 0 (by omega) (fun j hj => by omega)⟩
  · rw [nI_leI bv bw] at r
    exact P1 (Or.inr (Or.inl (by omega)))
def js_CH (n : Nat) (M : Nat → Nat) (o : Int64) (X j : Nat) (x3 x4 : Int32) : Prop :=
  (x3 = -1 ∧ x4 = -1 ∧ ∀ a b, a < b → b < n → (a < X ∨ (a = X ∧ b < j)) → M a = M b → js_bo o a b = true ∨ js_bo o b a = true) ∨
  (∃ a b g, x3 = nI (8 * a + b) ∧ x4 = nI g ∧ g ≤ 1000 ∧ a < n ∧ b < n ∧ a ≠ b ∧ M a = M b ∧ ¬ js_bo o a b = true ∧ ¬ js_bo o b a = true)
theorem js_CHs {n X j : Nat} {M : Nat → Nat} {o : Int64} {x3 x4 : Int32} (h : js_CH n M o X j x3 x4) (q : X = j ∨ M X ≠ M j ∨ js_bo o X j = true ∨ js_bo o j X = true) : js_CH n M o X (j + 1) x3 x4 := by
  rcases h with ⟨a, b, c⟩ | h
  · refine Or.inl ⟨a, b, fun x y l hy p e => ?_⟩
    by_cases z : x = X ∧ y = j
    · obtain ⟨z1, z2⟩ := z
      subst z1; subst z2
      rcases q with q | q | q | q
      · omega
      · exact absurd e q
      · exact Or.inl q
      · exact Or.inr q
    · exact c x y l hy (by omega) e
  · exact Or.inr h
theorem xw_choose {post : Int32 → Prop} {n nm : Nat} {M D H T : Nat → Nat} {C0 : Nat → Nat → Bool} {o : Int64} (cx : js_CX n D C0 H T) (xc : js_XC n nm M D f_count f_machines a_machineOf a_duration) (hH : js_Ar n a_heads H) (hT : js_Ar n a_tails T)
    (K0 : (∀ a b, a < n → b < n → a ≠ b → M a = M b → js_bo o a b = true ∨ js_bo o b a = true) → post (-1))
    (K1 : ∀ a b, a < n → b < n → a ≠ b → M a = M b → ¬ js_bo o a b = true → ¬ js_bo o b a = true → post (nI (8 * a + b))) : wpX_choosePair post (f_jobs, f_machines, f_count, f_depth, f_lower, f_upper, f_planned, f_planSpan, f_criticalSet, f_clock, f_nodeBound, f_found, f_bestSpan, a_jobOf, a_machineOf, a_duration, a_trail, a_planStart, a_heads, a_tails, a_rest, a_nodes, a_best) o := by
  have hn := cx.1
  have hD := xc.2.2.2.2.2
  have bb := js_CXb cx
  have inner : ∀ (J8 : Int32 → Int32 → Int32 → Prop) X, X < n → (∀ x3 x4, js_CH n M o X n x3 x4 → J8 x3 x4 (nI (X + 1))) → ∀ d j, j + d = n → X < j → ∀ x3 x4, js_CH n M o X j x3 x4 → wX_choosePair_23 post J8 o (nI X) f_jobs f_machines f_count f_depth f_lower f_upper f_planned f_planSpan f_criticalSet f_clock f_nodeBound f_found f_bestSpan a_jobOf a_machineOf a_duration a_trail a_planStart a_heads a_tails a_rest a_nodes a_best (d + 1) x3 x4 (nI j) := by
    intro J8 X hX KJ d
    induction d with
    | zero =>
      intro j hj hXj x3 x4 I
      have e : j = n := by omega
      subst e
      exact br_t (xh_le xc.1) (nm_r (nI_1 X) (KJ x3 x4 I))
    | succ d ih =>
      intro j hj hXj x3 x4 I
      have hj' : j < n := by omega
      have ix := xh_in (show X < 8 by omega)
      have ij := xh_in (show j < 8 by omega)
      have bx := bb X hX
      have bj := bb j hj'
      refine br_f (xh_ge xc.1 hj' hn) ?_
      refine xw_und xc.2.2.2.1 (js_XCm xc) hn hX hj' (fun ne em n1 n2 => br_f (by decide) ?_) (fun q => br_t rfl (nm_r (nI_1 j) (ih (j + 1) (by omega) (by omega) x3 x4 (js_CHs I q))))
      have f78 : ∀ th bk z, z ≤ 1000 → wX_choosePair_78 post J8 (wX_choosePair_23 post J8 o (nI X) f_jobs f_machines f_count f_depth f_lower f_upper f_planned f_planSpan f_criticalSet f_clock f_nodeBound f_found f_bestSpan a_jobOf a_machineOf a_duration a_trail a_planStart a_heads a_tails a_rest a_nodes a_best (d + 1)) o x3 x4 (nI X) (nI j) th bk (nI z) f_jobs f_machines f_count f_depth f_lower f_upper f_planned f_planSpan f_criticalSet f_clock f_nodeBound f_found f_bestSpan a_jobOf a_machineOf a_duration a_trail a_planStart a_heads a_tails a_rest a_nodes a_best := by
        intro th bk z hz
        unfold wX_choosePair_78
        refine br_c (fun q => ?_) (fun q => br_c (fun _ => ?_) (fun _ => ?_))
        · refine nm_r (nI_1 j) (ih (j + 1) (by omega) (by omega) x3 x4 ?_)
          rcases I with ⟨e1, e2, _⟩ | I
          · rw [e2] at q
            exact absurd q (by rw [Int32.le_iff_toInt_le, nI_toInt (by omega)]; have : (-1 : Int32).toInt = -1 := by decide
                               omega)
          · exact Or.inr I
        · exact nm_r (js_8a j X) (nm_r (nI_1 j) (ih (j + 1) (by omega) (by omega) _ _ (Or.inr ⟨j, X, z, rfl, rfl, hz, hj', hX, fun e => ne e.symm, em.symm, n2, n1⟩)))
        · exact nm_r (js_8a X j) (nm_r (nI_1 j) (ih (j + 1) (by omega) (by omega) _ _ (Or.inr ⟨X, j, z, rfl, rfl, hz, hX, hj', ne, em, n1, n2⟩)))
      unfold wpX_chained
      refine ⟨ix, ix, ij, ij, ij, ij, ix, ix, ?_⟩
      rw [js_rd hH hn hX, js_rd hD hn hX, js_rd hD hn hj', js_rd hT hn hj', js_rd hH hn hj', js_rd hT hn hX, nI_add, nI_add, nI_add, nI_add, nI_add, nI_add]
      exact br_c (fun _ => f78 _ _ _ (by omega)) (fun _ => f78 _ _ _ (by omega))
  have key : ∀ d X, X + d = n → ∀ x3 x4, js_CH n M o X (X + 1) x3 x4 → wX_choosePair_8 post o f_jobs f_machines f_count f_depth f_lower f_upper f_planned f_planSpan f_criticalSet f_clock f_nodeBound f_found f_bestSpan a_jobOf a_machineOf a_duration a_trail a_planStart a_heads a_tails a_rest a_nodes a_best (d + 1) x3 x4 (nI X) := by
    intro d
    induction d with
    | zero =>
      intro X hX x3 x4 I
      have e : X = n := by omega
      subst e
      refine br_t (xh_le xc.1) ?_
      rcases I with ⟨e1, e2, h⟩ | ⟨a, b, g, e1, e2, _, ha, hb, ne, em, n1, n2⟩
      · rw [e1]
        refine K0 fun a b ha hb ne em => ?_
        rcases Nat.lt_or_gt_of_ne ne with l | l
        · exact h a b l hb (Or.inl ha) em
        · exact (h b a l ha (Or.inl hb) em.symm).symm
      · rw [e1]; exact K1 a b ha hb ne em n1 n2
    | succ d ih =>
      intro X hX x3 x4 I
      refine br_f (xh_ge xc.1 (by omega) hn) (nm_r (nI_1 X) ⟨n - X, ?_⟩)
      have e : n - X = (n - (X + 1)) + 1 := by omega
      rw [e]
      refine inner _ X (by omega) (fun x3 x4 I => ih (X + 1) (by omega) x3 x4 ?_) (n - (X + 1)) (X + 1) (by omega) (by omega) x3 x4 I
      rcases I with ⟨a, b, c⟩ | h
      · exact Or.inl ⟨a, b, fun x y l hy p e => c x y l hy (by omega) e⟩
      · exact Or.inr h
  unfold wpX_choosePair
  exact ⟨n + 1, key n 0 (by omega) (-1) (-1) (Or.inl ⟨rfl, rfl, fun a b l hb p e => by omega⟩)⟩
theorem xw_keep {post : SX → Prop} {n : Nat} (hn : n ≤ 8) (hc : f_count = nI n) (K : ∀ ab, (∀ i, i < n → ab i = a_heads i) → post (f_jobs, f_machines, f_count, f_depth, f_lower, f_upper, f_planned, f_planSpan, f_criticalSet, f_clock, f_nodeBound, 1, f_nodeBound, a_jobOf, a_machineOf, a_duration, a_trail, a_planStart, a_heads, a_tails, a_rest, a_nodes, ab)) : wpX_keepBest post (f_jobs, f_machines, f_count, f_depth, f_lower, f_upper, f_planned, f_planSpan, f_criticalSet, f_clock, f_nodeBound, f_found, f_bestSpan, a_jobOf, a_machineOf, a_duration, a_trail, a_planStart, a_heads, a_tails, a_rest, a_nodes, a_best) := by
  have key : ∀ d i, i + d = n → ∀ ab, (∀ j, j < i → ab j = a_heads j) → wX_keepBest_15 post f_jobs f_machines f_count f_depth f_lower f_upper f_planned f_planSpan f_criticalSet f_clock f_nodeBound 1 f_nodeBound (d + 1) (nI i) a_jobOf a_machineOf a_duration a_trail a_planStart a_heads a_tails a_rest a_nodes ab := by
    intro d
    induction d with
    | zero =>
      intro i hi ab h
      have e : i = n := by omega
      subst e
      exact br_t (xh_le hc) (K ab h)
    | succ d ih =>
      intro i hi ab h
      have ii := xh_in (show i < 8 by omega)
      refine br_f (xh_ge hc (by omega) hn) ⟨ii, ii, nm_r (by rw [js_cl (show i < 8 by omega)]) (nm_r (nI_1 i) (ih (i + 1) (by omega) (upd ab i (a_heads i)) (lt_s (fun j hj => ?_) pk_us)))⟩
      rw [pk_un (by omega)]; exact h j hj
  unfold wpX_keepBest
  exact ⟨n + 1, key n 0 (by omega) a_best (fun j hj => by omega)⟩
theorem xw_branch {post : Int32 → SX → Prop} {n a b k : Nat} {o : Int64} (hn : n ≤ 8) (hc : f_count = nI n) (ha : a < n) (hb : b < n) (hC : js_SO n (js_bo o)) (hk : k < 60)
    (K : ∀ r1 r2, js_bo r1 = js_LK (js_bo o) b a → js_bo r2 = js_LK (js_bo o) a b → post (nI (k + 2)) (f_jobs, f_machines, f_count, f_depth, f_lower, f_upper, f_planned, f_planSpan, f_criticalSet, f_clock, f_nodeBound, f_found, f_bestSpan, a_jobOf, a_machineOf, a_duration, a_trail, a_planStart, a_heads, a_tails, a_rest, vp_updL (vp_updL a_nodes k r1) (k + 1) r2, a_best)) : wpX_branch post (f_jobs, f_machines, f_count, f_depth, f_lower, f_upper, f_planned, f_planSpan, f_criticalSet, f_clock, f_nodeBound, f_found, f_bestSpan, a_jobOf, a_machineOf, a_duration, a_trail, a_planStart, a_heads, a_tails, a_rest, a_nodes, a_best) o (nI (8 * a + b)) (nI k) := by
  unfold wpX_branch
  have e1 : nI (8 * a + b) >>> ((3 : Int32) &&& 31) = nI a := by
    rw [pk_shrN (by omega) _ 3 (by decide)]
    congr 1
    omega
  have e2 : nI (8 * a + b) &&& 7 = nI b := by
    rw [pk_andN (by omega) 3 (by decide)]
    congr 1
    omega
  refine nm_r e1 (nm_r e2 (xw_link hc hn hb ha hC (fun r1 h1 => ⟨vp_in_nI (by omega) (by omega), nm_r (by rw [nI_clamp (by omega)]) ?_⟩)))
  refine xw_link hc hn ha hb hC (fun r2 h2 => ?_)
  rw [nI_1]
  refine ⟨vp_in_nI (by omega) (by omega), nm_r (by rw [nI_clamp (by omega)]) ?_⟩
  have e3 : nI k + 2 = nI (k + 2) := nI_add k 2
  rw [e3]
  exact K r1 r2 h1 h2
end
end
section
noncomputable def js_LE (n : Nat) (C : Nat → Nat → Bool) : Nat := js_ct 0 1 C n n (fun _ => false)
theorem js_LE1 {n : Nat} {C : Nat → Nat → Bool} (h : js_SO n C) : 1 ≤ js_LE n C := js_ctp h n _ (by rw [js_cn0]; omega)
theorem js_LEm {n : Nat} {C C' : Nat → Nat → Bool} (h : ∀ x y, C x y = true → C' x y = true) : js_LE n C' ≤ js_LE n C := js_ctm h _ _
theorem js_LEs {n a b : Nat} {C : Nat → Nat → Bool} (ha : a < n) (hb : b < n) (ne : a ≠ b) : js_LE n (js_LK C a b) + js_LE n (js_LK C b a) ≤ js_LE n C :=
  js_cts (fun x y q => js_LKsub q) (fun x y q => js_LKsub q) ha hb ne (js_LKab a b) (js_LKab b a) n _ (by rw [js_cn0]; omega) (by simp) (by simp)
noncomputable def js_ms (n : Nat) (nd : Nat → Int64) (top : Nat) : Nat := sg_f (fun i => 2 * js_LE n (js_bo (nd i)) - 1) top
def js_DM (n : Nat) (D : Nat → Nat) (fd : Prop) (b : Nat → Nat) (v : Nat) (s : Nat → Nat) : Prop := v < js_sp n D s ∨ (fd ∧ v = js_sp n D s ∧ js_lex n b s)
def js_SN (n : Nat) (C0 : Nat → Nat → Bool) (nd : Nat → Int64) (top : Nat) : Prop := ∀ i, i < top → js_SO n (js_bo (nd i)) ∧ (∀ x y, C0 x y = true → js_bo (nd i) x y = true) ∧ i ≤ js_dp (js_bo (nd i))
def js_SB (n : Nat) (M D : Nat → Nat) (C0 : Nat → Nat → Bool) (lim : Nat) (fd bs : Int32) (ab : Nat → Int32) (b : Nat → Nat) (v : Nat) : Prop :=
  bs = nI v ∧ v ≤ lim ∧ ((fd = 0 ∧ v = lim) ∨ (fd = 1 ∧ js_Ar n ab b ∧ js_SD n M D C0 b ∧ js_sp n D b = v ∧ v ≤ 3000))
def js_SQ (n : Nat) (M D : Nat → Nat) (C0 : Nat → Nat → Bool) (lim : Nat) (any fd bs : Int32) (ab : Nat → Int32) (b : Nat → Nat) (v : Nat) : Prop :=
  bs = nI v ∧ v ≤ lim ∧ ((fd = 0 ∧ ∀ s, js_SD n M D C0 s → lim < js_sp n D s) ∨ (fd = 1 ∧ js_Ar n ab b ∧ js_SD n M D C0 b ∧ js_sp n D b = v ∧ v ≤ 3000 ∧ (any = 0 → ∀ s, js_SD n M D C0 s → v < js_sp n D s ∨ (v = js_sp n D s ∧ js_lex n b s))))
theorem js_SNd {n top : Nat} {C0 : Nat → Nat → Bool} {nd : Nat → Int64} (h : js_SN n C0 nd (top + 1)) : js_SN n C0 nd top := fun i hi => h i (by omega)
theorem js_msd {n top : Nat} {C0 : Nat → Nat → Bool} {nd : Nat → Int64} (h : js_SN n C0 nd (top + 1)) : js_ms n nd top + 1 ≤ js_ms n nd (top + 1) := by
  have l := js_LE1 (h top (by omega)).1
  have e : js_ms n nd (top + 1) = js_ms n nd top + (2 * js_LE n (js_bo (nd top)) - 1) := rfl
  omega
theorem js_ms0 {n : Nat} {C0 : Nat → Nat → Bool} {nd : Nat → Int64} : ∀ {top : Nat}, js_SN n C0 nd top → js_ms n nd top = 0 → top = 0
  | 0, _, _ => rfl
  | top + 1, h, e => by have := js_msd h; omega
theorem js_SQe {n lim v top : Nat} {M D b : Nat → Nat} {C0 : Nat → Nat → Bool} {nd : Nat → Int64} {any fd bs : Int32} {ab : Nat → Int32} (h : js_SB n M D C0 lim fd bs ab b v) (t : top = 0)
    (cv : ∀ s, js_SD n M D C0 s → js_DM n D (fd = 1) b v s ∨ ∃ i, i < top ∧ js_SD n M D (js_bo (nd i)) s) : js_SQ n M D C0 lim any fd bs ab b v := by
  have cv' : ∀ s, js_SD n M D C0 s → js_DM n D (fd = 1) b v s := fun s hs => (cv s hs).elim id (fun ⟨i, hi, _⟩ => by omega)
  refine ⟨h.1, h.2.1, ?_⟩
  rcases h.2.2 with ⟨e, q⟩ | ⟨e, h1, h2, h3, h4⟩
  · refine Or.inl ⟨e, fun s hs => ?_⟩
    rcases cv' s hs with z | ⟨z, _⟩
    · omega
    · rw [e] at z; exact absurd z (by decide)
  · refine Or.inr ⟨e, h1, h2, h3, h4, fun _ s hs => ?_⟩
    rcases cv' s hs with z | ⟨_, z⟩
    · exact Or.inl z
    · exact Or.inr z
theorem js_push {n k a b : Nat} {C0 : Nat → Nat → Bool} {nd : Nat → Int64} {o' r1 r2 : Int64} (hn : n ≤ 8) (h : js_SN n C0 nd (k + 1)) (hC : js_SO n (js_bo o')) (sub : ∀ x y, js_bo (nd k) x y = true → js_bo o' x y = true)
    (ha : a < n) (hb : b < n) (ne : a ≠ b) (n1 : ¬ js_bo o' a b = true) (n2 : ¬ js_bo o' b a = true) (e1 : js_bo r1 = js_LK (js_bo o') b a) (e2 : js_bo r2 = js_LK (js_bo o') a b) :
    js_SN n C0 (vp_updL (vp_updL nd k r1) (k + 1) r2) (k + 2) ∧ js_ms n (vp_updL (vp_updL nd k r1) (k + 1) r2) (k + 2) + 1 ≤ js_ms n nd (k + 1) ∧ k + 2 ≤ 29 := by
  obtain ⟨h1, h2, h3⟩ := h k (by omega)
  have u1 : vp_updL (vp_updL nd k r1) (k + 1) r2 k = r1 := by rw [pk_uLn (by omega), pk_uLs]
  have u2 : vp_updL (vp_updL nd k r1) (k + 1) r2 (k + 1) = r2 := pk_uLs
  have u3 : ∀ i, i < k → vp_updL (vp_updL nd k r1) (k + 1) r2 i = nd i := fun i hi => by rw [pk_uLn (by omega), pk_uLn (by omega)]
  have s1 := js_LKs hC hb ha (fun e => ne e.symm) n1
  have s2 := js_LKs hC ha hb ne n2
  have d0 := js_dpm sub
  have d1 := js_dpn (C := js_bo o') hn s1 (fun x y q => js_LKsub q) n2 (js_LKab b a)
  have d2 := js_dpn (C := js_bo o') hn s2 (fun x y q => js_LKsub q) n1 (js_LKab a b)
  have d3 := js_dple (js_LK (js_bo o') a b)
  refine ⟨fun i hi => ?_, ?_, by omega⟩
  · rcases Nat.lt_trichotomy i k with l | l | l
    · rw [u3 i l]; exact h i (by omega)
    · rw [l, u1, e1]; exact ⟨s1, fun x y q => js_LKsub (sub x y (h2 x y q)), by omega⟩
    · have : i = k + 1 := by omega
      rw [this, u2, e2]; exact ⟨s2, fun x y q => js_LKsub (sub x y (h2 x y q)), by omega⟩
  · have f : js_ms n (vp_updL (vp_updL nd k r1) (k + 1) r2) (k + 2) = js_ms n (vp_updL (vp_updL nd k r1) (k + 1) r2) k + (2 * js_LE n (js_bo (vp_updL (vp_updL nd k r1) (k + 1) r2 k)) - 1) + (2 * js_LE n (js_bo (vp_updL (vp_updL nd k r1) (k + 1) r2 (k + 1))) - 1) := rfl
    have g : js_ms n nd (k + 1) = js_ms n nd k + (2 * js_LE n (js_bo (nd k)) - 1) := rfl
    have e : js_ms n (vp_updL (vp_updL nd k r1) (k + 1) r2) k = js_ms n nd k := sg_eq fun i hi => by rw [u3 i hi]
    rw [f, g, e, u1, u2, e1, e2]
    have l1 := js_LEs (C := js_bo o') ha hb ne
    have l2 := js_LEm (n := n) sub
    have l3 := js_LE1 s1
    have l4 := js_LE1 s2
    omega
section
variable {f_jobs f_machines f_count f_depth f_lower f_upper f_planned f_planSpan f_criticalSet f_clock f_nodeBound f_found f_bestSpan : Int32} {a_jobOf a_machineOf a_duration a_planStart a_heads a_tails a_rest a_best : Nat → Int32} {a_trail a_nodes : Nat → Int64}
theorem xw_search25 {post : SX → Prop} {n nm lim : Nat} {M D : Nat → Nat} {C0 : Nat → Nat → Bool} {any : Int32} (hn : n ≤ 8) (hD1 : ∀ x, x < n → 1 ≤ D x ∧ D x ≤ 20) (xc : js_XC n nm M D f_count f_machines a_machineOf a_duration) (hl : lim < 2 ^ 31)
    (K : ∀ nb fd bs ah at' ar nd ab b v, js_SQ n M D C0 lim any fd bs ab b v → post (f_jobs, f_machines, f_count, f_depth, f_lower, f_upper, f_planned, f_planSpan, f_criticalSet, f_clock, nb, fd, bs, a_jobOf, a_machineOf, a_duration, a_trail, a_planStart, ah, at', ar, nd, ab)) :
    ∀ d top, top ≤ 29 → ∀ nb fd bs ah at' ar nd ab b v, js_SN n C0 nd top → js_ms n nd top ≤ d → js_SB n M D C0 lim fd bs ab b v → (∀ s, js_SD n M D C0 s → js_DM n D (fd = 1) b v s ∨ ∃ i, i < top ∧ js_SD n M D (js_bo (nd i)) s) → d < 2 ^ 31 →
      wX_search_25 post any (d + 1) (nI top) (nI d) f_jobs f_machines f_count f_depth f_lower f_upper f_planned f_planSpan f_criticalSet f_clock nb fd bs a_jobOf a_machineOf a_duration a_trail a_planStart ah at' ar nd ab := by
  intro d
  induction d with
  | zero =>
    intro top ht nb fd bs ah at' ar nd ab b v sn ms sb cv _
    exact br_t (by decide) (K _ _ _ _ _ _ _ _ b v (js_SQe sb (js_ms0 sn (by omega)) cv))
  | succ d ih =>
    intro top ht nb fd bs ah at' ar nd ab b v sn ms sb cv hd
    have ebs := sb.1
    subst ebs
    refine br_f (nI_nle (by omega) hd) ?_
    cases top with
    | zero => exact br_t (by decide) (K _ _ _ _ _ _ _ _ b v (js_SQe sb rfl cv))
    | succ k =>
      refine br_f (nI_nle (by omega) (by omega)) (nm_r (pk_m1 k) ⟨vp_in_nI (by omega) (by omega), ?_⟩)
      rw [nI_clamp (show k < 2 ^ 31 by omega)]
      have sk := sn k (by omega)
      have msd := js_msd sn
      have hv : v < 2 ^ 31 := by have := sb.2.1; omega
      have cvd : ∀ s, js_SD n M D C0 s → js_DM n D (fd = 1) b v s ∨ (∃ i, i < k ∧ js_SD n M D (js_bo (nd i)) s) ∨ js_SD n M D (js_bo (nd k)) s := by
        intro s hs
        rcases cv s hs with z | ⟨i, hi, z⟩
        · exact Or.inl z
        · by_cases e : i = k
          · subst e; exact Or.inr (Or.inr z)
          · exact Or.inr (Or.inl ⟨i, by omega, z⟩)
      refine xw_tight hn hD1 xc hv sk.1 (fun no nb ah at' ar => ?_) (fun o' w H T ah at' ar DI cx rH rT gb hw hw' => ?_)
      · refine br_t js_neg1 (nm_r (pk_m1 d) (ih k (by omega) _ _ _ _ _ _ _ _ b v (js_SNd sn) (by omega) sb (fun s hs => ?_) (by omega)))
        rcases cvd s hs with z | z | z
        · exact Or.inl z
        · exact Or.inr z
        · exact Or.inl (Or.inl (by have := no s z; omega))
      · have bb := js_CXb cx
        refine br_f (js_bopos DI.1) ?_
        refine xw_prom (H := H) (b := b) (v := v) (w := w) hn xc.1 rH (fun x hx => by have := bb x hx; omega) rfl rfl hv (by omega) (fun nf => ?_) (fun pr => br_f (by decide) ?_) (fun nf hvw lx => br_t rfl ?_)
        · rcases sb.2.2 with ⟨e, _⟩ | ⟨_, h1, h2, h3, h4⟩
          · exact absurd e nf
          · exact ⟨h1, fun x hx => by have := js_spge (D := D) (s := b) hx; omega⟩
        · refine xw_choose cx xc rH rT (fun all => br_t (by decide) ?_) (fun p q hp hq ne em n1 n2 => br_f (nI_pos (by omega)) ?_)
          · have leaf := js_GBleaf DI.1 xc.2.2.2.2.1 cx.2.2.2.1 cx.2.2.2.2 all gb
            refine xw_keep hn xc.1 (fun ab' eb => ?_)
            have sb' : js_SB n M D C0 lim 1 (nI w) ab' H w := ⟨rfl, by have := sb.2.1; omega, Or.inr ⟨rfl, fun i hi => (eb i hi).trans (rH i hi), js_SDsub (fun x y z => DI.2.1 x y (sk.2.1 x y z)) leaf.1, leaf.2, hw'⟩⟩
            refine br_c (fun _ => ?_) (fun na => nm_r (pk_m1 d) ?_)
            · refine nm_r (pk_m1 d) (ih k (by omega) _ _ _ _ _ _ _ _ H w (js_SNd sn) (by omega) sb' (fun s hs => ?_) (by omega))
              rcases cvd s hs with z | z | z
              · refine Or.inl ?_
                rcases z with z | ⟨e, z, lz⟩
                · exact Or.inl (by omega)
                · rcases pr with pr | pr | pr
                  · rw [pr] at e; exact absurd e (by decide)
                  · exact Or.inl (by omega)
                  · by_cases ew : w = js_sp n D s
                    · exact Or.inr ⟨rfl, ew, js_lextr pr lz⟩
                    · exact Or.inl (by omega)
              · exact Or.inr z
              · refine Or.inl ?_
                by_cases l : js_sp n D s ≤ v
                · have sd := DI.2.2 s z l
                  have g := js_GBle DI.1 cx.2.2.2.1 cx.2.2.2.2 sd (Nat.le_refl _) gb
                  have lx : js_lex n H s := js_lexle fun i hi => cx.2.2.2.1.2 s sd.1 i hi
                  by_cases ew : w = js_sp n D s
                  · exact Or.inr ⟨rfl, ew, lx⟩
                  · exact Or.inl (by omega)
                · exact Or.inl (by omega)
            · have sq : js_SQ n M D C0 lim any 1 (nI w) ab' H w := ⟨rfl, sb'.2.1, Or.inr (by
                rcases sb'.2.2 with ⟨e, _⟩ | ⟨_, h1, h2, h3, h4⟩
                · exact absurd e (by decide)
                · exact ⟨rfl, h1, h2, h3, h4, fun z => absurd z na⟩)⟩
              exact br_c (fun _ => K _ _ _ _ _ _ _ _ H w sq) (fun _ => br_t (by decide) (K _ _ _ _ _ _ _ _ H w sq))
          · have pu := fun r1 r2 => js_push (r1 := r1) (r2 := r2) hn sn DI.1 DI.2.1 hp hq ne n1 n2
            refine xw_branch hn xc.1 hp hq DI.1 (by omega) (fun r1 r2 e1 e2 => ?_)
            obtain ⟨p1, p2, p3⟩ := pu r1 r2 e1 e2
            refine nm_r (pk_m1 d) (ih (k + 2) p3 _ _ _ _ _ _ _ _ b v p1 (by omega) sb (fun s hs => ?_) (by omega))
            rcases cvd s hs with z | ⟨i, hi, z⟩ | z
            · exact Or.inl z
            · exact Or.inr ⟨i, by omega, by rw [pk_uLn (by omega), pk_uLn (by omega)]; exact z⟩
            · by_cases l : js_sp n D s ≤ v
              · have sd := DI.2.2 s z l
                rcases sd.2 p q hp hq ne em with w' | w'
                · exact Or.inr ⟨k + 1, by omega, by rw [pk_uLs, e2]; exact js_SDlk sd w'⟩
                · exact Or.inr ⟨k, by omega, by rw [pk_uLn (by omega), pk_uLs, e1]; exact js_SDlk sd w'⟩
              · exact Or.inl (Or.inl (by omega))
        · refine nm_r (pk_m1 d) (ih k (by omega) _ _ _ _ _ _ _ _ b v (js_SNd sn) (by omega) sb (fun s hs => ?_) (by omega))
          rcases cvd s hs with z | z | z
          · exact Or.inl z
          · exact Or.inr z
          · refine Or.inl ?_
            have f1 : fd = 1 := by
              rcases sb.2.2 with ⟨e, _⟩ | ⟨e, _⟩
              · exact absurd e nf
              · exact e
            by_cases l : js_sp n D s ≤ v
            · have sd := DI.2.2 s z l
              have g := js_GBle DI.1 cx.2.2.2.1 cx.2.2.2.2 sd (Nat.le_refl _) gb
              have lx' : js_lex n H s := js_lexle fun i hi => cx.2.2.2.1.2 s sd.1 i hi
              exact Or.inr ⟨f1, by omega, js_lextr lx lx'⟩
            · exact Or.inl (by omega)
theorem xw_search {post : SX → Prop} {n nm lim : Nat} {J M D : Nat → Nat} {o : Int64} {any : Int32} (hn : n ≤ 8) (hD1 : ∀ x, x < n → 1 ≤ D x ∧ D x ≤ 20) (xc : js_XC n nm M D f_count f_machines a_machineOf a_duration) (hl : lim < 2 ^ 31) (hC : js_SO n (js_bo o))
    (hJ : ∀ x, x < n → J x < 4) (hch : ∀ x y, x < y → y < n → J x = J y → js_bo o x y = true)
    (K : ∀ nb fd bs ah at' ar nd ab b v, js_SQ n M D (js_bo o) lim any fd bs ab b v → post (f_jobs, f_machines, f_count, f_depth, f_lower, f_upper, f_planned, f_planSpan, f_criticalSet, f_clock, nb, fd, bs, a_jobOf, a_machineOf, a_duration, a_trail, a_planStart, ah, at', ar, nd, ab)) : wpX_search post (f_jobs, f_machines, f_count, f_depth, f_lower, f_upper, f_planned, f_planSpan, f_criticalSet, f_clock, f_nodeBound, f_found, f_bestSpan, a_jobOf, a_machineOf, a_duration, a_trail, a_planStart, a_heads, a_tails, a_rest, a_nodes, a_best) o (nI lim) any := by
  unfold wpX_search
  refine nm_e ⟨8193, ?_⟩
  have u : vp_updL a_nodes 0 o 0 = o := pk_uLs
  refine xw_search25 hn hD1 xc hl K 8192 1 (by omega) _ 0 _ _ _ _ _ _ (fun _ => 0) lim (fun i hi => ?_) ?_ ⟨rfl, Nat.le_refl _, Or.inl ⟨rfl, rfl⟩⟩ (fun s hs => Or.inr ⟨0, by omega, by rw [u]; exact hs⟩) (by omega)
  · have : i = 0 := by omega
    rw [this, u]
    exact ⟨hC, fun x y q => q, Nat.zero_le _⟩
  · have l := js_LEle hn hJ hch
    have e : js_ms n (vp_updL a_nodes 0 o) 1 = 0 + (2 * js_LE n (js_bo (vp_updL a_nodes 0 o 0)) - 1) := rfl
    rw [e, u]
    unfold js_LE
    omega
end
end
section
def js_de (F S : Nat → Nat) (x y : Nat) : Nat → Bool
  | 0 => false
  | d + 1 => js_de F S x y d || (decide (F d = x) && decide (S d = y))
theorem js_dei {F S : Nat → Nat} {x y : Nat} : ∀ {d : Nat}, js_de F S x y d = true ↔ ∃ i, i < d ∧ F i = x ∧ S i = y
  | 0 => ⟨fun h => by simp [js_de] at h, fun ⟨i, h, _⟩ => by omega⟩
  | d + 1 => by
    have ih := js_dei (F := F) (S := S) (x := x) (y := y) (d := d)
    simp only [js_de, Bool.or_eq_true, Bool.and_eq_true, decide_eq_true_eq]
    constructor
    · rintro (h | ⟨h, h'⟩)
      · obtain ⟨i, hi, e⟩ := ih.mp h
        exact ⟨i, by omega, e⟩
      · exact ⟨d, by omega, h, h'⟩
    · rintro ⟨i, hi, e⟩
      by_cases z : i = d
      · subst z; exact Or.inr e
      · exact Or.inl (ih.mpr ⟨i, by omega, e⟩)
def js_RR (n : Nat) (J F S : Nat → Nat) (d : Nat) : Nat → Nat → Bool := fun x y => decide (x < n ∧ y < n) && (js_de F S x y d || (decide (J x = J y) && decide (x < y)))
theorem js_RRi {n d x y : Nat} {J F S : Nat → Nat} : js_RR n J F S d x y = true ↔ (x < n ∧ y < n) ∧ ((∃ i, i < d ∧ F i = x ∧ S i = y) ∨ (J x = J y ∧ x < y)) := by
  unfold js_RR
  rw [Bool.and_eq_true, Bool.or_eq_true, Bool.and_eq_true, decide_eq_true_eq, decide_eq_true_eq, decide_eq_true_eq, js_dei]
theorem xh_bn {k i : Nat} (hi : i < 32) : bt (nI k) i = k.testBit i := by
  show (BitVec.ofNat 32 k).getLsbD i = _
  rw [BitVec.getLsbD_ofNat]
  simp [hi]
theorem js_mask (S : Nat → Bool) : ∀ n, ∃ k, k < 2 ^ n ∧ ∀ x, x < n → k.testBit x = S x
  | 0 => ⟨0, by decide, fun x hx => by omega⟩
  | n + 1 => by
    obtain ⟨k, hk, h⟩ := js_mask S n
    have p : 2 ^ (n + 1) = 2 ^ n + 2 ^ n := by rw [Nat.pow_succ]; omega
    by_cases q : S n = true
    · refine ⟨2 ^ n + k, by omega, fun x hx => ?_⟩
      by_cases e : x = n
      · rw [e, Nat.testBit_two_pow_add_eq, Nat.testBit_lt_two_pow hk, q]; rfl
      · rw [Nat.testBit_two_pow_add_gt (by omega)]; exact h x (by omega)
    · refine ⟨k, by omega, fun x hx => ?_⟩
      by_cases e : x = n
      · rw [e, Nat.testBit_lt_two_pow hk]; simpa using q
      · exact h x (by omega)
def js_YC (n nm : Nat) (J M D : Nat → Nat) (f_n f_machines : Int32) (a_job a_machine a_dur : Nat → Int32) : Prop :=
  n ≤ 8 ∧ f_n = nI n ∧ f_machines = nI nm ∧ nm ≤ 4 ∧ js_Ar n a_job J ∧ js_Ar n a_machine M ∧ js_Ar n a_dur D ∧ (∀ x, x < n → J x < 4 ∧ M x < nm ∧ 1 ≤ D x ∧ D x ≤ 20)
def js_YD (dec : Nat) (F S : Nat → Nat) (f_decisions : Int32) (a_first a_second : Nat → Int32) : Prop :=
  dec ≤ 28 ∧ f_decisions = nI dec ∧ js_Ar dec a_first F ∧ js_Ar dec a_second S ∧ ∀ i, i < dec → F i < 8 ∧ S i < 8
def js_PV (n : Nat) (R : Nat → Nat → Bool) (ap : Nat → Int32) : Prop := ∀ y, y < n → ∀ x, bt (ap y) x = true ↔ R x y = true
section
variable {f_jobs f_machines f_n f_decisions f_low f_high f_end f_time : Int32} {a_job a_machine a_dur a_plan a_first a_second a_heads a_tails a_prevs a_seq a_at a_best a_done a_mark : Nat → Int32}
theorem yw_before {post : Int32 → Prop} {n nm dec x y : Nat} {J M D F S : Nat → Nat} (yc : js_YC n nm J M D f_n f_machines a_job a_machine a_dur) (yd : js_YD dec F S f_decisions a_first a_second) (hx : x < n) (hy : y < n)
    (h1 : js_RR n J F S dec x y = true → post 1) (h0 : ¬ js_RR n J F S dec x y = true → post 0) : wpY_before post (f_jobs, f_machines, f_n, f_decisions, f_low, f_high, f_end, f_time, a_job, a_machine, a_dur, a_plan, a_first, a_second, a_heads, a_tails, a_prevs, a_seq, a_at, a_best, a_done, a_mark) (nI x) (nI y) := by
  obtain ⟨hn, _, _, _, hJ, _, _, bd⟩ := yc
  obtain ⟨hd, ed, hF, hS, bF⟩ := yd
  have ix := xh_in (show x < 8 by omega)
  have iy := xh_in (show y < 8 by omega)
  have bx := bd x hx
  have by' := bd y hy
  have key : ∀ e i, i + e = dec → (∀ j, j < i → ¬ (F j = x ∧ S j = y)) → wY_before_2 post (nI x) (nI y) f_jobs f_machines f_n f_decisions f_low f_high f_end f_time a_job a_machine a_dur a_plan a_first a_second a_heads a_tails a_prevs a_seq a_at a_best a_done a_mark (e + 1) (nI i) := by
    intro e
    induction e with
    | zero =>
      intro i hi no
      have e : i = dec := by omega
      subst e
      refine br_t (by rw [ed]; exact Int32.le_refl _) ⟨ix, iy, ?_⟩
      rw [js_rd hJ hn hx, js_rd hJ hn hy]
      have nd : ¬ ∃ j, j < i ∧ F j = x ∧ S j = y := fun ⟨j, hj, q⟩ => no j hj q
      refine br_c (fun q => br_c (fun r => ?_) (fun r => ?_)) (fun q => ?_)
      · rw [nI_leI (by omega) (by omega)] at r
        exact h0 fun z => (js_RRi.mp z).2.elim nd (fun w => by omega)
      · rw [nI_leI (by omega) (by omega)] at r
        rw [nI_eq (by omega) (by omega)] at q
        exact h1 (js_RRi.mpr ⟨⟨hx, hy⟩, Or.inr ⟨q, by omega⟩⟩)
      · rw [nI_eq (by omega) (by omega)] at q
        exact h0 fun z => (js_RRi.mp z).2.elim nd (fun w => q w.1)
    | succ e ih =>
      intro i hi no
      have li : i < dec := by omega
      have ii : vp_in (nI i) 28 := vp_in_nI (by omega) (by omega)
      have bi := bF i li
      refine br_f (by rw [ed]; exact nI_ge li (by omega)) ⟨ii, ?_⟩
      rw [nI_clamp (show i < 2 ^ 31 by omega), hF i li, hS i li]
      refine br_c (fun q => ⟨ii, br_c (fun r => ?_) (fun r => ?_)⟩) (fun q => ?_)
      · rw [nI_eq (by omega) (by omega)] at q r
        exact h1 (js_RRi.mpr ⟨⟨hx, hy⟩, Or.inl ⟨i, li, q, r⟩⟩)
      · rw [nI_eq (by omega) (by omega)] at r
        exact nm_r (nI_1 i) (ih (i + 1) (by omega) (lt_s no (fun z => r z.2)))
      · rw [nI_eq (by omega) (by omega)] at q
        exact nm_r (nI_1 i) (ih (i + 1) (by omega) (lt_s no (fun z => q z.1)))
  unfold wpY_before
  exact ⟨dec + 1, key dec 0 (by omega) (fun j hj => by omega)⟩
def js_sk (n m : Nat) (M : Nat → Nat) (k : Nat) : Nat → Bool := fun x => decide (x < n ∧ M x = m) && k.testBit x
theorem js_ski {n m k x : Nat} {M : Nat → Nat} : js_sk n m M k x = true ↔ (x < n ∧ M x = m) ∧ k.testBit x = true := by
  unfold js_sk; rw [Bool.and_eq_true, decide_eq_true_eq]
theorem yw_mb44 {post : Int32 → Prop} {J18 : Int32 → Int32 → Prop} {n nm m k b : Nat} {J M D H T : Nat → Nat} (yc : js_YC n nm J M D f_n f_machines a_job a_machine a_dur) (hH : js_Ar n a_heads H) (hT : js_Ar n a_tails T) (bb : ∀ x, x < n → H x ≤ 160 ∧ T x ≤ 160) (hm : m < 4) (hk : k < 256) (hb : b ≤ 3000)
    (K0 : (∀ x, ¬ js_sk n m M k x = true) → J18 (nI b) (nI (k + 1)))
    (K1 : ∀ h t, h ≤ 1000 → t ≤ 1000 → (∃ x, js_sk n m M k x = true ∧ h = H x) → (∃ x, js_sk n m M k x = true ∧ t = T x) → (∀ x, js_sk n m M k x = true → h ≤ H x ∧ t ≤ T x) → J18 (nI (if h + js_su n D (js_sk n m M k) + t ≤ b then b else h + js_su n D (js_sk n m M k) + t)) (nI (k + 1))) :
    ∀ d i, i + d = n → ∀ h t, h ≤ 1000 → t ≤ 1000 → (∀ x, x < i → js_sk n m M k x = true → h ≤ H x ∧ t ≤ T x) → ((h = 1000 ∧ t = 1000 ∧ ∀ x, x < i → ¬ js_sk n m M k x = true) ∨ ((∃ x, js_sk n m M k x = true ∧ h = H x) ∧ (∃ x, js_sk n m M k x = true ∧ t = T x))) →
      wY_machineBound_44 post J18 (nI m) (nI b) (nI k) f_jobs f_machines f_n f_decisions f_low f_high f_end f_time a_job a_machine a_dur a_plan a_first a_second a_heads a_tails a_prevs a_seq a_at a_best a_done a_mark (d + 1) (nI h) (nI t) (nI (sg_f (fun x => if js_sk n m M k x = true then D x else 0) i)) (nI i) := by
  obtain ⟨hn, en, _, n4, _, hM, hD, bd⟩ := yc
  have bs : ∀ i, i ≤ n → sg_f (fun x => if js_sk n m M k x = true then D x else 0) i ≤ 160 := by
    intro i hi
    have e := sg_const 20 i
    have l : sg_f (fun x => if js_sk n m M k x = true then D x else 0) i ≤ sg_f (fun _ => 20) i := sg_le fun x hx => by
      have := (bd x (by omega)).2.2.2
      split <;> omega
    omega
  intro d
  induction d with
  | zero =>
    intro i hi h t h1 t1 lo at'
    have e : i = n := by omega
    subst e
    have b0 := bs i (Nat.le_refl _)
    refine br_t (xh_le en) ?_
    have inn : ∀ x, js_sk i m M k x = true → x < i := fun x q => (js_ski.mp q).1.1
    rcases at' with ⟨_, _, no⟩ | ⟨a1, a2⟩
    · have z : sg_f (fun x => if js_sk i m M k x = true then D x else 0) i = 0 := sg_zero fun x hx => by simp only [if_neg (no x hx)]
      rw [z]
      exact br_t (by decide) (nm_r (nI_1 k) (K0 fun x q => no x (inn x q) q))
    · obtain ⟨x, q, e⟩ := a1
      have l := sg_mem (f := fun x => if js_sk i m M k x = true then D x else 0) (inn x q)
      simp only [if_pos q] at l
      have dx := (bd x (inn x q)).2.2.1
      refine br_f (nI_nle (by omega) (by omega)) ?_
      have K := K1 h t h1 t1 ⟨x, q, e⟩ a2 (fun x q => lo x (inn x q) q)
      rw [nI_add, nI_add]
      refine br_c (fun r => ?_) (fun r => ?_)
      · rw [nI_leI (by omega) (by omega)] at r
        have r' : h + js_su i D (js_sk i m M k) + t ≤ b := r
        rw [if_pos r'] at K
        exact nm_r (nI_1 k) K
      · rw [nI_leI (by omega) (by omega)] at r
        have r' : ¬ h + js_su i D (js_sk i m M k) + t ≤ b := r
        rw [if_neg r'] at K
        exact nm_e (nm_r (nI_1 k) K)
  | succ d ih =>
    intro i hi h t h1 t1 lo at'
    have li : i < n := by omega
    have ii := xh_in (show i < 8 by omega)
    have bi := bb i li
    have di := bd i li
    have b0 := bs i (by omega)
    have sn : sg_f (fun x => if js_sk n m M k x = true then D x else 0) (i + 1) = sg_f (fun x => if js_sk n m M k x = true then D x else 0) i + (if js_sk n m M k i = true then D i else 0) := rfl
    have skip : ¬ js_sk n m M k i = true → wY_machineBound_44 post J18 (nI m) (nI b) (nI k) f_jobs f_machines f_n f_decisions f_low f_high f_end f_time a_job a_machine a_dur a_plan a_first a_second a_heads a_tails a_prevs a_seq a_at a_best a_done a_mark (d + 1) (nI h) (nI t) (nI (sg_f (fun x => if js_sk n m M k x = true then D x else 0) i)) (nI i + 1) := by
      intro z
      have I := ih (i + 1) (by omega) h t h1 t1 (lt_s lo (fun q => absurd q z)) (at'.imp (fun q => ⟨q.1, q.2.1, lt_s q.2.2 z⟩) id)
      rw [sn, if_neg z, Nat.add_zero] at I
      rw [nI_1]
      exact I
    refine br_f (xh_ge en li hn) (br_c (fun q => ?_) (fun q => ?_))
    · have q' := (js_bz (nI k) (show i < 31 by omega)).mp q
      rw [xh_bn (by omega)] at q'
      exact nm_e (skip fun z => q' (js_ski.mp z).2)
    · have q' : bt (nI k) i = true := Classical.byContradiction fun z => q ((js_bz (nI k) (by omega)).mpr z)
      rw [xh_bn (by omega)] at q'
      refine ⟨ii, ?_⟩
      rw [js_rd hM hn li]
      refine br_c (fun r => ⟨ii, ?_⟩) (fun r => ?_)
      · rw [nI_eq (by omega) (by omega)] at r
        have ski : js_sk n m M k i = true := js_ski.mpr ⟨⟨li, r⟩, q'⟩
        have go : ∀ h' t', h' ≤ 1000 → t' ≤ 1000 → h' ≤ h → t' ≤ t → h' ≤ H i → t' ≤ T i → (h' = h ∨ h' = H i) → (t' = t ∨ t' = T i) → ((h = 1000 ∧ t = 1000) → h' = H i ∧ t' = T i) → wY_machineBound_118 post J18 (wY_machineBound_44 post J18 (nI m) (nI b) (nI k) f_jobs f_machines f_n f_decisions f_low f_high f_end f_time a_job a_machine a_dur a_plan a_first a_second a_heads a_tails a_prevs a_seq a_at a_best a_done a_mark (d + 1)) (nI m) (nI b) (nI k) (nI h') (nI t') (nI (sg_f (fun x => if js_sk n m M k x = true then D x else 0) i)) (nI i) f_jobs f_machines f_n f_decisions f_low f_high f_end f_time a_job a_machine a_dur a_plan a_first a_second a_heads a_tails a_prevs a_seq a_at a_best a_done a_mark := by
          intro h' t' a1 a2 a3 a4 a5 a6 a7 a8 a9
          have I := ih (i + 1) (by omega) h' t' a1 a2 (lt_s (fun x hx z => by have := lo x hx z; omega) (fun _ => ⟨a5, a6⟩)) (Or.inr ?_)
          · rw [sn, if_pos ski] at I
            unfold wY_machineBound_118
            refine ⟨ii, ?_⟩
            rw [js_rd hD hn li]
            exact nm_r (nI_add _ _) (nm_r (nI_1 i) I)
          · rcases at' with ⟨e1, e2, _⟩ | ⟨e1, e2⟩
            · have := a9 ⟨e1, e2⟩
              exact ⟨⟨i, ski, this.1⟩, ⟨i, ski, this.2⟩⟩
            · refine ⟨?_, ?_⟩
              · rcases a7 with z | z
                · rw [z]; exact e1
                · exact ⟨i, ski, z⟩
              · rcases a8 with z | z
                · rw [z]; exact e2
                · exact ⟨i, ski, z⟩
        have f97 : ∀ h', h' ≤ 1000 → h' ≤ h → h' ≤ H i → (h' = h ∨ h' = H i) → (h = 1000 → h' = H i) → wY_machineBound_97 post J18 (wY_machineBound_44 post J18 (nI m) (nI b) (nI k) f_jobs f_machines f_n f_decisions f_low f_high f_end f_time a_job a_machine a_dur a_plan a_first a_second a_heads a_tails a_prevs a_seq a_at a_best a_done a_mark (d + 1)) (nI m) (nI b) (nI k) (nI h') (nI t) (nI (sg_f (fun x => if js_sk n m M k x = true then D x else 0) i)) (nI i) f_jobs f_machines f_n f_decisions f_low f_high f_end f_time a_job a_machine a_dur a_plan a_first a_second a_heads a_tails a_prevs a_seq a_at a_best a_done a_mark := by
          intro h' a1 a3 a5 a7 a9
          unfold wY_machineBound_97
          refine ⟨ii, ?_⟩
          rw [js_rd hT hn li]
          refine br_c (fun s => ?_) (fun s => ⟨ii, nm_e ?_⟩)
          · rw [nI_leI (by omega) (by omega)] at s
            exact go h' t a1 t1 a3 (Nat.le_refl _) a5 s a7 (Or.inl rfl) (fun z => ⟨a9 z.1, by omega⟩)
          · rw [nI_leI (by omega) (by omega)] at s
            exact go h' (T i) a1 (by omega) a3 (by omega) a5 (Nat.le_refl _) a7 (Or.inr rfl) (fun z => ⟨a9 z.1, rfl⟩)
        rw [js_rd hH hn li]
        refine br_c (fun s => ?_) (fun s => ⟨ii, nm_e ?_⟩)
        · rw [nI_leI (by omega) (by omega)] at s
          exact f97 h h1 (Nat.le_refl _) s (Or.inl rfl) (fun z => by omega)
        · rw [nI_leI (by omega) (by omega)] at s
          exact f97 (H i) (by omega) (by omega) (Nat.le_refl _) (Or.inr rfl) (fun _ => rfl)
      · rw [nI_eq (by omega) (by omega)] at r
        exact nm_e (skip fun z => r (js_ski.mp z).1.2)
theorem yw_mb {post : Int32 → Prop} {n nm m : Nat} {J M D H T : Nat → Nat} (yc : js_YC n nm J M D f_n f_machines a_job a_machine a_dur) (hH : js_Ar n a_heads H) (hT : js_Ar n a_tails T) (bb : ∀ x, x < n → H x ≤ 160 ∧ T x ≤ 160) (hm : m < nm)
    (K : ∀ v, v ≤ 3000 → js_BD n M D H T m v → post (nI v)) : wpY_machineBound post (f_jobs, f_machines, f_n, f_decisions, f_low, f_high, f_end, f_time, a_job, a_machine, a_dur, a_plan, a_first, a_second, a_heads, a_tails, a_prevs, a_seq, a_at, a_best, a_done, a_mark) (nI m) := by
  have hn := yc.1
  have en := yc.2.1
  have em := yc.2.2.1
  have n4 := yc.2.2.2.1
  have bd := yc.2.2.2.2.2.2.2
  have sh : (1 : Int32) <<< (f_n &&& 31) = nI (2 ^ n) := by
    have z : ∀ k, k < 9 → (1 : Int32) <<< (nI k &&& 31) = nI (2 ^ k) := by decide +kernel
    rw [en]; exact z n (by omega)
  have p8 : 2 ^ n ≤ 256 := by
    have : 2 ^ n ≤ 2 ^ 8 := Nat.pow_le_pow_right (by decide) hn
    omega
  have su160 : ∀ S : Nat → Bool, js_su n D S ≤ 160 := by
    intro S
    have e := sg_const 20 n
    have l : js_su n D S ≤ sg_f (fun _ => 20) n := sg_le fun x hx => by
      have := (bd x (by omega)).2.2.2
      split <;> omega
    omega
  have key : ∀ d k, k + d = 2 ^ n → ∀ b, b ≤ 3000 → (∀ k', k' < k → ∀ h t, js_ST n m M (js_sk n m M k') → (∀ x, js_sk n m M k' x = true → h ≤ H x ∧ t ≤ T x) → h + js_su n D (js_sk n m M k') + t ≤ b) → (b = 0 ∨ js_BE n M D H T m b) → wY_machineBound_18 post (nI m) f_jobs f_machines f_n f_decisions f_low f_high f_end f_time a_job a_machine a_dur a_plan a_first a_second a_heads a_tails a_prevs a_seq a_at a_best a_done a_mark (d + 1) (nI b) (nI k) := by
    intro d
    induction d with
    | zero =>
      intro k hk b hb a1 a2
      refine br_t (by rw [sh]; exact nI_le (by omega) (by omega)) (K b hb ⟨fun S h t st th => ?_, a2⟩)
      obtain ⟨k', hk', e⟩ := js_mask S n
      have eq : S = js_sk n m M k' := by
        funext x
        by_cases q : S x = true
        · rw [q]; exact (js_ski.mpr ⟨st.1 x q, by rw [e x (st.1 x q).1]; exact q⟩).symm
        · by_cases r : js_sk n m M k' x = true
          · have := (js_ski.mp r)
            rw [e x this.1.1] at this
            exact absurd this.2 q
          · rw [Bool.eq_false_iff.mpr q, Bool.eq_false_iff.mpr r]
      rw [eq] at st th ⊢
      exact a1 k' (by omega) h t st th
    | succ d ih =>
      intro k hk b hb a1 a2
      refine br_f (by rw [sh]; exact nI_ge (by omega) (by omega)) ⟨n + 1, ?_⟩
      refine yw_mb44 yc hH hT bb (by omega) (by omega) hb (fun no => ?_) (fun h t l1 l2 x1 x2 th => ?_) n 0 (by omega) 1000 1000 (by omega) (by omega) (fun x hx => by omega) (Or.inl ⟨rfl, rfl, fun x hx => by omega⟩)
      · refine ih (k + 1) (by omega) b hb (lt_s a1 (fun h t st th => ?_)) a2
        obtain ⟨x, q⟩ := st.2
        exact absurd q (no x)
      · have s1 := su160 (js_sk n m M k)
        have be : js_BE n M D H T m (h + js_su n D (js_sk n m M k) + t) := by
          obtain ⟨x, q, _⟩ := x1
          exact ⟨js_sk n m M k, h, t, ⟨fun x q => (js_ski.mp q).1, x, q⟩, th, Nat.le_refl _⟩
        refine ih (k + 1) (by omega) _ (by split <;> omega) (lt_s (fun k' hk' h' t' st' th' => ?_) (fun h' t' st' th' => ?_)) ?_
        · have := a1 k' hk' h' t' st' th'
          split <;> omega
        · obtain ⟨x, q, e⟩ := x1
          obtain ⟨x', q', e'⟩ := x2
          have := th' x q
          have := th' x' q'
          split <;> omega
        · by_cases q : h + js_su n D (js_sk n m M k) + t ≤ b
          · rw [if_pos q]; exact a2
          · rw [if_neg q]; exact Or.inr be
  unfold wpY_machineBound
  refine br_f (nI_pos (by omega)) (br_t (by rw [em]; exact nI_lt hm (by omega)) ⟨2 ^ n, ?_⟩)
  have p1 : 1 ≤ 2 ^ n := Nat.one_le_two_pow
  have e : 2 ^ n = (2 ^ n - 1) + 1 := by omega
  rw [e]
  refine key (2 ^ n - 1) 1 (by omega) 0 (by omega) (fun k' hk' h t st th => ?_) (Or.inl rfl)
  obtain ⟨x, q⟩ := st.2
  have z : k' = 0 := by omega
  rw [z] at q
  have := (js_ski.mp q).2
  simp at this
end
end
section
theorem js_RLn {n k : Nat} {D H T h t : Nat → Nat} {R C : Nat → Nat → Bool} (c : js_CX n D C H T) (g : js_GN R C) (g' : js_GN (js_T R) (js_T C)) (I : js_RL n D R C H T (k / 64) (k / 8 % 8) (k % 8 + 1) h t) :
    js_RL n D R C H T ((k + 1) / 64) ((k + 1) / 8 % 8) ((k + 1) % 8) h t := by
  have hn := c.1
  have bd : ∀ a b, R a b = true → a < n ∧ b < n := fun a b r => c.2.2.1.1 a b (g.1 a b r)
  by_cases e : k % 8 = 7
  · by_cases e2 : k / 8 % 8 = 7
    · have x1 : (k + 1) / 64 = k / 64 + 1 := by omega
      have x2 : (k + 1) / 8 % 8 = 0 := by omega
      have x3 : (k + 1) % 8 = 0 := by omega
      rw [x1, x2, x3]
      rw [e2, e] at I
      have I' : js_RL n D R C H T (k / 64) n 0 h t := by
        refine ⟨js_RIw (fun a b r p => ?_) I.1, js_RIw (fun a b r p => ?_) I.2⟩
        · have := bd a b r; unfold js_Pr; omega
        · have := bd b a r; unfold js_Pr; omega
      exact js_RLe c g g' I'
    · have x1 : (k + 1) / 64 = k / 64 := by omega
      have x2 : (k + 1) / 8 % 8 = k / 8 % 8 + 1 := by omega
      have x3 : (k + 1) % 8 = 0 := by omega
      rw [x1, x2, x3]
      rw [e] at I
      refine ⟨js_RIw (fun a b r p => ?_) I.1, js_RIw (fun a b r p => ?_) I.2⟩
      · have := bd a b r; unfold js_Pr at p ⊢; omega
      · have := bd b a r; unfold js_Pr at p ⊢; omega
  · have x1 : (k + 1) / 64 = k / 64 := by omega
    have x2 : (k + 1) / 8 % 8 = k / 8 % 8 := by omega
    have x3 : (k + 1) % 8 = k % 8 + 1 := by omega
    rw [x1, x2, x3]
    exact I
theorem xh_d8 {k : Nat} (h : k < 2 ^ 31) : nI k / 8 = nI (k / 8) := pk_div (d := 8) h (by decide) (by decide)
theorem xh_r8 {k : Nat} (h : k < 2 ^ 31) : nI k - nI k / 8 * 8 = nI (k % 8) := pk_rem (d := 8) h (by decide) (by decide)
section
variable {f_jobs f_machines f_n f_decisions f_low f_high f_end f_time : Int32} {a_job a_machine a_dur a_plan a_first a_second a_heads a_tails a_prevs a_seq a_at a_best a_done a_mark : Nat → Int32}
theorem yw_low {post : SY → Prop} {n nm : Nat} {J M D H T : Nat → Nat} (yc : js_YC n nm J M D f_n f_machines a_job a_machine a_dur) (hH : js_Ar n a_heads H) (hT : js_Ar n a_tails T) (bb : ∀ x, x < n → H x ≤ 160 ∧ T x ≤ 160)
    (K : ∀ v, v ≤ 3000 → js_GB n nm M D H T v → post (f_jobs, f_machines, f_n, f_decisions, nI v, f_high, f_end, f_time, a_job, a_machine, a_dur, a_plan, a_first, a_second, a_heads, a_tails, a_prevs, a_seq, a_at, a_best, a_done, a_mark)) : ∀ d i, i + d = nm → ∀ g, g ≤ 3000 → (∀ m, m < i → js_BU n M D H T m g) → (g = 0 ∨ ∃ m, m < nm ∧ js_BE n M D H T m g) →
      wY_renew_288 post f_jobs f_machines f_n f_decisions f_high f_end f_time a_job a_machine a_dur a_plan a_first a_second a_heads a_tails a_prevs a_seq a_at a_best a_done a_mark (d + 1) (nI i) (nI g) := by
  have em := yc.2.2.1
  have n4 := yc.2.2.2.1
  intro d
  induction d with
  | zero =>
    intro i hi g hg h1 h2
    have e : i = nm := by omega
    subst e
    exact br_t (xh_le em) (K g hg ⟨h1, h2⟩)
  | succ d ih =>
    intro i hi g hg h1 h2
    refine br_f (xh_ge em (by omega) (by omega)) ?_
    refine yw_mb yc hH hT bb (by omega) (fun v hv bd => ?_)
    refine br_c (fun q => ?_) (fun q => ?_)
    · rw [nI_leI (by omega) (by omega)] at q
      exact nm_r (nI_1 i) (ih (i + 1) (by omega) g hg (lt_s h1 (js_BUm bd.1 q)) h2)
    · rw [nI_leI (by omega) (by omega)] at q
      refine nm_r (nI_1 i) (ih (i + 1) (by omega) v hv (lt_s (fun x hx => js_BUm (h1 x hx) (by omega)) bd.1) ?_)
      rcases bd.2 with z | z
      · exact Or.inl z
      · exact Or.inr ⟨i, by omega, z⟩
theorem yw_512 {post : SY → Prop} {n nm : Nat} {J M D H T : Nat → Nat} {R C : Nat → Nat → Bool} (yc : js_YC n nm J M D f_n f_machines a_job a_machine a_dur) (c : js_CX n D C H T) (g : js_GN R C) (g' : js_GN (js_T R) (js_T C)) (pv : js_PV n R a_prevs) (hlow : f_low = nI 0)
    (K : ∀ v ah at', v ≤ 3000 → js_GB n nm M D H T v → js_Ar n ah H → js_Ar n at' T → post (f_jobs, f_machines, f_n, f_decisions, nI v, f_high, f_end, f_time, a_job, a_machine, a_dur, a_plan, a_first, a_second, ah, at', a_prevs, a_seq, a_at, a_best, a_done, a_mark)) :
    ∀ d k, k + d = 512 → ∀ ah at' h t, js_Ar n ah h → js_Ar n at' t → js_RL n D R C H T (k / 64) (k / 8 % 8) (k % 8) h t → wY_renew_146 post f_jobs f_machines f_n f_decisions f_low f_high f_end f_time (d + 1) (nI k) a_job a_machine a_dur a_plan a_first a_second ah at' a_prevs a_seq a_at a_best a_done a_mark := by
  have hn := c.1
  have en := yc.2.1
  have hD := yc.2.2.2.2.2.2.1
  have bb := js_CXb c
  intro d
  induction d with
  | zero =>
    intro k hk ah at' h t hH hT I
    have e : k = 512 := by omega
    subst e
    have rH : js_Ar n ah H := fun i hi => by rw [hH i hi, js_RIf c.2.2.1 hn I.1 i hi]
    have rT : js_Ar n at' T := fun i hi => by rw [hT i hi, js_RIf (js_Ts c.2.2.1) hn I.2 i hi]
    refine br_t (by decide) ⟨nm + 1, ?_⟩
    rw [hlow]
    exact yw_low yc rH rT (fun x hx => by have := bb x hx; omega) (fun v hv gb => K v ah at' hv gb rH rT) nm 0 (by omega) 0 (by omega) (fun m hm => by omega) (Or.inl rfl)
  | succ d ih =>
    intro k hk ah at' h t hH hT I
    refine br_f (nI_ge (b := 512) (by omega) (by decide)) ⟨by decide, by decide, ?_⟩
    have e2 : nI k / 8 - nI k / 8 / 8 * 8 = nI (k / 8 % 8) := by rw [xh_d8 (by omega), xh_r8 (by omega)]
    refine nm_r e2 ⟨by decide, nm_r (xh_r8 (by omega)) ?_⟩
    have no : ¬ R (k / 8 % 8) (k % 8) = true → ∀ y, y = nI k + 1 → wY_renew_146 post f_jobs f_machines f_n f_decisions f_low f_high f_end f_time (d + 1) y a_job a_machine a_dur a_plan a_first a_second ah at' a_prevs a_seq a_at a_best a_done a_mark := fun q =>
      nm_r (nI_1 k) (ih (k + 1) (by omega) ah at' h t hH hT (js_RLn c g g' (js_RLs I q)))
    have bd : ∀ a b, R a b = true → a < n ∧ b < n := fun a b r => c.2.2.1.1 a b (g.1 a b r)
    refine br_c (fun q => ?_) (fun q => br_c (fun r => ?_) (fun r => ?_))
    · rw [en, nI_leI (by omega) (by omega)] at q
      exact no fun z => by have := bd _ _ z; omega
    · rw [en, nI_leI (by omega) (by omega)] at r
      exact no fun z => by have := bd _ _ z; omega
    · rw [en, nI_leI (by omega) (by omega)] at q r
      have lx : k / 8 % 8 < n := by omega
      have ly : k % 8 < n := by omega
      have ix := xh_in (show k / 8 % 8 < 8 by omega)
      have iy := xh_in (show k % 8 < 8 by omega)
      have br := js_RLb c I
      have bx := br _ lx
      have by' := br _ ly
      refine ⟨iy, ?_⟩
      rw [js_cl (show k % 8 < 8 by omega)]
      refine br_c (fun s => ?_) (fun s => ?_)
      · exact no fun z => (js_bz (a_prevs (k % 8)) (show k / 8 % 8 < 31 by omega)).mp s ((pv _ ly _).mpr z)
      · have Rq : R (k / 8 % 8) (k % 8) = true := (pv _ ly _).mp (Classical.byContradiction fun z => s ((js_bz (a_prevs (k % 8)) (by omega)).mpr z))
        have I' := js_RLn c g g' (js_RLa c g.1 I Rq)
        refine ⟨ix, ix, iy, ?_⟩
        rw [js_cl (show k / 8 % 8 < 8 by omega)]
        have f239 : ∀ ah', js_Ar n ah' (js_rx D h (k / 8 % 8) (k % 8)) → wY_renew_239 post (wY_renew_146 post f_jobs f_machines f_n f_decisions f_low f_high f_end f_time (d + 1)) (nI k) (nI (k / 8 % 8)) (nI (k % 8)) f_jobs f_machines f_n f_decisions f_low f_high f_end f_time a_job a_machine a_dur a_plan a_first a_second ah' at' a_prevs a_seq a_at a_best a_done a_mark := by
          intro ah' hH'
          unfold wY_renew_239
          refine ⟨iy, iy, ix, ?_⟩
          rw [js_cl (show k / 8 % 8 < 8 by omega), js_cl (show k % 8 < 8 by omega), hD _ ly, hT _ ly, hT _ lx, nI_add]
          refine br_c (fun u => ?_) (fun u => ⟨iy, iy, ix, nm_e ?_⟩)
          · rw [nI_leI (by omega) (by omega)] at u
            have et := js_rxn (D := D) (h := t) (x := k % 8) (y := k / 8 % 8) (by omega)
            rw [et] at I'
            exact nm_r (nI_1 k) (ih (k + 1) (by omega) ah' at' _ _ hH' hT I')
          · rw [nI_leI (by omega) (by omega)] at u
            have et := js_rxp (D := D) (h := t) (x := k % 8) (y := k / 8 % 8) (by omega)
            refine nm_r (nI_1 k) (ih (k + 1) (by omega) ah' _ _ _ hH' ?_ I')
            rw [et, Nat.add_comm (D (k % 8))]
            exact js_Aru hT
        rw [hH _ lx, hD _ lx, hH _ ly, nI_add]
        refine br_c (fun u => ?_) (fun u => ⟨ix, ix, iy, nm_e ?_⟩)
        · rw [nI_leI (by omega) (by omega)] at u
          refine f239 ah ?_
          rw [js_rxn (D := D) u]; exact hH
        · rw [nI_leI (by omega) (by omega)] at u
          refine f239 _ ?_
          rw [js_rxp (D := D) u]
          exact js_Aru hH
theorem yw_64 {post : SY → Prop} {n nm dec : Nat} {J M D F S H T : Nat → Nat} {C : Nat → Nat → Bool} (yc : js_YC n nm J M D f_n f_machines a_job a_machine a_dur) (yd : js_YD dec F S f_decisions a_first a_second) (c : js_CX n D C H T) (g : js_GN (js_RR n J F S dec) C) (g' : js_GN (js_T (js_RR n J F S dec)) (js_T C)) (hlow : f_low = nI 0)
    (h0 : js_Ar n a_heads (fun _ => 0)) (t0 : js_Ar n a_tails (fun _ => 0))
    (K : ∀ v ah at' ap, v ≤ 3000 → js_GB n nm M D H T v → js_Ar n ah H → js_Ar n at' T → js_PV n (js_RR n J F S dec) ap → post (f_jobs, f_machines, f_n, f_decisions, nI v, f_high, f_end, f_time, a_job, a_machine, a_dur, a_plan, a_first, a_second, ah, at', ap, a_seq, a_at, a_best, a_done, a_mark)) :
    ∀ d k, k + d = 64 → ∀ ap, (∀ y, y < n → ∀ x, bt (ap y) x = true ↔ js_RR n J F S dec x y = true ∧ 8 * x + y < k) → wY_renew_85 post f_jobs f_machines f_n f_decisions f_low f_high f_end f_time (d + 1) (nI k) a_job a_machine a_dur a_plan a_first a_second a_heads a_tails ap a_seq a_at a_best a_done a_mark := by
  have hn := c.1
  have en := yc.2.1
  intro d
  induction d with
  | zero =>
    intro k hk ap I
    have e : k = 64 := by omega
    subst e
    have pv : js_PV n (js_RR n J F S dec) ap := fun y hy x => ⟨fun z => ((I y hy x).mp z).1, fun z => (I y hy x).mpr ⟨z, by have := (js_RRi.mp z).1; omega⟩⟩
    refine br_t (by decide) ⟨513, ?_⟩
    exact yw_512 yc c g g' pv hlow (fun v ah at' hv gb rH rT => K v ah at' ap hv gb rH rT pv) 512 0 (by omega) a_heads a_tails (fun _ => 0) (fun _ => 0) h0 t0 (js_RL0 (fun _ _ => rfl) (fun _ _ => rfl))
  | succ d ih =>
    intro k hk ap I
    refine br_f (nI_ge (b := 64) (by omega) (by decide)) ⟨by decide, nm_r (xh_d8 (by omega)) ⟨by decide, nm_r (xh_r8 (by omega)) ?_⟩⟩
    have no : ¬ js_RR n J F S dec (k / 8) (k % 8) = true → ∀ y, y = nI k + 1 → wY_renew_85 post f_jobs f_machines f_n f_decisions f_low f_high f_end f_time (d + 1) y a_job a_machine a_dur a_plan a_first a_second a_heads a_tails ap a_seq a_at a_best a_done a_mark := by
      intro q
      refine nm_r (nI_1 k) (ih (k + 1) (by omega) ap (fun y hy x => ?_))
      rw [I y hy x]
      constructor
      · rintro ⟨a, b⟩; exact ⟨a, by omega⟩
      · rintro ⟨a, b⟩
        refine ⟨a, ?_⟩
        by_cases z : 8 * x + y = k
        · have e1 : x = k / 8 := by omega
          have e2 : y = k % 8 := by omega
          rw [e1, e2] at a
          exact absurd a q
        · omega
    refine br_c (fun q => ?_) (fun q => br_c (fun r => ?_) (fun r => ?_))
    · rw [en, nI_leI (by omega) (by omega)] at q
      exact no fun z => by have := (js_RRi.mp z).1; omega
    · rw [en, nI_leI (by omega) (by omega)] at r
      exact no fun z => by have := (js_RRi.mp z).1; omega
    · rw [en, nI_leI (by omega) (by omega)] at q r
      have lx : k / 8 < n := by omega
      have ly : k % 8 < n := by omega
      have iy := xh_in (show k % 8 < 8 by omega)
      refine yw_before yc yd lx ly (fun z => br_f (by decide) ⟨iy, iy, ?_⟩) (fun z => br_t rfl (no z))
      rw [js_cl (show k % 8 < 8 by omega)]
      refine nm_e (nm_r (nI_1 k) (ih (k + 1) (by omega) _ (fun y hy x => ?_)))
      by_cases e : y = k % 8
      · rw [e, pk_us]
        rcases Nat.lt_or_ge x 32 with l | l
        · rw [js_bs (by omega) l, Bool.or_eq_true, decide_eq_true_eq, I _ ly x]
          constructor
          · rintro (⟨a, b⟩ | a)
            · exact ⟨a, by omega⟩
            · rw [a]; exact ⟨z, by omega⟩
          · rintro ⟨a, b⟩
            by_cases w : x = k / 8
            · exact Or.inr w
            · exact Or.inl ⟨a, by omega⟩
        · rw [b_big l]
          exact ⟨fun z => absurd z (by decide), fun z => by have := (js_RRi.mp z.1).1; omega⟩
      · rw [pk_un e, I y hy x]
        constructor
        · rintro ⟨a, b⟩; exact ⟨a, by omega⟩
        · rintro ⟨a, b⟩; exact ⟨a, by omega⟩
theorem yw_renew {post : SY → Prop} {n nm dec : Nat} {J M D F S H T : Nat → Nat} {C : Nat → Nat → Bool} (yc : js_YC n nm J M D f_n f_machines a_job a_machine a_dur) (yd : js_YD dec F S f_decisions a_first a_second) (c : js_CX n D C H T) (g : js_GN (js_RR n J F S dec) C) (g' : js_GN (js_T (js_RR n J F S dec)) (js_T C))
    (K : ∀ v ah at' ap, v ≤ 3000 → js_GB n nm M D H T v → js_Ar n ah H → js_Ar n at' T → js_PV n (js_RR n J F S dec) ap → post (f_jobs, f_machines, f_n, f_decisions, nI v, nI (sg_f D n), f_end, (-1), a_job, a_machine, a_dur, a_plan, a_first, a_second, ah, at', ap, a_seq, a_at, a_best, a_done, a_mark)) : wpY_renew post (f_jobs, f_machines, f_n, f_decisions, f_low, f_high, f_end, f_time, a_job, a_machine, a_dur, a_plan, a_first, a_second, a_heads, a_tails, a_prevs, a_seq, a_at, a_best, a_done, a_mark) := by
  have hn := c.1
  have en := yc.2.1
  have hD := yc.2.2.2.2.2.2.1
  have key54 : ∀ ah at' ap, js_Ar n ah (fun _ => 0) → js_Ar n at' (fun _ => 0) → (∀ y, y < n → ap y = 0) → ∀ d i, i + d = n → wY_renew_54 post f_jobs f_machines f_n f_decisions 0 f_end (-1) a_job a_machine a_dur a_plan a_first a_second ah at' ap a_seq a_at a_best a_done a_mark (d + 1) (nI i) (nI (sg_f D i)) := by
    intro ah at' ap h0 t0 p0 d
    induction d with
    | zero =>
      intro i hi
      have e : i = n := by omega
      subst e
      refine br_t (xh_le en) ⟨65, ?_⟩
      refine yw_64 yc yd c g g' rfl h0 t0 (fun v ah at' ap hv gb rH rT pv => K v ah at' ap hv gb rH rT pv) 64 0 (by omega) ap (fun y hy x => ?_)
      rw [p0 y hy, b_0]
      exact ⟨fun z => absurd z (by decide), fun z => by omega⟩
    | succ d ih =>
      intro i hi
      have ii := xh_in (show i < 8 by omega)
      refine br_f (xh_ge en (by omega) hn) ⟨ii, ?_⟩
      rw [js_rd hD hn (show i < n by omega)]
      exact nm_r (nI_add _ _) (nm_r (nI_1 i) (ih (i + 1) (by omega)))
  have key17 : ∀ d i, i + d = n → ∀ ah at' ap, js_Ar i ah (fun _ => 0) → js_Ar i at' (fun _ => 0) → (∀ y, y < i → ap y = 0) → wY_renew_17 post f_jobs f_machines f_n f_decisions 0 0 f_end (-1) (d + 1) (nI i) a_job a_machine a_dur a_plan a_first a_second ah at' ap a_seq a_at a_best a_done a_mark := by
    intro d
    induction d with
    | zero =>
      intro i hi ah at' ap h0 t0 p0
      have e : i = n := by omega
      subst e
      exact br_t (xh_le en) ⟨i + 1, key54 ah at' ap h0 t0 p0 i 0 (by omega)⟩
    | succ d ih =>
      intro i hi ah at' ap h0 t0 p0
      have ii := xh_in (show i < 8 by omega)
      have cl := js_cl (show i < 8 by omega)
      refine br_f (xh_ge en (by omega) hn) ⟨ii, nm_r (by rw [cl]) ⟨ii, nm_r (by rw [cl]) ⟨ii, nm_r (by rw [cl]) (nm_r (nI_1 i) (ih (i + 1) (by omega) (upd ah i 0) (upd at' i 0) (upd ap i 0) ?_ ?_ ?_))⟩⟩⟩
      · exact lt_s (fun j hj => by rw [pk_un (by omega)]; exact h0 j hj) pk_us
      · exact lt_s (fun j hj => by rw [pk_un (by omega)]; exact t0 j hj) pk_us
      · exact lt_s (fun j hj => by rw [pk_un (by omega)]; exact p0 j hj) pk_us
  unfold wpY_renew
  exact ⟨n + 1, key17 n 0 (by omega) a_heads a_tails a_prevs (fun j hj => by omega) (fun j hj => by omega) (fun j hj => by omega)⟩
end
end
section
def js_ls (g : Nat) : Int32 := nI g + (-1)
theorem js_ls0 : js_ls 0 = -1 := by decide
theorem js_lss (v : Nat) : js_ls (v + 1) = nI v := pk_m1 v
theorem xh_sub {z d : Int32} : (z &&& (d ^^^ (-1))) = 0 ↔ ∀ x, bt z x = true → bt d x = true := by
  rw [js_b0]
  constructor
  · intro h x hz
    rcases Nat.lt_or_ge x 32 with l | l
    · have := h x l
      rw [b_and, b_xor, b_m1 x l, hz] at this
      simpa using this
    · rw [b_big l] at hz; exact absurd hz (by decide)
  · intro h x l q
    rw [b_and, b_xor, b_m1 x l] at q
    simp at q
    have := h x q.1
    rw [this] at q
    exact absurd q.2 (by decide)
section
variable {f_jobs f_machines f_n f_decisions f_low f_high f_end f_time : Int32} {a_job a_machine a_dur a_plan a_first a_second a_heads a_tails a_prevs a_seq a_at a_best a_done a_mark : Nat → Int32}
theorem yw_tied {post : Int32 → Prop} {n nm x y : Nat} {J M D : Nat → Nat} (yc : js_YC n nm J M D f_n f_machines a_job a_machine a_dur) (hx : x < n) (hy : y < n) (h1 : js_TD J M x y → post 1) (h0 : ¬ js_TD J M x y → post 0) : wpY_tied post (f_jobs, f_machines, f_n, f_decisions, f_low, f_high, f_end, f_time, a_job, a_machine, a_dur, a_plan, a_first, a_second, a_heads, a_tails, a_prevs, a_seq, a_at, a_best, a_done, a_mark) (nI x) (nI y) := by
  obtain ⟨hn, _, _, n4, hJ, hM, _, bd⟩ := yc
  have ix := xh_in (show x < 8 by omega)
  have iy := xh_in (show y < 8 by omega)
  have bx := bd x hx
  have by' := bd y hy
  unfold wpY_tied
  refine ⟨ix, iy, ?_⟩
  rw [js_rd hJ hn hx, js_rd hJ hn hy, js_rd hM hn hx, js_rd hM hn hy]
  refine br_c (fun q => ?_) (fun q => ⟨ix, iy, br_c (fun r => ?_) (fun r => ?_)⟩)
  · rw [nI_eq (by omega) (by omega)] at q
    exact h1 (Or.inl q)
  · rw [nI_eq (by omega) (by omega)] at r
    exact h1 (Or.inr r)
  · rw [nI_eq (by omega) (by omega)] at q r
    exact h0 fun z => z.elim q r
theorem yw_place73 {post : Int32 → SY → Prop} {n nm p c : Nat} {J M D σ a : Nat → Nat} {R : Nat → Nat → Bool} (yc : js_YC n nm J M D f_n f_machines a_job a_machine a_dur) (hp : p < n) (hc : c < n) (I : js_YI n J M D R p σ a) (sq : ∀ q, q < p → a_seq q = nI (σ q)) (ha : js_Ar n a_at a)
    (K1 : (p = 0 ∨ a (σ (p - 1)) ≤ js_st n J M D (js_sq σ p) a c) → post 1 (f_jobs, f_machines, f_n, f_decisions, f_low, f_high, f_end, f_time, a_job, a_machine, a_dur, a_plan, a_first, a_second, a_heads, a_tails, a_prevs, a_seq, upd a_at c (nI (js_st n J M D (js_sq σ p) a c)), a_best, a_done, a_mark)) (K0 : ¬ (p = 0 ∨ a (σ (p - 1)) ≤ js_st n J M D (js_sq σ p) a c) → post 0 (f_jobs, f_machines, f_n, f_decisions, f_low, f_high, f_end, f_time, a_job, a_machine, a_dur, a_plan, a_first, a_second, a_heads, a_tails, a_prevs, a_seq, a_at, a_best, a_done, a_mark)) :
    ∀ d q, q + d = p → ∀ s, (∀ r, r < q → js_TD J M (σ r) c → a (σ r) + D (σ r) ≤ s) → s ≤ js_st n J M D (js_sq σ p) a c → wY_place_73 post (nI p) (nI c) f_jobs f_machines f_n f_decisions f_low f_high f_end f_time a_job a_machine a_dur a_plan a_first a_second a_heads a_tails a_prevs a_seq a_at a_best a_done a_mark (d + 1) (nI s) (nI q) := by
  have hn := yc.1
  have hD := yc.2.2.2.2.2.2.1
  have ic := xh_in (show c < 8 by omega)
  have inA : ∀ r, r < p → js_sq σ p (σ r) = true := fun r hr => js_sqi.mpr ⟨r, hr, rfl⟩
  have b5 : ∀ r, r < p → a (σ r) + D (σ r) ≤ 160 := fun r hr => by have := I.2.2.2.2 _ (inA r hr); omega
  have st160 : js_st n J M D (js_sq σ p) a c ≤ 160 := js_stle fun x hx ax _ => by have := I.2.2.2.2 x ax; omega
  intro d
  induction d with
  | zero =>
    intro q hq s h1 h2
    have e : q = p := by omega
    subst e
    have es : s = js_st n J M D (js_sq σ q) a c := by
      refine Nat.le_antisymm h2 (js_stle fun x hx ax t => ?_)
      obtain ⟨r, hr, e⟩ := js_sqi.mp ax
      subst e
      exact h1 r hr t
    subst es
    refine br_t (Int32.le_refl _) ?_
    cases q with
    | zero =>
      refine br_t (by decide) ⟨ic, nm_r (by rw [js_cl (show c < 8 by omega)]) (K1 (Or.inl rfl))⟩
    | succ q =>
      have lq := I.1 q (by omega)
      have il := xh_in (show σ q < 8 by omega)
      have bq := b5 q (by omega)
      refine br_f (nI_nle (by omega) (by omega)) ?_
      rw [nI_pred, js_cl (show q < 8 by omega), sq q (by omega)]
      refine ⟨xh_in (by omega), il, ?_⟩
      rw [js_rd ha hn lq]
      refine br_c (fun z => ⟨ic, nm_r (by rw [js_cl (show c < 8 by omega)]) (K1 (Or.inr ?_))⟩) (fun z => K0 ?_)
      · rw [nI_leI (by omega) (by omega)] at z
        exact z
      · rw [nI_leI (by omega) (by omega)] at z
        rintro (w | w)
        · omega
        · exact z w
  | succ d ih =>
    intro q hq s h1 h2
    have lq : q < p := by omega
    have iq := xh_in (show q < 8 by omega)
    have ls := I.1 q lq
    have is := xh_in (show σ q < 8 by omega)
    have bq := b5 q lq
    refine br_f (nI_ge lq (by omega)) ⟨iq, nm_r (by rw [js_cl (show q < 8 by omega), sq q lq]) ?_⟩
    refine yw_tied yc ls hc (fun t => br_f (by decide) ⟨is, is, ?_⟩) (fun t => br_t rfl (nm_r (nI_1 q) (ih (q + 1) (by omega) s (lt_s h1 (fun z => absurd z t)) h2)))
    rw [js_rd ha hn ls, js_rd hD hn ls, nI_add]
    refine br_c (fun z => ?_) (fun z => ⟨is, is, nm_e ?_⟩)
    · rw [nI_leI (by omega) (by omega)] at z
      exact nm_r (nI_1 q) (ih (q + 1) (by omega) s (lt_s h1 (fun _ => z)) h2)
    · rw [nI_leI (by omega) (by omega)] at z
      exact nm_r (nI_1 q) (ih (q + 1) (by omega) _ (lt_s (fun r hr t => by have := h1 r hr t; omega) (fun _ => Nat.le_refl _)) (js_stge ls (inA q lq) t))
theorem yw_place {post : Int32 → SY → Prop} {n nm p c : Nat} {J M D σ a : Nat → Nat} {R : Nat → Nat → Bool} {x1 x2 : Int32} (yc : js_YC n nm J M D f_n f_machines a_job a_machine a_dur) (hp : p < n) (hc : c < n) (I : js_YI n J M D R p σ a) (sq : ∀ q, q < p → a_seq q = nI (σ q)) (sp : a_seq p = nI c)
    (dn : ∀ x, bt (a_done p) x = true ↔ js_sq σ p x = true) (ha : js_Ar n a_at a)
    (need : (nI c = x2 → ∀ x, bt (a_prevs c ||| ((1 : Int32) <<< (x1 &&& 31))) x = true ↔ R x c = true) ∧ (¬ nI c = x2 → ∀ x, bt (a_prevs c) x = true ↔ R x c = true))
    (K1 : js_ac n J M D R p σ a c → post 1 (f_jobs, f_machines, f_n, f_decisions, f_low, f_high, f_end, f_time, a_job, a_machine, a_dur, a_plan, a_first, a_second, a_heads, a_tails, a_prevs, a_seq, upd a_at c (nI (js_st n J M D (js_sq σ p) a c)), a_best, a_done, a_mark)) (K0 : ¬ js_ac n J M D R p σ a c → post 0 (f_jobs, f_machines, f_n, f_decisions, f_low, f_high, f_end, f_time, a_job, a_machine, a_dur, a_plan, a_first, a_second, a_heads, a_tails, a_prevs, a_seq, a_at, a_best, a_done, a_mark)) : wpY_place post (f_jobs, f_machines, f_n, f_decisions, f_low, f_high, f_end, f_time, a_job, a_machine, a_dur, a_plan, a_first, a_second, a_heads, a_tails, a_prevs, a_seq, a_at, a_best, a_done, a_mark) (nI p) x1 x2 := by
  have hn := yc.1
  have ip := xh_in (show p < 8 by omega)
  have ic := xh_in (show c < 8 by omega)
  have f38 : ∀ z0, (∀ x, bt z0 x = true ↔ R x c = true) → wY_place_38 post (nI p) (nI c) 0 z0 f_jobs f_machines f_n f_decisions f_low f_high f_end f_time a_job a_machine a_dur a_plan a_first a_second a_heads a_tails a_prevs a_seq a_at a_best a_done a_mark := by
    intro z0 hz
    unfold wY_place_38
    refine ⟨ip, ?_⟩
    rw [js_cl (show p < 8 by omega)]
    refine br_c (fun q => ⟨ip, br_c (fun r => ?_) (fun r => ?_)⟩) (fun q => ?_)
    · have q' := (js_bz (a_done p) (show c < 31 by omega)).mp q
      have ok : js_ok R (js_sq σ p) c := ⟨fun z => q' ((dn c).mpr z), fun x z => (dn x).mp (xh_sub.mp r x ((hz x).mpr z))⟩
      refine ⟨p + 1, ?_⟩
      exact yw_place73 yc hp hc I sq ha (fun z => K1 ⟨ok, z⟩) (fun z => K0 fun w => z w.2) p 0 (by omega) 0 (fun r hr => by omega) (Nat.zero_le _)
    · exact K0 fun w => r (xh_sub.mpr fun x z => (dn x).mpr (w.1.2 x ((hz x).mp z)))
    · exact K0 fun w => q ((js_bz (a_done p) (show c < 31 by omega)).mpr fun z => w.1.1 ((dn c).mp z))
  unfold wpY_place
  refine ⟨ip, nm_r (e' := nI c) (by rw [js_cl (show p < 8 by omega), sp]) (br_c (fun q => ⟨ic, ?_⟩) (fun q => ⟨ic, ?_⟩))⟩
  · rw [js_cl (show c < 8 by omega)]
    exact f38 _ (need.1 q)
  · rw [js_cl (show c < 8 by omega)]
    exact f38 _ (need.2 q)
theorem yw_keep {post : Int32 → SY → Prop} {n nm g : Nat} {J M D a b : Nat → Nat} {P : (Nat → Nat) → Prop} (yc : js_YC n nm J M D f_n f_machines a_job a_machine a_dur) (n1 : 1 ≤ n) (ha : js_Ar n a_at a) (hs : js_sp n D a ≤ 160) (hb : js_Ar n a_best b) (gd : js_GD n D P b g)
    (K : ∀ ab b' g', js_Ar n ab b' → js_KP n D b g a b' g' → post (js_ls g') (f_jobs, f_machines, f_n, f_decisions, f_low, f_high, f_end, f_time, a_job, a_machine, a_dur, a_plan, a_first, a_second, a_heads, a_tails, a_prevs, a_seq, a_at, ab, a_done, a_mark)) : wpY_keep post (f_jobs, f_machines, f_n, f_decisions, f_low, f_high, f_end, f_time, a_job, a_machine, a_dur, a_plan, a_first, a_second, a_heads, a_tails, a_prevs, a_seq, a_at, a_best, a_done, a_mark) (js_ls g) := by
  have hn := yc.1
  have en := yc.2.1
  have hD := yc.2.2.2.2.2.2.1
  have bd := yc.2.2.2.2.2.2.2
  have ba : ∀ x, x < n → a x + D x ≤ 160 := fun x hx => Nat.le_trans (js_spge hx) hs
  have bb : g ≠ 0 → ∀ x, x < n → b x ≤ 160 := by
    intro z x hx
    rcases gd with e | ⟨_, e, l⟩
    · exact absurd e z
    · have := js_spge (D := D) (s := b) hx; omega
  have f134 : ∀ d i, i + d = n → ∀ ab, (∀ j, j < i → ab j = nI (a j)) → (g = 0 ∨ js_sp n D a + 1 < g ∨ (js_sp n D a + 1 = g ∧ js_lex n a b)) → wY_keep_134 post (nI (js_sp n D a)) f_jobs f_machines f_n f_decisions f_low f_high f_end f_time (d + 1) (nI i) a_job a_machine a_dur a_plan a_first a_second a_heads a_tails a_prevs a_seq a_at ab a_done a_mark := by
    intro d
    induction d with
    | zero =>
      intro i hi ab h w
      have e : i = n := by omega
      subst e
      refine br_t (xh_le en) ?_
      have KK := K ab a (js_sp i D a + 1) h ⟨Or.inl ⟨fun x _ => rfl, rfl⟩, ⟨by omega, Or.inr ⟨rfl, js_lexle fun _ _ => Nat.le_refl _⟩⟩, fun s c => ?_⟩
      · rw [js_lss] at KK; exact KK
      · refine ⟨by omega, ?_⟩
        rcases w with w | w | ⟨w, l⟩
        · exact absurd w c.1
        · rcases c.2 with q | ⟨q, _⟩ <;> exact Or.inl (by omega)
        · rcases c.2 with q | ⟨q, l'⟩
          · exact Or.inl (by omega)
          · exact Or.inr ⟨by omega, js_lextr l l'⟩
    | succ d ih =>
      intro i hi ab h w
      have ii := xh_in (show i < 8 by omega)
      refine br_f (xh_ge en (by omega) hn) ⟨ii, ii, nm_r (e' := upd ab i (nI (a i))) (by rw [js_rd ha hn (show i < n by omega), js_cl (show i < 8 by omega)]) (nm_r (nI_1 i) (ih (i + 1) (by omega) _ (lt_s (fun j hj => ?_) pk_us) w))⟩
      rw [pk_un (by omega)]; exact h j hj
  have f117 : (g = 0 ∨ js_sp n D a + 1 < g ∨ (js_sp n D a + 1 = g ∧ js_lex n a b)) → wY_keep_117 post (js_ls g) (nI (js_sp n D a)) f_jobs f_machines f_n f_decisions f_low f_high f_end f_time a_job a_machine a_dur a_plan a_first a_second a_heads a_tails a_prevs a_seq a_at a_best a_done a_mark := by
    intro w
    unfold wY_keep_117 wY_keep_122
    exact br_f (by decide) ⟨n + 1, f134 n 0 (by omega) a_best (fun j hj => by omega) w⟩
  have f121 : g ≠ 0 → (g < js_sp n D a + 1 ∨ (g = js_sp n D a + 1 ∧ js_lex n b a)) → wY_keep_121 post (js_ls g) (nI (js_sp n D a)) f_jobs f_machines f_n f_decisions f_low f_high f_end f_time a_job a_machine a_dur a_plan a_first a_second a_heads a_tails a_prevs a_seq a_at a_best a_done a_mark := by
    intro z w
    unfold wY_keep_121 wY_keep_122
    exact br_t rfl (K a_best b g hb ⟨Or.inr ⟨rfl, rfl⟩, ⟨z, w⟩, fun s c => c⟩)
  have f88 : ∀ i, i < n → (g ≠ 0 → (∀ j, j < i → a j = b j) ∧ (i + 1 = n ∨ a i ≠ b i)) → wY_keep_88 post (js_ls g) (nI (js_sp n D a)) (nI i) f_jobs f_machines f_n f_decisions f_low f_high f_end f_time a_job a_machine a_dur a_plan a_first a_second a_heads a_tails a_prevs a_seq a_at a_best a_done a_mark := by
    intro i hi h
    have ii := xh_in (show i < 8 by omega)
    unfold wY_keep_88
    by_cases z : g = 0
    · subst z
      exact br_t (by decide) (f117 (Or.inl rfl))
    · obtain ⟨h1, h2⟩ := h z
      have bg : g ≤ 161 := by
        rcases gd with e | ⟨_, _, l⟩
        · exact absurd e z
        · exact l
      have e : js_ls g = nI (g - 1) := by
        have := js_lss (g - 1)
        rw [show g - 1 + 1 = g by omega] at this
        exact this
      have bi := bb z i hi
      have ai := ba i hi
      have f117' := f117
      have f121' := f121
      rw [e] at f117' f121' ⊢
      refine br_f (nI_pos (by omega)) (br_c (fun q => ?_) (fun q => br_c (fun r => ⟨ii, ii, ?_⟩) (fun r => ?_)))
      · rw [nI_ltI (by omega) (by omega)] at q
        exact f117' (Or.inr (Or.inl (by omega)))
      · rw [nI_ltI (by omega) (by omega)] at q
        rw [nI_eq (by omega) (by omega)] at r
        rw [js_rd hb hn hi, js_rd ha hn hi]
        refine br_c (fun s => ?_) (fun s => ?_)
        · rw [nI_leI (by omega) (by omega)] at s
          refine f121' z (Or.inr ⟨by omega, ?_⟩)
          by_cases w : b i < a i
          · exact Or.inr ⟨i, hi, fun j hj => (h1 j hj).symm, w⟩
          · have w' : a i = b i := by omega
            have : i + 1 = n := h2.elim id (fun y => absurd w' y)
            refine Or.inl fun j hj => ?_
            by_cases u : j = i
            · rw [u, w']
            · exact (h1 j (by omega)).symm
        · rw [nI_leI (by omega) (by omega)] at s
          exact f117' (Or.inr (Or.inr ⟨by omega, Or.inr ⟨i, hi, h1, by omega⟩⟩))
      · rw [nI_ltI (by omega) (by omega)] at q
        rw [nI_eq (by omega) (by omega)] at r
        exact f121' z (Or.inl (by omega))
  have en1 : f_n - 1 = nI (n - 1) := by
    have := nI_pred (n - 1)
    rw [show n - 1 + 1 = n by omega] at this
    rw [en, this]
  have f57 : ∀ d i, i + d + 1 = n → (g ≠ 0 → ∀ j, j < i → a j = b j) → wY_keep_57 post (js_ls g) (nI (js_sp n D a)) f_jobs f_machines f_n f_decisions f_low f_high f_end f_time a_job a_machine a_dur a_plan a_first a_second a_heads a_tails a_prevs a_seq a_at a_best a_done a_mark (d + 1) (nI i) := by
    intro d
    induction d with
    | zero =>
      intro i hi h
      refine br_t (by rw [en1, show n - 1 = i by omega]; exact Int32.le_refl _) (f88 i (by omega) (fun z => ⟨h z, Or.inl (by omega)⟩))
    | succ d ih =>
      intro i hi h
      have ii := xh_in (show i < 8 by omega)
      refine br_f (by rw [en1]; exact nI_ge (by omega) (by omega)) ⟨ii, ii, ?_⟩
      have ai := ba i (by omega)
      refine br_c (fun q => ?_) (fun q => ?_)
      · refine nm_r (nI_1 i) (ih (i + 1) (by omega) (fun z => lt_s (h z) ?_))
        have bi := bb z i (by omega)
        rw [js_rd ha hn (by omega), js_rd hb hn (by omega), nI_eq (by omega) (by omega)] at q
        exact q
      · refine f88 i (by omega) (fun z => ⟨h z, Or.inr fun e => q ?_⟩)
        rw [js_rd ha hn (by omega), js_rd hb hn (by omega), e]
  have f7 : ∀ d i, i + d = n → wY_keep_7 post (js_ls g) 0 f_jobs f_machines f_n f_decisions f_low f_high f_end f_time a_job a_machine a_dur a_plan a_first a_second a_heads a_tails a_prevs a_seq a_at a_best a_done a_mark (d + 1) (nI (sg_x (fun x => a x + D x) i)) (nI i) := by
    intro d
    induction d with
    | zero =>
      intro i hi
      have e : i = n := by omega
      subst e
      exact br_t (xh_le en) ⟨i, by
        have := f57 (i - 1) 0 (by omega) (fun _ j hj => by omega)
        rw [show i - 1 + 1 = i by omega] at this
        exact this⟩
    | succ d ih =>
      intro i hi
      have ii := xh_in (show i < 8 by omega)
      have ai := ba i (by omega)
      have l : sg_x (fun x => a x + D x) i ≤ 160 := sg_xle fun j hj => ba j (by omega)
      have e : sg_x (fun x => a x + D x) (i + 1) = if sg_x (fun x => a x + D x) i ≤ a i + D i then a i + D i else sg_x (fun x => a x + D x) i := rfl
      refine br_f (xh_ge en (by omega) hn) ⟨ii, ii, ?_⟩
      rw [js_rd ha hn (show i < n by omega), js_rd hD hn (show i < n by omega), nI_add]
      have I := ih (i + 1) (by omega)
      refine br_c (fun q => ?_) (fun q => ⟨ii, ii, nm_e ?_⟩)
      · rw [nI_leI (by omega) (by omega)] at q
        have e' : sg_x (fun x => a x + D x) (i + 1) = sg_x (fun x => a x + D x) i := by rw [e]; split <;> omega
        rw [e'] at I
        exact nm_r (nI_1 i) I
      · rw [nI_leI (by omega) (by omega)] at q
        have e' : sg_x (fun x => a x + D x) (i + 1) = a i + D i := by rw [e]; split <;> omega
        rw [e'] at I
        exact nm_r (nI_1 i) I
  unfold wpY_keep
  exact ⟨n + 1, f7 n 0 (by omega)⟩
end
end
section
theorem xh_of (f : Nat → Int32) : ∃ a : Nat → Nat, ∀ i, f i = nI (a i) :=
  ⟨fun i => (f i).toBitVec.toNat, fun i => Int32.toBitVec_inj.mp (by show _ = BitVec.ofNat 32 _; simp)⟩
theorem xh_m1 (c : Nat) : nI c + (-1) + 1 = nI c := by
  rw [Int32.add_assoc]
  have : (-1 : Int32) + 1 = 0 := by decide
  rw [this, Int32.add_zero]
section
variable {f_jobs f_machines f_n f_decisions f_low f_high f_end f_time : Int32} {a_job a_machine a_dur a_plan a_first a_second a_heads a_tails a_prevs a_seq a_at a_best a_done a_mark : Nat → Int32}
theorem yw_search {post : Int32 → SY → Prop} {n nm : Nat} {J M D s : Nat → Nat} {R : Nat → Nat → Bool} {P : (Nat → Nat) → Prop} {x1 x2 : Int32} (yc : js_YC n nm J M D f_n f_machines a_job a_machine a_dur)
    (hR : ∀ x y, R x y = true → x < n ∧ y < n) (ht : ∀ x y, R x y = true → js_TD J M x y) (hch : ∀ x y, x < y → y < n → J x = J y → R x y = true)
    (hP : ∀ b b', (∀ x, x < n → b x = b' x) → P b → P b') (fin : ∀ σ a, js_YI n J M D R n σ a → P a)
    (need : ∀ c, c < n → (nI c = x2 → ∀ x, bt (a_prevs c ||| ((1 : Int32) <<< (x1 &&& 31))) x = true ↔ R x c = true) ∧ (¬ nI c = x2 → ∀ x, bt (a_prevs c) x = true ↔ R x c = true))
    (K : ∀ g b sq at' ab dn, js_Ar n ab b → js_GD n D P b g → (js_SA n J M D R s → js_C n D b g s) → post (js_ls g) (f_jobs, f_machines, f_n, f_decisions, f_low, f_high, f_end, f_time, a_job, a_machine, a_dur, a_plan, a_first, a_second, a_heads, a_tails, a_prevs, sq, at', ab, dn, a_mark)) : wpY_search post (f_jobs, f_machines, f_n, f_decisions, f_low, f_high, f_end, f_time, a_job, a_machine, a_dur, a_plan, a_first, a_second, a_heads, a_tails, a_prevs, a_seq, a_at, a_best, a_done, a_mark) x1 x2 := by
  have hn := yc.1
  have en := yc.2.1
  have bd := yc.2.2.2.2.2.2.2
  have hD : ∀ x, x < n → 1 ≤ D x ∧ D x ≤ 20 := fun x hx => ⟨(bd x hx).2.2.1, (bd x hx).2.2.2⟩
  unfold wpY_search
  by_cases n0 : n = 0
  · subst n0
    refine br_t en ?_
    unfold wY_search_12
    obtain ⟨b, hb⟩ := xh_of a_best
    have YI0 : js_YI 0 J M D R 0 (fun _ => 0) b := ⟨fun q hq => by omega, rfl, fun x y h => by simp [js_sq] at h, fun x y h => by simp [js_sq] at h, fun x h => by simp [js_sq] at h⟩
    have KK := fun sq dn => K 1 b sq a_at a_best dn (fun i _ => hb i) (Or.inr ⟨fin _ _ YI0, rfl, by omega⟩) (fun _ => ⟨by omega, Or.inr ⟨rfl, Or.inl fun i hi => by omega⟩⟩)
    refine nm_e (nm_e ⟨2, ?_⟩)
    refine br_f (by decide) (br_f (by decide) ⟨xh_in (x := 0) (by omega), xh_in (x := 0) (by omega), nm_e ⟨xh_in (x := 0) (by omega), br_f ?_ (nm_e (nm_e ?_))⟩⟩)
    · rw [en]
      have z : (0 : Int32).toNatClampNeg = 0 := by decide
      rw [z, pk_us, pk_us]
      decide
    · exact br_f (by decide) (br_t (by decide) (KK _ _))
  · refine br_f (by rw [en]; exact nI_ne0 (by omega) (by omega)) ?_
    unfold wY_search_12
    refine nm_e (nm_e ⟨100001, ?_⟩)
    have n1 : 1 ≤ n := by omega
    have en1 : f_n - 1 = nI (n - 1) := by
      have := nI_pred (n - 1)
      rw [show n - 1 + 1 = n by omega] at this
      rw [en, this]
    have ge : ∀ k, k < 100000 → ¬ (100000 : Int32) ≤ nI k := fun k hk => nI_ge (b := 100000) hk (by decide)
    have main := js_dfs (n := n) (J := J) (M := M) (D := D) (s := s) (R := R) (P := P) (fun k p c σ a b g => ∀ sq at' ab dn, (∀ q, q < p → sq q = nI (σ q)) → sq p = nI c + (-1) → (∀ q, q ≤ p → ∀ x, bt (dn q) x = true ↔ js_sq σ q x = true) → js_Ar n at' a → js_Ar n ab b →
      wY_search_33 post x1 x2 (100001 - k) (js_ls g) (nI p) (nI k) f_jobs f_machines f_n f_decisions f_low f_high f_end f_time a_job a_machine a_dur a_plan a_first a_second a_heads a_tails a_prevs sq at' ab dn a_mark) hn hD hR ht hP fin ?r1 ?r2 ?r3 ?r4 ?r5 (n - 1) 0 (by omega) n 0 (by omega)
    case r1 =>
      intro k p σ a b g hk hp hW sq at' ab dn h1 h2 h3 h4 h5
      have e : 100001 - k = (100001 - (k + 1)) + 1 := by omega
      have ip := xh_in (show p + 1 < 8 by omega)
      rw [e]
      refine br_f (ge k hk) (br_f (nI_pos (by omega)) ⟨ip, ip, nm_r (e' := upd sq (p + 1) (nI n)) (by rw [js_cl (show p + 1 < 8 by omega), h2, xh_m1]) ⟨ip, ?_⟩⟩)
      rw [js_cl (show p + 1 < 8 by omega), pk_us]
      refine br_f (by rw [en]; exact nI_nlt (Nat.le_refl _) (by omega)) (nm_r (pk_m1 p) (nm_r (nI_1 k) (hW _ _ _ _ (fun q hq => ?_) ?_ (fun q hq => h3 q (by omega)) h4 h5)))
      · rw [pk_un (by omega)]; exact h1 q (by omega)
      · rw [pk_un (by omega), pk_m1]; exact h1 p (by omega)
    case r2 =>
      intro k p c σ a b g hk hp hc I nac hW sq at' ab dn h1 h2 h3 h4 h5
      have e : 100001 - k = (100001 - (k + 1)) + 1 := by omega
      have ip := xh_in (show p < 8 by omega)
      rw [e]
      refine br_f (ge k hk) (br_f (nI_pos (by omega)) ⟨ip, ip, nm_r (e' := upd sq p (nI c)) (by rw [js_cl (show p < 8 by omega), h2, xh_m1]) ⟨ip, ?_⟩⟩)
      rw [js_cl (show p < 8 by omega), pk_us]
      refine br_t (by rw [en]; exact nI_lt hc (by omega)) ?_
      have h1' : ∀ q, q < p → upd sq p (nI c) q = nI (σ q) := fun q hq => by rw [pk_un (by omega)]; exact h1 q hq
      refine yw_place (R := R) (σ := σ) (a := a) yc hp hc I h1' pk_us (h3 p (Nat.le_refl _)) h4 (need c hc) (fun ac => absurd ac nac) (fun _ => br_t rfl (nm_r (nI_1 k) (hW _ _ _ _ h1' ?_ h3 h4 h5)))
      rw [pk_us, pk_m1]
    case r3 =>
      intro k p c σ a b g hk hp hc I ac gd hW sq at' ab dn h1 h2 h3 h4 h5
      have e : 100001 - k = (100001 - (k + 1)) + 1 := by omega
      have ip := xh_in (show p < 8 by omega)
      rw [e]
      refine br_f (ge k hk) (br_f (nI_pos (by omega)) ⟨ip, ip, nm_r (e' := upd sq p (nI c)) (by rw [js_cl (show p < 8 by omega), h2, xh_m1]) ⟨ip, ?_⟩⟩)
      rw [js_cl (show p < 8 by omega), pk_us]
      refine br_t (by rw [en]; exact nI_lt hc (by omega)) ?_
      have h1' : ∀ q, q < p → upd sq p (nI c) q = nI (σ q) := fun q hq => by rw [pk_un (by omega)]; exact h1 q hq
      have I' := js_YIs (fun x hx => (hD x hx).2) ht I hc ac.1
      have I'' : js_YI n J M D R n (js_up σ p c) (js_up a c (js_st n J M D (js_sq σ p) a c)) := by rw [hp] at I'; exact I'
      have h4' : js_Ar n (upd at' c (nI (js_st n J M D (js_sq σ p) a c))) (js_up a c (js_st n J M D (js_sq σ p) a c)) := js_Aru h4
      refine yw_place (R := R) (σ := σ) (a := a) yc (by omega) hc I h1' pk_us (h3 p (Nat.le_refl _)) h4 (need c hc) (fun _ => br_f (by decide) (br_t (by rw [en1, show n - 1 = p by omega]) ?_)) (fun nac => absurd ac nac)
      refine yw_keep yc n1 h4' (js_YIb hn I'') h5 gd (fun ab' b' g' h5' kp => nm_r (nI_1 k) (hW b' g' kp _ _ _ _ h1' ?_ h3 h4' h5'))
      rw [pk_us, pk_m1]
    case r4 =>
      intro k p c σ a b g hk hp hc I ac hW sq at' ab dn h1 h2 h3 h4 h5
      have e : 100001 - k = (100001 - (k + 1)) + 1 := by omega
      have ip := xh_in (show p < 8 by omega)
      have ip1 := xh_in (show p + 1 < 8 by omega)
      rw [e]
      refine br_f (ge k hk) (br_f (nI_pos (by omega)) ⟨ip, ip, nm_r (e' := upd sq p (nI c)) (by rw [js_cl (show p < 8 by omega), h2, xh_m1]) ⟨ip, ?_⟩⟩)
      rw [js_cl (show p < 8 by omega), pk_us]
      refine br_t (by rw [en]; exact nI_lt hc (by omega)) ?_
      have h1' : ∀ q, q < p → upd sq p (nI c) q = nI (σ q) := fun q hq => by rw [pk_un (by omega)]; exact h1 q hq
      have h4' : js_Ar n (upd at' c (nI (js_st n J M D (js_sq σ p) a c))) (js_up a c (js_st n J M D (js_sq σ p) a c)) := js_Aru h4
      have ne : ¬ nI p = f_n - 1 := by
        rw [en1, nI_eq (by omega) (by omega)]; omega
      refine yw_place (R := R) (σ := σ) (a := a) yc (by omega) hc I h1' pk_us (h3 p (Nat.le_refl _)) h4 (need c hc) (fun _ => br_f (by decide) (br_f ne ⟨ip, ip, ?_⟩)) (fun nac => absurd ac nac)
      rw [nI_1, js_cl (show p + 1 < 8 by omega), pk_us]
      refine ⟨ip1, nm_e (nm_e ⟨ip1, nm_r (e' := upd (upd sq p (nI c)) (p + 1) (-1)) (by rw [js_cl (show p + 1 < 8 by omega)]) (nm_r (nI_1 k) (hW _ _ _ _ (fun q hq => ?_) ?_ (fun q hq x => ?_) h4' h5))⟩)⟩
      · rw [pk_un (by omega)]
        by_cases z : q = p
        · rw [z, pk_us, js_upc]
        · rw [js_upn z]; exact h1' q (by omega)
      · rw [pk_us]; decide
      · by_cases z : q = p + 1
        · have eq : js_sq (js_up σ p c) (p + 1) = js_ad (js_sq σ p) c := by
            simp only [js_sq]
            rw [js_upc, js_sqc (σ := js_up σ p c) (σ' := σ) (fun q hq => js_upn (by omega))]
          rw [z, pk_us, eq, js_adi]
          rcases Nat.lt_or_ge x 32 with l | l
          · rw [js_bs (by omega) l, Bool.or_eq_true, decide_eq_true_eq, h3 p (Nat.le_refl _) x]
            exact Or.comm
          · rw [b_big l]
            refine ⟨fun z => absurd z (by decide), fun z => ?_⟩
            rcases z with z | z
            · omega
            · obtain ⟨r, hr, e⟩ := js_sqi.mp z
              have := I.1 r hr
              omega
        · rw [pk_un z, js_sqc (σ := js_up σ p c) (σ' := σ) (fun r hr => js_upn (by omega))]
          exact h3 q (by omega) x
    case r5 =>
      intro k p c σ σ' a b g he hW sq at' ab dn h1 h2 h3 h4 h5
      refine hW sq at' ab dn (fun q hq => ?_) h2 (fun q hq x => ?_) h4 h5
      · rw [he q hq]; exact h1 q hq
      · rw [js_sqc (σ := σ) (σ' := σ') (fun r hr => he r (by omega))]
        exact h3 q hq x
    obtain ⟨a, ha⟩ := xh_of a_at
    obtain ⟨b, hb⟩ := xh_of a_best
    have cost := js_rc0 (n := n) (m := n - 1) (R := R) (A := js_sq (fun _ => 0) 0) hn
    have kc := js_KCle hn (fun x hx => (bd x hx).1) hch
    rw [show n - 1 + 1 = n by omega] at cost
    have kc' : js_ct 9 0 R n n (js_sq (fun _ => 0) 0) ≤ 43605 := kc
    have YI0 : js_YI n J M D R 0 (fun _ => 0) a := ⟨fun q hq => by omega, js_cn0 n, fun x y h => by simp [js_sq] at h, fun x y h => by simp [js_sq] at h, fun x h => by simp [js_sq] at h⟩
    have fi := main (fun _ => 0) a b 0 0 (fun k a b g => ∀ sq at' ab dn, js_Ar n ab b → post (js_ls g) (f_jobs, f_machines, f_n, f_decisions, f_low, f_high, f_end, f_time, a_job, a_machine, a_dur, a_plan, a_first, a_second, a_heads, a_tails, a_prevs, sq, at', ab, dn, a_mark))
      (fun k a b g hk hQ sq at' ab dn h1 h2 h3 h4 h5 => by
        obtain ⟨f, ef⟩ : ∃ f, 100001 - k = (f + 1) + 1 := ⟨100001 - k - 2, by omega⟩
        have ip := xh_in (show 0 < 8 by omega)
        rw [ef]
        refine br_f (ge k hk) (br_f (nI_pos (by omega)) ⟨ip, ip, nm_r (e' := upd sq 0 (nI n)) (by rw [js_cl (show 0 < 8 by omega), h2, xh_m1]) ⟨ip, ?_⟩⟩)
        rw [js_cl (show 0 < 8 by omega), pk_us]
        refine br_f (by rw [en]; exact nI_nlt (Nat.le_refl _) (by omega)) (nm_e (nm_e ?_))
        exact br_c (fun _ => hQ _ _ _ _ h5) (fun _ => br_t (by decide) (hQ _ _ _ _ h5)))
      YI0 (Or.inl rfl) (by omega) (fun k' a' b' g' hk' po sq at' ab dn h5 => K g' b' sq at' ab dn h5 po.2.1 (fun S => po.2.2.2 S ⟨fun x h => by simp [js_sq] at h, fun x y h => by simp [js_sq] at h, ?_⟩))
    · have fi' := fi (upd a_seq 0 (-1)) a_at a_best (upd a_done 0 0) (fun q hq => by omega) (by rw [pk_us]; decide) (fun q hq x => ?_) (fun i _ => ha i) (fun i _ => hb i)
      · exact fi'
      · have : q = 0 := by omega
        rw [this, pk_us, b_0]
        simp [js_sq]
    · obtain ⟨r, ⟨f, hf, er⟩, hm⟩ := pk_least (fun r => ∃ f, f < n ∧ 8 * s f + f = r) ⟨_, 0, by omega, rfl⟩
      refine ⟨f, Nat.zero_le _, hf, by simp [js_sq], fun y hy ny nyf => ?_⟩
      rcases Nat.lt_trichotomy (8 * s f + f) (8 * s y + y) with l | l | l
      · exact l
      · omega
      · exact absurd ⟨y, hy, rfl⟩ (hm _ (by omega))
end
end
section
theorem js_GNl {R R' C : Nat → Nat → Bool} {a b : Nat} (g : js_GN R C) (h1 : ∀ x y, R x y = true → R' x y = true) (h2 : R' a b = true) (h3 : ∀ x y, R' x y = true → js_LK C a b x y = true) : js_GN R' (js_LK C a b) := by
  refine ⟨h3, fun x y q0 => ?_⟩
  rcases js_LKi.mp q0 with q | ⟨q, r⟩
  · obtain ⟨z, hz, w⟩ := g.2 x y q
    exact ⟨z, h1 z y hz, w.imp id js_LKsub⟩
  · rcases r with r | r
    · subst r
      exact ⟨a, h2, q.elim (fun e => Or.inl e.symm) (fun e => Or.inr (js_LKsub e))⟩
    · obtain ⟨z, hz, w⟩ := g.2 b y r
      refine ⟨z, h1 z y hz, Or.inr (js_LKi.mpr (Or.inr ⟨q, w.imp id id⟩))⟩
theorem js_TLK (C : Nat → Nat → Bool) (a b : Nat) : js_T (js_LK C a b) = js_LK (js_T C) b a := by
  funext x y
  unfold js_T js_LK
  rw [Bool.and_comm]
theorem js_SOs {n : Nat} {C : Nat → Nat → Bool} (h : js_SO n C) : js_SO (n + 1) C := ⟨fun x y q => by have := h.1 x y q; omega, h.2⟩
def js_LV (n l : Nat) (J F S : Nat → Nat) (C : Nat → Nat → Bool) : Prop :=
  js_SO n C ∧ js_GN (js_RR n J F S l) C ∧ js_GN (js_T (js_RR n J F S l)) (js_T C) ∧ l ≤ js_dp C
theorem js_RRc {n l : Nat} {J F S F' S' : Nat → Nat} (h : ∀ i, i < l → F i = F' i ∧ S i = S' i) : js_RR n J F S l = js_RR n J F' S' l := by
  funext x y
  have e : js_RR n J F S l x y = true ↔ js_RR n J F' S' l x y = true := by
    rw [js_RRi, js_RRi]
    refine and_congr Iff.rfl (or_congr ⟨?_, ?_⟩ Iff.rfl)
    · rintro ⟨i, hi, a, b⟩; exact ⟨i, hi, by rw [← (h i hi).1]; exact a, by rw [← (h i hi).2]; exact b⟩
    · rintro ⟨i, hi, a, b⟩; exact ⟨i, hi, by rw [(h i hi).1]; exact a, by rw [(h i hi).2]; exact b⟩
  by_cases q : js_RR n J F S l x y = true
  · rw [q, e.mp q]
  · rw [Bool.eq_false_iff.mpr q, Bool.eq_false_iff.mpr (fun z => q (e.mpr z))]
theorem js_LVc {n l : Nat} {J F S F' S' : Nat → Nat} {C : Nat → Nat → Bool} (h : ∀ i, i < l → F i = F' i ∧ S i = S' i) (v : js_LV n l J F S C) : js_LV n l J F' S' C := by
  unfold js_LV at v ⊢
  rw [← js_RRc h]
  exact v
/-! a decision -/
theorem js_LVd {n d a b : Nat} {J F S : Nat → Nat} {C : Nat → Nat → Bool} (hn : n ≤ 8) (v : js_LV n d J F S C) (ha : a < n) (hb : b < n) (ne : a ≠ b) (n1 : ¬ C a b = true) (n2 : ¬ C b a = true) (eF : F d = a) (eS : S d = b) : js_LV n (d + 1) J F S (js_LK C a b) := by
  have so := js_LKs v.1 ha hb ne n2
  have up : ∀ x y, js_RR n J F S d x y = true → js_RR n J F S (d + 1) x y = true := fun x y q => by
    have := js_RRi.mp q
    exact js_RRi.mpr ⟨this.1, this.2.imp (fun ⟨i, hi, w⟩ => ⟨i, by omega, w⟩) id⟩
  have ab : js_RR n J F S (d + 1) a b = true := js_RRi.mpr ⟨⟨ha, hb⟩, Or.inl ⟨d, by omega, eF, eS⟩⟩
  have dn : ∀ x y, js_RR n J F S (d + 1) x y = true → js_LK C a b x y = true := fun x y q => by
    obtain ⟨p, q⟩ := js_RRi.mp q
    rcases q with ⟨i, hi, e1, e2⟩ | q
    · by_cases z : i = d
      · subst z
        rw [← e1, ← e2, eF, eS]
        exact js_LKab a b
      · exact js_LKsub (v.2.1.1 x y (js_RRi.mpr ⟨p, Or.inl ⟨i, by omega, e1, e2⟩⟩))
    · exact js_LKsub (v.2.1.1 x y (js_RRi.mpr ⟨p, Or.inr q⟩))
  refine ⟨so, js_GNl v.2.1 up ab dn, ?_, ?_⟩
  · rw [js_TLK]
    refine js_GNl v.2.2.1 (fun x y q => up y x q) ab (fun x y q => ?_)
    have := dn y x q
    rw [← js_TLK]
    exact this
  · have := js_dpn (C := C) hn so (fun x y q => js_LKsub q) n1 (js_LKab a b)
    have := v.2.2.2
    omega
/-! a new operation -/
theorem js_RRa {n l j x y : Nat} {J F S : Nat → Nat} (hF : ∀ i, i < l → F i < n ∧ S i < n) : js_RR (n + 1) (js_up J n j) F S l x y = true ↔ js_RR n J F S l x y = true ∨ (x < n ∧ y = n ∧ J x = j) := by
  rw [js_RRi, js_RRi]
  constructor
  · rintro ⟨⟨p, q⟩, r⟩
    by_cases ey : y = n
    · subst ey
      rcases r with ⟨i, hi, e1, e2⟩ | ⟨r, r'⟩
      · have := hF i hi; omega
      · rw [js_upc, js_upn (by omega)] at r
        exact Or.inr ⟨r', rfl, r⟩
    · by_cases ex : x = n
      · subst ex
        rcases r with ⟨i, hi, e1, e2⟩ | ⟨r, r'⟩
        · have := hF i hi; omega
        · omega
      · rw [js_upn ex, js_upn ey] at r
        exact Or.inl ⟨⟨by omega, by omega⟩, r⟩
  · rintro (⟨⟨p, q⟩, r⟩ | ⟨p, q, r⟩)
    · rw [js_upn (by omega), js_upn (by omega)]
      exact ⟨⟨by omega, by omega⟩, r⟩
    · subst q
      rw [js_upc, js_upn (by omega)]
      exact ⟨⟨by omega, by omega⟩, Or.inr ⟨r, p⟩⟩
theorem js_LVa1 {n l j k : Nat} {J F S : Nat → Nat} {C : Nat → Nat → Bool} (hF : ∀ i, i < l → F i < n ∧ S i < n) (v : js_LV n l J F S C) (hk : k < n) (ek : J k = j) (mx : ∀ x, x < n → J x = j → x ≤ k) : js_LV (n + 1) l (js_up J n j) F S (js_LK C k n) := by
  have cn : ¬ C n k = true := fun q => by have := v.1.1 n k q; omega
  have so := js_LKs (js_SOs v.1) (show k < n + 1 by omega) (show n < n + 1 by omega) (by omega) cn
  have up : ∀ x y, js_RR n J F S l x y = true → js_RR (n + 1) (js_up J n j) F S l x y = true := fun x y q => (js_RRa hF).mpr (Or.inl q)
  have kn : js_RR (n + 1) (js_up J n j) F S l k n = true := (js_RRa hF).mpr (Or.inr ⟨hk, rfl, ek⟩)
  have dn : ∀ x y, js_RR (n + 1) (js_up J n j) F S l x y = true → js_LK C k n x y = true := fun x y q => by
    rcases (js_RRa hF).mp q with q | ⟨p, q, r⟩
    · exact js_LKsub (v.2.1.1 x y q)
    · subst q
      have m := mx x p r
      by_cases e : x = k
      · rw [e]; exact js_LKab k y
      · exact js_LKi.mpr (Or.inr ⟨Or.inr (v.2.1.1 x k (js_RRi.mpr ⟨⟨p, hk⟩, Or.inr ⟨by rw [r, ek], by omega⟩⟩)), Or.inl rfl⟩)
  refine ⟨so, js_GNl v.2.1 up kn dn, ?_, Nat.le_trans v.2.2.2 (js_dpm fun x y q => js_LKsub q)⟩
  rw [js_TLK]
  refine js_GNl v.2.2.1 (fun x y q => up y x q) kn (fun x y q => ?_)
  have := dn y x q
  rw [← js_TLK]
  exact this
theorem js_LVa0 {n l j : Nat} {J F S : Nat → Nat} {C : Nat → Nat → Bool} (hF : ∀ i, i < l → F i < n ∧ S i < n) (v : js_LV n l J F S C) (no : ∀ x, x < n → J x ≠ j) : js_LV (n + 1) l (js_up J n j) F S C := by
  have e : js_RR (n + 1) (js_up J n j) F S l = js_RR n J F S l := by
    funext x y
    have e : js_RR (n + 1) (js_up J n j) F S l x y = true ↔ js_RR n J F S l x y = true := by
      rw [js_RRa hF]
      exact ⟨fun q => q.elim id (fun ⟨p, _, r⟩ => absurd r (no x p)), Or.inl⟩
    by_cases q : js_RR n J F S l x y = true
    · rw [q, e.mpr q]
    · rw [Bool.eq_false_iff.mpr q, Bool.eq_false_iff.mpr (fun z => q (e.mp z))]
  refine ⟨js_SOs v.1, ?_, ?_, v.2.2.2⟩ <;> rw [e]
  · exact v.2.1
  · exact v.2.2.1
/-! the plan's critical set: the least closed one -/
def js_CL (n : Nat) (J M D pl : Nat → Nat) (v : Nat) (S : Nat → Prop) : Prop :=
  (∀ x, x < n → pl x + D x = v → S x) ∧ (∀ x z, x < n → z < n → S z → js_TD J M z x → pl z = pl x + D x → S x)
def js_Q (n : Nat) (J M D pl : Nat → Nat) (v : Nat) (x : Nat) : Prop := ∀ S, js_CL n J M D pl v S → S x
theorem js_Qc {n v : Nat} {J M D pl : Nat → Nat} : js_CL n J M D pl v (js_Q n J M D pl v) :=
  ⟨fun x hx e S c => c.1 x hx e, fun x z hx hz q t e S c => c.2 x z hx hz (q S c) t e⟩
theorem js_Qn {n v x : Nat} {J M D pl : Nat → Nat} (h : js_Q n J M D pl v x) : x < n := h (fun x => x < n) ⟨fun x hx _ => hx, fun x z hx _ _ _ _ => hx⟩
theorem js_Qi {n v x : Nat} {J M D pl : Nat → Nat} (h : js_Q n J M D pl v x) : pl x + D x = v ∨ ∃ z, z < n ∧ js_Q n J M D pl v z ∧ js_TD J M z x ∧ pl z = pl x + D x := by
  refine (h (fun x => js_Q n J M D pl v x ∧ (pl x + D x = v ∨ ∃ z, z < n ∧ js_Q n J M D pl v z ∧ js_TD J M z x ∧ pl z = pl x + D x)) ⟨fun x hx e => ⟨js_Qc.1 x hx e, Or.inl e⟩, fun x z hx hz q t e => ⟨js_Qc.2 x z hx hz q.1 t e, Or.inr ⟨z, hz, q.1, t, e⟩⟩⟩).2
def js_pk (n : Nat) (pl : Nat → Nat) (x : Nat) : Nat := sg_f (fun z => if pl x < pl z then 1 else 0) n
theorem js_pkl {n x z : Nat} {pl : Nat → Nat} (hz : z < n) (l : pl x < pl z) : js_pk n pl z < js_pk n pl x := by
  refine sg_lt (a := z) hz (fun i hi => ?_) ?_
  · by_cases q : pl z < pl i
    · have q' : pl x < pl i := by omega
      simp only [if_pos q, if_pos q']; omega
    · simp only [if_neg q]; omega
  · have q : ¬ pl z < pl z := by omega
    simp only [if_neg q, if_pos l]; omega
theorem js_pkn {n x : Nat} {pl : Nat → Nat} (hx : x < n) : js_pk n pl x < n := by
  have e := sg_const 1 n
  have l : js_pk n pl x < sg_f (fun _ => 1) n := by
    refine sg_lt (a := x) hx (fun i hi => ?_) ?_
    · by_cases z : pl x < pl i
      · simp only [if_pos z]; omega
      · simp only [if_neg z]; omega
    · have : ¬ pl x < pl x := by omega
      simp only [if_neg this]; omega
  omega
end
section
section
variable {f_jobs f_machines f_count f_depth f_lower f_upper f_planned f_planSpan f_criticalSet f_clock f_nodeBound f_found f_bestSpan : Int32} {a_jobOf a_machineOf a_duration a_planStart a_heads a_tails a_rest a_best : Nat → Int32} {a_trail a_nodes : Nat → Int64}
theorem xw_lead {post : Int32 → Prop} {n nm a : Nat} {J M D pl : Nat → Nat} (hn : n ≤ 8) (xc : js_XC n nm M D f_count f_machines a_machineOf a_duration) (hJ : js_Ar n a_jobOf J) (bJ : ∀ x, x < n → J x < 4) (hpl : js_Ar n a_planStart pl) (bp : ∀ x, x < n → pl x + D x ≤ 3000) (ha : a < n)
    (K1 : ∀ x, x < n → js_TD J M x a → pl x = pl a + D a → bt f_criticalSet x = true → post 1) (K0 : (∀ x, x < n → js_TD J M x a → pl x = pl a + D a → ¬ bt f_criticalSet x = true) → post 0) : wpX_leadsToCritical post (f_jobs, f_machines, f_count, f_depth, f_lower, f_upper, f_planned, f_planSpan, f_criticalSet, f_clock, f_nodeBound, f_found, f_bestSpan, a_jobOf, a_machineOf, a_duration, a_trail, a_planStart, a_heads, a_tails, a_rest, a_nodes, a_best) (nI a) := by
  have ia := xh_in (show a < 8 by omega)
  have hM := xc.2.2.2.1
  have hm := js_XCm xc
  have hD := xc.2.2.2.2.2
  have pa := bp a ha
  have ja := bJ a ha
  have ma := hm a ha
  have key : ∀ d i, i + d = n → (∀ x, x < i → js_TD J M x a → pl x = pl a + D a → ¬ bt f_criticalSet x = true) → wX_leadsToCritical_16 post (nI a) (nI (pl a + D a)) f_jobs f_machines f_count f_depth f_lower f_upper f_planned f_planSpan f_criticalSet f_clock f_nodeBound f_found f_bestSpan a_jobOf a_machineOf a_duration a_trail a_planStart a_heads a_tails a_rest a_nodes a_best (d + 1) (nI i) := by
    intro d
    induction d with
    | zero =>
      intro i hi no
      have e : i = n := by omega
      subst e
      exact br_t (xh_le xc.1) (K0 no)
    | succ d ih =>
      intro i hi no
      have li : i < n := by omega
      have ii := xh_in (show i < 8 by omega)
      have pi := bp i li
      have ji := bJ i li
      have mi := hm i li
      have nx : (js_TD J M i a → pl i = pl a + D a → ¬ bt f_criticalSet i = true) → ∀ y, y = nI i + 1 → wX_leadsToCritical_16 post (nI a) (nI (pl a + D a)) f_jobs f_machines f_count f_depth f_lower f_upper f_planned f_planSpan f_criticalSet f_clock f_nodeBound f_found f_bestSpan a_jobOf a_machineOf a_duration a_trail a_planStart a_heads a_tails a_rest a_nodes a_best (d + 1) y := fun q => nm_r (nI_1 i) (ih (i + 1) (by omega) (lt_s no q))
      have f1 : js_TD J M i a → wX_leadsToCritical_59 post (wX_leadsToCritical_16 post (nI a) (nI (pl a + D a)) f_jobs f_machines f_count f_depth f_lower f_upper f_planned f_planSpan f_criticalSet f_clock f_nodeBound f_found f_bestSpan a_jobOf a_machineOf a_duration a_trail a_planStart a_heads a_tails a_rest a_nodes a_best (d + 1)) (nI a) (nI (pl a + D a)) (nI i) 1 f_jobs f_machines f_count f_depth f_lower f_upper f_planned f_planSpan f_criticalSet f_clock f_nodeBound f_found f_bestSpan a_jobOf a_machineOf a_duration a_trail a_planStart a_heads a_tails a_rest a_nodes a_best := by
        intro t
        unfold wX_leadsToCritical_59
        refine br_f (by decide) ⟨ii, ?_⟩
        rw [js_rd hpl hn li]
        refine br_c (fun q => br_c (fun r => ?_) (fun r => ?_)) (fun q => ?_)
        · exact nx fun _ _ => (js_bz f_criticalSet (by omega)).mp r
        · rw [nI_eq (by omega) (by omega)] at q
          exact K1 i li t q (Classical.byContradiction fun z => r ((js_bz f_criticalSet (by omega)).mpr z))
        · rw [nI_eq (by omega) (by omega)] at q
          exact nx fun _ z => absurd z q
      refine br_f (xh_ge xc.1 li hn) ⟨ii, ia, ?_⟩
      rw [js_rd hJ hn li, js_rd hJ hn ha, js_rd hM hn li, js_rd hM hn ha]
      refine br_c (fun q => ?_) (fun q => ⟨ii, ia, br_c (fun r => ?_) (fun r => ?_)⟩)
      · rw [nI_eq (by omega) (by omega)] at q
        unfold wX_leadsToCritical_54
        exact f1 (Or.inl q)
      · rw [nI_eq (by omega) (by omega)] at r
        unfold wX_leadsToCritical_54
        exact f1 (Or.inr r)
      · rw [nI_eq (by omega) (by omega)] at q r
        unfold wX_leadsToCritical_59
        exact br_t rfl (nx fun t => absurd t (fun z => z.elim q r))
  unfold wpX_leadsToCritical
  refine ⟨ia, ia, nm_r (e' := nI (pl a + D a)) (by rw [js_rd hpl hn ha, js_rd hD hn ha, nI_add]) ⟨n + 1, key n 0 (by omega) (fun x hx => by omega)⟩⟩
theorem xw_mark {post : SX → Prop} {n nm v : Nat} {J M D pl : Nat → Nat} (hn : n ≤ 8) (hD1 : ∀ x, x < n → 1 ≤ D x) (xc : js_XC n nm M D f_count f_machines a_machineOf a_duration) (hJ : js_Ar n a_jobOf J) (bJ : ∀ x, x < n → J x < 4) (hpl : js_Ar n a_planStart pl) (bp : ∀ x, x < n → pl x + D x ≤ 3000) (hv : f_planSpan = nI v) (bv : v ≤ 3000)
    (K : ∀ cs, (∀ x, bt cs x = true ↔ js_Q n J M D pl v x) → post (f_jobs, f_machines, f_count, f_depth, f_lower, f_upper, f_planned, f_planSpan, cs, f_clock, f_nodeBound, f_found, f_bestSpan, a_jobOf, a_machineOf, a_duration, a_trail, a_planStart, a_heads, a_tails, a_rest, a_nodes, a_best)) : wpX_markCritical post (f_jobs, f_machines, f_count, f_depth, f_lower, f_upper, f_planned, f_planSpan, f_criticalSet, f_clock, f_nodeBound, f_found, f_bestSpan, a_jobOf, a_machineOf, a_duration, a_trail, a_planStart, a_heads, a_tails, a_rest, a_nodes, a_best) := by
  have hD := xc.2.2.2.2.2
  have inner : ∀ (J7 : Int32 → Int32 → Prop) k, k < n → (∀ cs, (∀ x, bt cs x = true → js_Q n J M D pl v x) → (∀ x, js_Q n J M D pl v x → js_pk n pl x < k + 1 → bt cs x = true) → J7 (nI (k + 1)) cs) →
      ∀ d i, i + d = n → ∀ cs, (∀ x, bt cs x = true → js_Q n J M D pl v x) → (∀ x, js_Q n J M D pl v x → js_pk n pl x < k → bt cs x = true) → (∀ x, js_Q n J M D pl v x → x < i → js_pk n pl x = k → bt cs x = true) →
        wX_markCritical_17 post J7 (nI k) f_jobs f_machines f_count f_depth f_lower f_upper f_planned f_planSpan f_clock f_nodeBound f_found f_bestSpan a_jobOf a_machineOf a_duration a_trail a_planStart a_heads a_tails a_rest a_nodes a_best (d + 1) (nI i) cs := by
    intro J7 k hk KJ d
    induction d with
    | zero =>
      intro i hi cs h1 h2 h3
      have e : i = n := by omega
      subst e
      refine br_t (xh_le xc.1) (nm_r (nI_1 k) (KJ cs h1 (fun x q l => ?_)))
      by_cases z : js_pk i pl x < k
      · exact h2 x q z
      · exact h3 x q (js_Qn q) (by omega)
    | succ d ih =>
      intro i hi cs h1 h2 h3
      have li : i < n := by omega
      have ii := xh_in (show i < 8 by omega)
      have pi := bp i li
      have f53 : js_Q n J M D pl v i → wX_markCritical_53 post J7 (wX_markCritical_17 post J7 (nI k) f_jobs f_machines f_count f_depth f_lower f_upper f_planned f_planSpan f_clock f_nodeBound f_found f_bestSpan a_jobOf a_machineOf a_duration a_trail a_planStart a_heads a_tails a_rest a_nodes a_best (d + 1)) (nI k) (nI i) f_jobs f_machines f_count f_depth f_lower f_upper f_planned f_planSpan cs f_clock f_nodeBound f_found f_bestSpan a_jobOf a_machineOf a_duration a_trail a_planStart a_heads a_tails a_rest a_nodes a_best := by
        intro q
        unfold wX_markCritical_53
        have bs : ∀ x, bt (cs ||| ((1 : Int32) <<< (nI i &&& 31))) x = true ↔ bt cs x = true ∨ x = i := by
          intro x
          rcases Nat.lt_or_ge x 32 with l | l
          · rw [js_bs (by omega) l, Bool.or_eq_true, decide_eq_true_eq]
          · rw [b_big l, b_big l]
            exact ⟨Or.inl, fun z => z.elim id (fun z => by omega)⟩
        refine nm_e (nm_r (nI_1 i) (ih (i + 1) (by omega) _ (fun x z => ?_) (fun x z l => (bs x).mpr (Or.inl (h2 x z l))) (fun x z l e => (bs x).mpr ?_)))
        · rcases (bs x).mp z with z | z
          · exact h1 x z
          · rw [z]; exact q
        · by_cases w : x = i
          · exact Or.inr w
          · exact Or.inl (h3 x z (by omega) e)
      refine br_f (xh_ge xc.1 li hn) ⟨ii, ii, ?_⟩
      rw [js_rd hpl hn li, js_rd hD hn li, nI_add]
      refine br_c (fun q => ?_) (fun q => ?_)
      · rw [hv, nI_eq (by omega) (by omega)] at q
        exact f53 (js_Qc.1 i li q)
      · rw [hv, nI_eq (by omega) (by omega)] at q
        refine xw_lead hn xc hJ bJ hpl bp li (fun x hx t e b => br_f (by decide) (f53 (js_Qc.2 i x li hx (h1 x b) t e))) (fun no => br_t rfl (nm_r (nI_1 i) (ih (i + 1) (by omega) cs h1 h2 (fun x z l e => ?_))))
        by_cases w : x = i
        · subst w
          rcases js_Qi z with y | ⟨y, hy, qy, t, ey⟩
          · exact absurd y q
          · have dx := hD1 x li
            have l := js_pkl (n := n) (pl := pl) (x := x) (z := y) hy (by omega)
            exact absurd (h2 y qy (by omega)) (no y hy t ey)
        · exact h3 x z (by omega) e
  have key : ∀ d k, k + d = n → ∀ cs, (∀ x, bt cs x = true → js_Q n J M D pl v x) → (∀ x, js_Q n J M D pl v x → js_pk n pl x < k → bt cs x = true) → wX_markCritical_7 post f_jobs f_machines f_count f_depth f_lower f_upper f_planned f_planSpan f_clock f_nodeBound f_found f_bestSpan a_jobOf a_machineOf a_duration a_trail a_planStart a_heads a_tails a_rest a_nodes a_best (d + 1) (nI k) cs := by
    intro d
    induction d with
    | zero =>
      intro k hk cs h1 h2
      have e : k = n := by omega
      subst e
      exact br_t (xh_le xc.1) (K cs fun x => ⟨h1 x, fun q => h2 x q (js_pkn (js_Qn q))⟩)
    | succ d ih =>
      intro k hk cs h1 h2
      exact br_f (xh_ge xc.1 (by omega) hn) ⟨n + 1, inner _ k (by omega) (fun cs h1 h2 => ih (k + 1) (by omega) cs h1 h2) n 0 (by omega) cs h1 h2 (fun x _ l => by omega)⟩
  unfold wpX_markCritical
  exact ⟨n + 1, key n 0 (by omega) 0 (fun x q => by rw [b_0] at q; exact absurd q (by decide)) (fun x _ l => by omega)⟩
def js_EV (n : Nat) (D pl : Nat → Nat) (e : Nat) : Prop := ∃ i, i < n ∧ (pl i = e ∨ pl i + D i = e)
def js_NX (n : Nat) (D pl : Nat → Nat) (t v r : Nat) : Prop := t < r ∧ r ≤ v ∧ (r = v ∨ js_EV n D pl r) ∧ ∀ e, t < e → e < r → ¬ js_EV n D pl e
theorem js_NXuq {n t v r r' : Nat} {D pl : Nat → Nat} (h : js_NX n D pl t v r) (k : js_NX n D pl t v r') : r = r' := by
  obtain ⟨a1, a2, a3, a4⟩ := h
  obtain ⟨b1, b2, b3, b4⟩ := k
  rcases Nat.lt_trichotomy r r' with l | l | l
  · rcases a3 with a3 | a3
    · omega
    · exact absurd a3 (b4 r a1 l)
  · exact l
  · rcases b3 with b3 | b3
    · omega
    · exact absurd b3 (a4 r' b1 l)
theorem xw_ev {post : Int32 → Prop} {t e r : Nat} (hc : f_clock = nI t) (bt' : t ≤ 3000) (be : e ≤ 3000) (br : r ≤ 3000) (K : post (nI (if t < e ∧ e < r then e else r))) : wpX_earlierEvent post (f_jobs, f_machines, f_count, f_depth, f_lower, f_upper, f_planned, f_planSpan, f_criticalSet, f_clock, f_nodeBound, f_found, f_bestSpan, a_jobOf, a_machineOf, a_duration, a_trail, a_planStart, a_heads, a_tails, a_rest, a_nodes, a_best) (nI e) (nI r) := by
  unfold wpX_earlierEvent
  rw [hc]
  refine br_c (fun q => ?_) (fun q => br_c (fun s => ?_) (fun s => ?_))
  · rw [nI_leI (by omega) (by omega)] at q
    rw [if_neg (by omega)] at K; exact K
  · rw [nI_leI (by omega) (by omega)] at s
    rw [if_neg (by omega)] at K; exact K
  · rw [nI_leI (by omega) (by omega)] at q s
    rw [if_pos (by omega)] at K; exact K
theorem xw_step31 {post : Int32 → SX → Prop} {n nm t v : Nat} {M D pl : Nat → Nat} (hn : n ≤ 8) (xc : js_XC n nm M D f_count f_machines a_machineOf a_duration) (hpl : js_Ar n a_planStart pl) (bp : ∀ x, x < n → pl x + D x ≤ 3000) (hc : f_clock = nI t) (bt' : t ≤ 3000) (bv : v ≤ 3000)
    (K : ∀ r, js_NX n D pl t v r → post (nI r) (f_jobs, f_machines, f_count, f_depth, f_lower, f_upper, f_planned, f_planSpan, f_criticalSet, nI r, f_nodeBound, f_found, f_bestSpan, a_jobOf, a_machineOf, a_duration, a_trail, a_planStart, a_heads, a_tails, a_rest, a_nodes, a_best)) : ∀ d i, i + d = n → ∀ r, t < r → r ≤ v → (r = v ∨ js_EV n D pl r) → (∀ e, t < e → e < r → ∀ j, j < i → ¬ (pl j = e ∨ pl j + D j = e)) → wX_step_31 post f_jobs f_machines f_count f_depth f_lower f_upper f_planned f_planSpan f_criticalSet f_clock f_nodeBound f_found f_bestSpan a_jobOf a_machineOf a_duration a_trail a_planStart a_heads a_tails a_rest a_nodes a_best (d + 1) (nI r) (nI i) := by
  have hD := xc.2.2.2.2.2
  intro d
  induction d with
  | zero =>
    intro i hi r h1 h2 h3 h4
    have e : i = n := by omega
    subst e
    exact br_t (xh_le xc.1) (K r ⟨h1, h2, h3, fun e l1 l2 ⟨j, hj, q⟩ => h4 e l1 l2 j hj q⟩)
  | succ d ih =>
    intro i hi r h1 h2 h3 h4
    have li : i < n := by omega
    have ii := xh_in (show i < 8 by omega)
    have pi := bp i li
    refine br_f (xh_ge xc.1 li hn) ⟨ii, ?_⟩
    rw [js_rd hpl hn li]
    refine xw_ev hc bt' (by omega) (by omega) ⟨ii, ii, ?_⟩
    rw [js_rd hD hn li, nI_add]
    have stp : ∀ (e r : Nat), js_EV n D pl e → t < r → r ≤ v → (r = v ∨ js_EV n D pl r) → t < (if t < e ∧ e < r then e else r) ∧ (if t < e ∧ e < r then e else r) ≤ r ∧ ((if t < e ∧ e < r then e else r) = v ∨ js_EV n D pl (if t < e ∧ e < r then e else r)) ∧ ¬ (t < e ∧ e < (if t < e ∧ e < r then e else r)) := by
      intro e r ev a1 a2 a3
      by_cases q : t < e ∧ e < r
      · rw [if_pos q]; exact ⟨q.1, by omega, Or.inr ev, by omega⟩
      · rw [if_neg q]; exact ⟨a1, Nat.le_refl _, a3, q⟩
    obtain ⟨s1, s2, s3, s4⟩ := stp (pl i) r ⟨i, li, Or.inl rfl⟩ h1 h2 h3
    obtain ⟨u1, u2, u3, u4⟩ := stp (pl i + D i) _ ⟨i, li, Or.inr rfl⟩ s1 (by omega) s3
    refine xw_ev hc bt' (by omega) (by omega) (nm_r (nI_1 i) (ih (i + 1) (by omega) _ u1 (by omega) u3 (fun e l1 l2 => lt_s (h4 e l1 (by omega)) ?_)))
    rintro (q | q)
    · exact s4 ⟨by omega, by omega⟩
    · exact u4 ⟨by omega, by omega⟩
def js_rn (M D pl : Nat → Nat) (m t x : Nat) : Prop := M x = m ∧ pl x ≤ t ∧ t < pl x + D x
theorem xw_run22 {post : Int32 → Prop} {n nm t m : Nat} {M D pl : Nat → Nat} (hn : n ≤ 8) (xc : js_XC n nm M D f_count f_machines a_machineOf a_duration) (hpl : js_Ar n a_planStart pl) (bp : ∀ x, x < n → pl x + D x ≤ 3000) (hc : f_clock = nI t) (bt' : t ≤ 3000) (bm : m < 4)
    (K1 : ∀ a, a < n → js_rn M D pl m t a → (∀ j, j < a → ¬ js_rn M D pl m t j) → post (nI a)) (K0 : (∀ j, j < n → ¬ js_rn M D pl m t j) → post (-8)) : ∀ d i, i + d = n → (∀ j, j < i → ¬ js_rn M D pl m t j) → wX_running_22 post (nI m) f_jobs f_machines f_count f_depth f_lower f_upper f_planned f_planSpan f_criticalSet f_clock f_nodeBound f_found f_bestSpan a_jobOf a_machineOf a_duration a_trail a_planStart a_heads a_tails a_rest a_nodes a_best (d + 1) (nI i) := by
  have hD := xc.2.2.2.2.2
  have hM := xc.2.2.2.1
  have hm := js_XCm xc
  intro d
  induction d with
  | zero =>
    intro i hi no
    have e : i = n := by omega
    subst e
    exact br_t (xh_le xc.1) (K0 no)
  | succ d ih =>
    intro i hi no
    have li : i < n := by omega
    have ii := xh_in (show i < 8 by omega)
    have pi := bp i li
    have mi := hm i li
    have nx : ¬ js_rn M D pl m t i → ∀ y, y = nI i + 1 → wX_running_22 post (nI m) f_jobs f_machines f_count f_depth f_lower f_upper f_planned f_planSpan f_criticalSet f_clock f_nodeBound f_found f_bestSpan a_jobOf a_machineOf a_duration a_trail a_planStart a_heads a_tails a_rest a_nodes a_best (d + 1) y := fun q => nm_r (nI_1 i) (ih (i + 1) (by omega) (lt_s no q))
    refine br_f (xh_ge xc.1 li hn) ⟨ii, ?_⟩
    unfold wX_running_48
    rw [js_rd hpl hn li, js_rd hM hn li, js_rd hD hn li, nI_add]
    refine br_c (fun q => ⟨ii, br_c (fun r => br_t rfl ?_) (fun r => ?_)⟩) (fun q => ⟨ii, br_c (fun r => br_f (by decide) ⟨ii, ii, br_c (fun s => ?_) (fun s => ?_)⟩) (fun r => ?_)⟩)
    · rw [hc, nI_ltI (by omega) (by omega)] at q
      exact nx fun z => by have := z.2.1; omega
    · rw [nI_eq (by omega) (by omega)] at r
      exact nx fun z => r z.1
    · rw [hc, nI_leI (by omega) (by omega)] at s
      exact nx fun z => by have := z.2.2; omega
    · rw [hc, nI_ltI (by omega) (by omega)] at q
      rw [nI_eq (by omega) (by omega)] at r
      rw [hc, nI_leI (by omega) (by omega)] at s
      exact K1 i li ⟨r, by omega, by omega⟩ no
    · rw [nI_eq (by omega) (by omega)] at r
      exact nx fun z => r z.1
end
end
section
def js_MK (n : Nat) (J M D pl : Nat → Nat) (v r X j : Nat) (mk : Nat → Int32) : Prop :=
  (∀ x, x < n → ¬ mk x = 0 → js_Q n J M D pl v x) ∧ (∀ y, js_Q n J M D pl v y → js_pk n pl y ≤ r → ¬ mk y = 0) ∧
  (∀ z y, z < n → y < n → js_Pr X j z y → js_Q n J M D pl v z → js_pk n pl z ≤ r → js_TD J M z y → pl z = pl y + D y → ¬ mk y = 0) ∧ (∀ y, y < n → pl y + D y = v → ¬ mk y = 0)
theorem js_MKn {n v k : Nat} {J M D pl : Nat → Nat} {mk : Nat → Int32} (hn : n ≤ 8) (hD : ∀ x, x < n → 1 ≤ D x) (I : js_MK n J M D pl v (k / 64) (k / 8 % 8) (k % 8 + 1) mk) : js_MK n J M D pl v ((k + 1) / 64) ((k + 1) / 8 % 8) ((k + 1) % 8) mk := by
  obtain ⟨i1, i2, i3, i4⟩ := I
  by_cases e : k % 8 = 7
  · by_cases e2 : k / 8 % 8 = 7
    · have x1 : (k + 1) / 64 = k / 64 + 1 := by omega
      have x2 : (k + 1) / 8 % 8 = 0 := by omega
      have x3 : (k + 1) % 8 = 0 := by omega
      rw [x1, x2, x3]
      refine ⟨i1, fun y q l => ?_, fun z y _ _ p => by unfold js_Pr at p; omega, i4⟩
      by_cases w : js_pk n pl y ≤ k / 64
      · exact i2 y q w
      · rcases js_Qi q with b | ⟨z, hz, qz, t, ez⟩
        · exact i4 y (js_Qn q) b
        · have dy := hD y (js_Qn q)
          have l2 := js_pkl (n := n) (pl := pl) (x := y) (z := z) hz (by omega)
          have hy := js_Qn q
          exact i3 z y hz hy (by unfold js_Pr; omega) qz (by omega) t ez
    · have x1 : (k + 1) / 64 = k / 64 := by omega
      have x2 : (k + 1) / 8 % 8 = k / 8 % 8 + 1 := by omega
      have x3 : (k + 1) % 8 = 0 := by omega
      rw [x1, x2, x3]
      exact ⟨i1, i2, fun z y hz hy p => i3 z y hz hy (by unfold js_Pr at p ⊢; omega), i4⟩
  · have x1 : (k + 1) / 64 = k / 64 := by omega
    have x2 : (k + 1) / 8 % 8 = k / 8 % 8 := by omega
    have x3 : (k + 1) % 8 = k % 8 + 1 := by omega
    rw [x1, x2, x3]
    exact ⟨i1, i2, i3, i4⟩
theorem js_MKs {n v r X j : Nat} {J M D pl : Nat → Nat} {mk : Nat → Int32} (I : js_MK n J M D pl v r X j mk) (h : X < n → j < n → ¬ mk X = 0 → js_TD J M X j → pl X = pl j + D j → ¬ mk j = 0) : js_MK n J M D pl v r X (j + 1) mk := by
  refine ⟨I.1, I.2.1, fun z y hz hy p q l t e => ?_, I.2.2.2⟩
  rcases js_Prs z y p with p | ⟨p1, p2⟩
  · exact I.2.2.1 z y hz hy p q l t e
  · subst p1; subst p2
    exact h hz hy (I.2.1 z q l) t e
section
variable {f_jobs f_machines f_n f_decisions f_low f_high f_end f_time : Int32} {a_job a_machine a_dur a_plan a_first a_second a_heads a_tails a_prevs a_seq a_at a_best a_done a_mark : Nat → Int32}
theorem yw_crit63 {post : Int32 → SY → Prop} {n nm a v : Nat} {J M D pl : Nat → Nat} (yc : js_YC n nm J M D f_n f_machines a_job a_machine a_dur) (hpl : js_Ar n a_plan pl) (bp : ∀ x, x < n → pl x + D x ≤ 3000) (ha : a < n)
    (K1 : ∀ mk, js_Q n J M D pl v a → post 1 (f_jobs, f_machines, f_n, f_decisions, f_low, f_high, f_end, f_time, a_job, a_machine, a_dur, a_plan, a_first, a_second, a_heads, a_tails, a_prevs, a_seq, a_at, a_best, a_done, mk)) (K0 : ∀ mk, ¬ js_Q n J M D pl v a → post 0 (f_jobs, f_machines, f_n, f_decisions, f_low, f_high, f_end, f_time, a_job, a_machine, a_dur, a_plan, a_first, a_second, a_heads, a_tails, a_prevs, a_seq, a_at, a_best, a_done, mk)) :
    ∀ d k, k + d = 512 → ∀ mk, js_MK n J M D pl v (k / 64) (k / 8 % 8) (k % 8) mk → wY_critical_63 post (nI a) f_jobs f_machines f_n f_decisions f_low f_high f_end f_time (d + 1) (nI k) a_job a_machine a_dur a_plan a_first a_second a_heads a_tails a_prevs a_seq a_at a_best a_done mk := by
  have hn := yc.1
  have en := yc.2.1
  have hD := yc.2.2.2.2.2.2.1
  have bd := yc.2.2.2.2.2.2.2
  have hD1 : ∀ x, x < n → 1 ≤ D x := fun x hx => (bd x hx).2.2.1
  have ia := xh_in (show a < 8 by omega)
  intro d
  induction d with
  | zero =>
    intro k hk mk I
    have e : k = 512 := by omega
    subst e
    refine br_t (by decide) ⟨ia, ?_⟩
    rw [js_cl (show a < 8 by omega)]
    refine br_c (fun q => K0 mk fun z => ?_) (fun q => K1 mk (I.1 a ha q))
    have := js_pkn (pl := pl) ha
    exact I.2.1 a z (by omega) q
  | succ d ih =>
    intro k hk mk I
    refine br_f (nI_ge (b := 512) (by omega) (by decide)) ⟨by decide, by decide, ?_⟩
    have e2 : nI k / 8 - nI k / 8 / 8 * 8 = nI (k / 8 % 8) := by rw [xh_d8 (by omega), xh_r8 (by omega)]
    refine nm_r e2 ⟨by decide, nm_r (xh_r8 (by omega)) ?_⟩
    have no : (k / 8 % 8 < n → k % 8 < n → ¬ mk (k / 8 % 8) = 0 → js_TD J M (k / 8 % 8) (k % 8) → pl (k / 8 % 8) = pl (k % 8) + D (k % 8) → ¬ mk (k % 8) = 0) → ∀ y, y = nI k + 1 → wY_critical_63 post (nI a) f_jobs f_machines f_n f_decisions f_low f_high f_end f_time (d + 1) y a_job a_machine a_dur a_plan a_first a_second a_heads a_tails a_prevs a_seq a_at a_best a_done mk := fun q =>
      nm_r (nI_1 k) (ih (k + 1) (by omega) mk (js_MKn hn hD1 (js_MKs I q)))
    refine br_c (fun q => ?_) (fun q => br_c (fun r => ?_) (fun r => ?_))
    · rw [en, nI_leI (by omega) (by omega)] at q
      exact no fun z => by omega
    · rw [en, nI_leI (by omega) (by omega)] at r
      exact no fun _ z => by omega
    · rw [en, nI_leI (by omega) (by omega)] at q r
      have lx : k / 8 % 8 < n := by omega
      have ly : k % 8 < n := by omega
      have ix := xh_in (show k / 8 % 8 < 8 by omega)
      have iy := xh_in (show k % 8 < 8 by omega)
      have px := bp _ lx
      have py := bp _ ly
      refine ⟨ix, ?_⟩
      rw [js_cl (show k / 8 % 8 < 8 by omega)]
      refine br_c (fun s => no fun _ _ z => absurd s z) (fun s => ⟨ix, iy, iy, ?_⟩)
      rw [js_cl (show k % 8 < 8 by omega), hpl _ lx, hpl _ ly, hD _ ly, nI_add]
      refine br_c (fun u => ?_) (fun u => ?_)
      · rw [nI_eq (by omega) (by omega)] at u
        refine yw_tied yc lx ly (fun t => br_f (by decide) ⟨iy, nm_r (e' := upd mk (k % 8) 1) rfl (nm_r (nI_1 k) (ih (k + 1) (by omega) _ (js_MKn hn hD1 (js_MKs ?_ (fun _ _ _ _ _ => by rw [pk_us]; decide)))))⟩) (fun t => br_t rfl (no fun _ _ _ z => absurd z t))
        have keep : ∀ y, ¬ mk y = 0 → ¬ upd mk (k % 8) 1 y = 0 := fun y z => by
          by_cases w : y = k % 8
          · rw [w, pk_us]; decide
          · rw [pk_un w]; exact z
        refine ⟨fun x hx z => ?_, fun y q' l => keep y (I.2.1 y q' l), fun z y hz hy p q' l t' e => keep y (I.2.2.1 z y hz hy p q' l t' e), fun y hy e => keep y (I.2.2.2 y hy e)⟩
        by_cases w : x = k % 8
        · rw [w]
          exact js_Qc.2 _ _ ly lx (I.1 _ lx s) t u
        · rw [pk_un w] at z
          exact I.1 x hx z
      · rw [nI_eq (by omega) (by omega)] at u
        exact no fun _ _ _ _ z => absurd z u
theorem yw_crit16 {post : Int32 → SY → Prop} {n nm a v : Nat} {J M D pl : Nat → Nat} (yc : js_YC n nm J M D f_n f_machines a_job a_machine a_dur) (hpl : js_Ar n a_plan pl) (bp : ∀ x, x < n → pl x + D x ≤ 3000) (ha : a < n) (hv : f_end = nI v) (bv : v ≤ 3000)
    (K1 : ∀ mk, js_Q n J M D pl v a → post 1 (f_jobs, f_machines, f_n, f_decisions, f_low, f_high, f_end, f_time, a_job, a_machine, a_dur, a_plan, a_first, a_second, a_heads, a_tails, a_prevs, a_seq, a_at, a_best, a_done, mk)) (K0 : ∀ mk, ¬ js_Q n J M D pl v a → post 0 (f_jobs, f_machines, f_n, f_decisions, f_low, f_high, f_end, f_time, a_job, a_machine, a_dur, a_plan, a_first, a_second, a_heads, a_tails, a_prevs, a_seq, a_at, a_best, a_done, mk)) :
    ∀ d i, i + d = n → ∀ mk, (∀ x, x < i → (¬ mk x = 0 ↔ pl x + D x = v)) → wY_critical_16 post (nI a) f_jobs f_machines f_n f_decisions f_low f_high f_end f_time (d + 1) (nI i) a_job a_machine a_dur a_plan a_first a_second a_heads a_tails a_prevs a_seq a_at a_best a_done mk := by
  have hn := yc.1
  have en := yc.2.1
  have hD := yc.2.2.2.2.2.2.1
  have bd := yc.2.2.2.2.2.2.2
  intro d
  induction d with
  | zero =>
    intro i hi mk I
    have e : i = n := by omega
    subst e
    refine br_t (xh_le en) ⟨513, yw_crit63 yc hpl bp ha K1 K0 512 0 (by omega) mk ⟨fun x hx q => js_Qc.1 x hx ((I x hx).mp q), fun y q l => ?_, fun z y _ _ p => by unfold js_Pr at p; omega, fun y hy e => (I y hy).mpr e⟩⟩
    rcases js_Qi q with b | ⟨z, hz, qz, t, ez⟩
    · exact (I y (js_Qn q)).mpr b
    · have dy := (bd y (js_Qn q)).2.2.1
      have l2 := js_pkl (n := i) (pl := pl) (x := y) (z := z) hz (by omega)
      omega
  | succ d ih =>
    intro i hi mk I
    have li : i < n := by omega
    have ii := xh_in (show i < 8 by omega)
    have pi := bp i li
    refine br_f (xh_ge en li hn) ⟨ii, ii, ?_⟩
    rw [js_rd hpl hn li, js_rd hD hn li, nI_add, js_cl (show i < 8 by omega)]
    refine br_c (fun q => ⟨ii, nm_r (e' := upd mk i 1) rfl (nm_r (nI_1 i) (ih (i + 1) (by omega) _ (lt_s (fun x hx => ?_) ?_)))⟩) (fun q => ⟨ii, nm_r (e' := upd mk i 0) rfl (nm_r (nI_1 i) (ih (i + 1) (by omega) _ (lt_s (fun x hx => ?_) ?_)))⟩)
    · rw [pk_un (by omega)]; exact I x hx
    · rw [hv, nI_eq (by omega) (by omega)] at q
      rw [pk_us]
      exact ⟨fun _ => q, fun _ => by decide⟩
    · rw [pk_un (by omega)]; exact I x hx
    · rw [hv, nI_eq (by omega) (by omega)] at q
      rw [pk_us]
      exact ⟨fun z => absurd rfl z, fun z => absurd z q⟩
theorem yw_step47 {post : Int32 → SY → Prop} {J34 : Int32 → Prop} {n nm e : Nat} {J M D pl : Nat → Nat} (yc : js_YC n nm J M D f_n f_machines a_job a_machine a_dur) (hpl : js_Ar n a_plan pl) (bp : ∀ x, x < n → pl x + D x ≤ 3000) (be : e ≤ 3000)
    (K1 : js_EV n D pl e → post (nI e) (f_jobs, f_machines, f_n, f_decisions, f_low, f_high, f_end, nI e, a_job, a_machine, a_dur, a_plan, a_first, a_second, a_heads, a_tails, a_prevs, a_seq, a_at, a_best, a_done, a_mark)) (K0 : ¬ js_EV n D pl e → J34 (nI (e + 1))) : ∀ d i, i + d = n → (∀ j, j < i → ¬ (pl j = e ∨ pl j + D j = e)) → wY_step_47 post J34 f_jobs f_machines f_n f_decisions f_low f_high f_end (nI e) a_job a_machine a_dur a_plan a_first a_second a_heads a_tails a_prevs a_seq a_at a_best a_done a_mark (d + 1) (nI i) := by
  have hn := yc.1
  have en := yc.2.1
  have hD := yc.2.2.2.2.2.2.1
  intro d
  induction d with
  | zero =>
    intro i hi no
    have e' : i = n := by omega
    subst e'
    exact br_t (xh_le en) (nm_r (nI_1 e) (K0 fun ⟨j, hj, q⟩ => no j hj q))
  | succ d ih =>
    intro i hi no
    have li : i < n := by omega
    have ii := xh_in (show i < 8 by omega)
    have pi := bp i li
    refine br_f (xh_ge en li hn) ⟨ii, ?_⟩
    rw [js_rd hpl hn li, js_rd hD hn li, nI_add]
    refine br_c (fun q => ?_) (fun q => ⟨ii, ii, br_c (fun r => ?_) (fun r => ?_)⟩)
    · rw [nI_eq (by omega) (by omega)] at q
      exact K1 ⟨i, li, Or.inl q⟩
    · rw [nI_eq (by omega) (by omega)] at r
      exact K1 ⟨i, li, Or.inr r⟩
    · rw [nI_eq (by omega) (by omega)] at q r
      exact nm_r (nI_1 i) (ih (i + 1) (by omega) (lt_s no fun z => z.elim q r))
theorem yw_step34 {post : Int32 → SY → Prop} {n nm t v : Nat} {J M D pl : Nat → Nat} (yc : js_YC n nm J M D f_n f_machines a_job a_machine a_dur) (hpl : js_Ar n a_plan pl) (bp : ∀ x, x < n → pl x + D x ≤ 3000) (hv : f_end = nI v) (bv : v ≤ 3000)
    (K : ∀ r, js_NX n D pl t v r → post (nI r) (f_jobs, f_machines, f_n, f_decisions, f_low, f_high, f_end, nI r, a_job, a_machine, a_dur, a_plan, a_first, a_second, a_heads, a_tails, a_prevs, a_seq, a_at, a_best, a_done, a_mark)) : ∀ d e, e + d = v → t < e → (∀ e', t < e' → e' < e → ¬ js_EV n D pl e') → wY_step_34 post f_jobs f_machines f_n f_decisions f_low f_high f_end a_job a_machine a_dur a_plan a_first a_second a_heads a_tails a_prevs a_seq a_at a_best a_done a_mark (d + 1) (nI e) := by
  intro d
  induction d with
  | zero =>
    intro e he h1 h2
    have e' : e = v := by omega
    subst e'
    exact br_t (by rw [hv]; exact Int32.le_refl _) (K e ⟨h1, Nat.le_refl _, Or.inl rfl, h2⟩)
  | succ d ih =>
    intro e he h1 h2
    refine br_f (by rw [hv]; exact nI_ge (by omega) (by omega)) ⟨n + 1, ?_⟩
    refine yw_step47 yc hpl bp (by omega) (fun ev => K e ⟨h1, by omega, Or.inr ev, h2⟩) (fun nev => ih (e + 1) (by omega) (by omega) (fun e' l1 l2 => ?_)) n 0 (by omega) (fun j hj => by omega)
    by_cases w : e' = e
    · rw [w]; exact nev
    · exact h2 e' l1 (by omega)
theorem yw_run26 {post : Int32 → Prop} {n nm t m : Nat} {J M D pl : Nat → Nat} (yc : js_YC n nm J M D f_n f_machines a_job a_machine a_dur) (hpl : js_Ar n a_plan pl) (bp : ∀ x, x < n → pl x + D x ≤ 3000) (hc : f_time = nI t) (bt' : t ≤ 3000) (bm : m < 4)
    (K1 : ∀ a, a < n → js_rn M D pl m t a → (∀ j, j < a → ¬ js_rn M D pl m t j) → post (nI a)) (K0 : (∀ j, j < n → ¬ js_rn M D pl m t j) → post (-8)) : ∀ d i, i + d = n → (∀ j, j < i → ¬ js_rn M D pl m t j) → wY_running_26 post (nI m) f_jobs f_machines f_n f_decisions f_low f_high f_end f_time a_job a_machine a_dur a_plan a_first a_second a_heads a_tails a_prevs a_seq a_at a_best a_done a_mark (d + 1) (nI i) := by
  have hn := yc.1
  have en := yc.2.1
  have hD := yc.2.2.2.2.2.2.1
  have hM := yc.2.2.2.2.2.1
  have n4 := yc.2.2.2.1
  have bd := yc.2.2.2.2.2.2.2
  intro d
  induction d with
  | zero =>
    intro i hi no
    have e : i = n := by omega
    subst e
    exact br_t (xh_le en) (K0 no)
  | succ d ih =>
    intro i hi no
    have li : i < n := by omega
    have ii := xh_in (show i < 8 by omega)
    have pi := bp i li
    have mi := bd i li
    have nx : ¬ js_rn M D pl m t i → ∀ y, y = nI i + 1 → wY_running_26 post (nI m) f_jobs f_machines f_n f_decisions f_low f_high f_end f_time a_job a_machine a_dur a_plan a_first a_second a_heads a_tails a_prevs a_seq a_at a_best a_done a_mark (d + 1) y := fun q => nm_r (nI_1 i) (ih (i + 1) (by omega) (lt_s no q))
    refine br_f (xh_ge en li hn) ⟨ii, ?_⟩
    rw [js_rd hpl hn li, js_rd hM hn li, js_rd hD hn li, nI_add]
    refine br_c (fun r => ⟨ii, br_c (fun q => ?_) (fun q => ⟨ii, ii, br_c (fun s => ?_) (fun s => ?_)⟩)⟩) (fun r => ?_)
    · rw [hc, nI_ltI (by omega) (by omega)] at q
      exact nx fun z => by have := z.2.1; omega
    · rw [hc, nI_leI (by omega) (by omega)] at s
      exact nx fun z => by have := z.2.2; omega
    · rw [nI_eq (by omega) (by omega)] at r
      rw [hc, nI_ltI (by omega) (by omega)] at q
      rw [hc, nI_leI (by omega) (by omega)] at s
      exact K1 i li ⟨r, by omega, by omega⟩ no
    · rw [nI_eq (by omega) (by omega)] at r
      exact nx fun z => r z.1
end
end
section
section
variable {f_jobs f_machines f_count f_depth f_lower f_upper f_planned f_planSpan f_criticalSet f_clock f_nodeBound f_found f_bestSpan : Int32} {a_jobOf a_machineOf a_duration a_planStart a_heads a_tails a_rest a_best : Nat → Int32} {a_trail a_nodes : Nat → Int64}
theorem xw_renew {post : SX → Prop} {n nm dec : Nat} {M D H T : Nat → Nat} (c : js_CX n D (js_bo (a_trail dec)) H T) (xc : js_XC n nm M D f_count f_machines a_machineOf a_duration) (hd : f_depth = nI dec) (d28 : dec ≤ 28)
    (K : ∀ ah at' ar v, v ≤ 3000 → js_GB n nm M D H T v → post (f_jobs, f_machines, f_count, f_depth, nI v, nI (sg_f D n), 0, f_planSpan, f_criticalSet, 0, f_nodeBound, f_found, f_bestSpan, a_jobOf, a_machineOf, a_duration, a_trail, a_planStart, ah, at', ar, a_nodes, a_best)) : wpX_renew post (f_jobs, f_machines, f_count, f_depth, f_lower, f_upper, f_planned, f_planSpan, f_criticalSet, f_clock, f_nodeBound, f_found, f_bestSpan, a_jobOf, a_machineOf, a_duration, a_trail, a_planStart, a_heads, a_tails, a_rest, a_nodes, a_best) := by
  have hn := c.1
  have hD := xc.2.2.2.2.2
  have key : ∀ ah at' ar v, v ≤ 3000 → js_GB n nm M D H T v → ∀ d i, i + d = n → wX_renew_28 post f_jobs f_machines f_count f_depth (nI v) f_planned f_planSpan f_criticalSet f_clock f_nodeBound f_found f_bestSpan a_jobOf a_machineOf a_duration a_trail a_planStart ah at' ar a_nodes a_best (d + 1) (nI i) (nI (sg_f D i)) := by
    intro ah at' ar v hv gb d
    induction d with
    | zero =>
      intro i hi
      have e : i = n := by omega
      subst e
      exact br_t (xh_le xc.1) (K ah at' ar v hv gb)
    | succ d ih =>
      intro i hi
      refine br_f (xh_ge xc.1 (by omega) hn) ⟨xh_in (by omega), ?_⟩
      rw [js_rd hD hn (show i < n by omega)]
      exact nm_r (nI_add _ _) (nm_r (nI_1 i) (ih (i + 1) (by omega)))
  unfold wpX_renew
  refine ⟨by rw [hd]; exact vp_in_nI (by omega) (by omega), ?_⟩
  have e : a_trail f_depth.toNatClampNeg = a_trail dec := by rw [hd, nI_clamp (by omega)]
  rw [e]
  refine xw_eval c xc.1 hD (fun ah at' rH rT => ?_)
  exact xw_bound c xc.1 xc.2.1 xc.2.2.1 xc.2.2.2.1 (js_XCm xc) hD rH rT (fun ar v hv gb => ⟨n + 1, key ah at' ar v hv gb n 0 (by omega)⟩)
theorem xw_last {post : Int32 → Prop} {n j : Nat} {J : Nat → Nat} (hn : n ≤ 8) (hc : f_count = nI n) (hJ : js_Ar n a_jobOf J) (bJ : ∀ x, x < n → J x < 4) (bj : j < 4)
    (K1 : ∀ k, k < n → J k = j → (∀ x, x < n → J x = j → x ≤ k) → post (nI k)) (K0 : (∀ x, x < n → J x ≠ j) → post (-1)) : wpX_lastOfJob post (f_jobs, f_machines, f_count, f_depth, f_lower, f_upper, f_planned, f_planSpan, f_criticalSet, f_clock, f_nodeBound, f_found, f_bestSpan, a_jobOf, a_machineOf, a_duration, a_trail, a_planStart, a_heads, a_tails, a_rest, a_nodes, a_best) (nI j) := by
  have key : ∀ d i, i + d = n → ∀ x2, ((x2 = -1 ∧ ∀ x, x < i → J x ≠ j) ∨ ∃ k, k < n ∧ x2 = nI k ∧ J k = j ∧ ∀ x, x < i → J x = j → x ≤ k) → wX_lastOfJob_4 post (nI j) f_jobs f_machines f_count f_depth f_lower f_upper f_planned f_planSpan f_criticalSet f_clock f_nodeBound f_found f_bestSpan a_jobOf a_machineOf a_duration a_trail a_planStart a_heads a_tails a_rest a_nodes a_best (d + 1) x2 (nI i) := by
    intro d
    induction d with
    | zero =>
      intro i hi x2 h
      have e : i = n := by omega
      subst e
      refine br_t (xh_le hc) ?_
      rcases h with ⟨e, h⟩ | ⟨k, hk, e, ek, h⟩
      · rw [e]; exact K0 h
      · rw [e]; exact K1 k hk ek h
    | succ d ih =>
      intro i hi x2 h
      have li : i < n := by omega
      have ji := bJ i li
      refine br_f (xh_ge hc li hn) ⟨xh_in (by omega), ?_⟩
      rw [js_rd hJ hn li]
      refine br_c (fun q => ?_) (fun q => ?_)
      · rw [nI_eq (by omega) (by omega)] at q
        exact nm_r (nI_1 i) (ih (i + 1) (by omega) (nI i) (Or.inr ⟨i, li, rfl, q, fun x hx _ => by omega⟩))
      · rw [nI_eq (by omega) (by omega)] at q
        refine nm_r (nI_1 i) (ih (i + 1) (by omega) x2 ?_)
        rcases h with ⟨e, h⟩ | ⟨k, hk, e, ek, h⟩
        · exact Or.inl ⟨e, lt_s h q⟩
        · exact Or.inr ⟨k, hk, e, ek, lt_s h (fun z => absurd z q)⟩
  unfold wpX_lastOfJob
  exact ⟨n + 1, key n 0 (by omega) (-1) (Or.inl ⟨rfl, fun x hx => by omega⟩)⟩
theorem xw_append {post : SX → Prop} {n dec k b : Nat} (hn : n ≤ 8) (hc : f_count = nI n) (hd : f_depth = nI dec) (d28 : dec ≤ 28) (hk : k < n) (hb : b < n) (so : ∀ l, l ≤ dec → js_SO n (js_bo (a_trail l)))
    (K : ∀ tr, (∀ l, l ≤ dec → js_bo (tr l) = js_LK (js_bo (a_trail l)) k b) → post (f_jobs, f_machines, f_count, f_depth, f_lower, f_upper, f_planned, f_planSpan, f_criticalSet, f_clock, f_nodeBound, f_found, f_bestSpan, a_jobOf, a_machineOf, a_duration, tr, a_planStart, a_heads, a_tails, a_rest, a_nodes, a_best)) : wpX_appendOnTrail post (f_jobs, f_machines, f_count, f_depth, f_lower, f_upper, f_planned, f_planSpan, f_criticalSet, f_clock, f_nodeBound, f_found, f_bestSpan, a_jobOf, a_machineOf, a_duration, a_trail, a_planStart, a_heads, a_tails, a_rest, a_nodes, a_best) (nI k) (nI b) := by
  have key : ∀ d i, i + d = dec + 1 → ∀ tr, (∀ l, l < i → js_bo (tr l) = js_LK (js_bo (a_trail l)) k b) → (∀ l, i ≤ l → tr l = a_trail l) → wX_appendOnTrail_2 post (nI k) (nI b) f_jobs f_machines f_count f_depth f_lower f_upper f_planned f_planSpan f_criticalSet f_clock f_nodeBound f_found f_bestSpan (d + 1) (nI i) a_jobOf a_machineOf a_duration tr a_planStart a_heads a_tails a_rest a_nodes a_best := by
    intro d
    induction d with
    | zero =>
      intro i hi tr h1 h2
      exact br_t (by rw [hd]; exact nI_lt (by omega) (by omega)) (K tr fun l hl => h1 l (by omega))
    | succ d ih =>
      intro i hi tr h1 h2
      have ii : vp_in (nI i) 29 := vp_in_nI (by omega) (by omega)
      refine br_f (by rw [hd]; exact nI_nlt (by omega) (by omega)) ⟨ii, ?_⟩
      rw [nI_clamp (show i < 2 ^ 31 by omega), h2 i (Nat.le_refl _)]
      refine xw_link hc hn hk hb (so i (by omega)) (fun r er => ⟨ii, nm_e (nm_r (nI_1 i) (ih (i + 1) (by omega) _ (lt_s (fun l hl => ?_) ?_) (fun l hl => ?_)))⟩)
      · rw [pk_uLn (by omega)]; exact h1 l hl
      · rw [pk_uLs]; exact er
      · rw [pk_uLn (by omega)]; exact h2 l (by omega)
  unfold wpX_appendOnTrail
  exact ⟨dec + 2, key (dec + 1) 0 (by omega) a_trail (fun l hl => by omega) (fun l _ => rfl)⟩
end
/-! the reference's search against the least schedule -/
theorem js_SAof {n v : Nat} {J M D s : Nat → Nat} {R C : Nat → Nat → Bool} (hC : js_SO n C) (hD : ∀ x, x < n → 1 ≤ D x) (g : js_GN R C) (ht : ∀ x y, R x y = true → js_TD J M x y) (hch : ∀ x y, x < y → y < n → J x = J y → R x y = true) (o : js_OPT n M D C v s) : js_SA n J M D R s := by
  refine ⟨fun x y r => o.1.1 x y (g.1 x y r), fun x y hx hy ne t => ?_, fun y hy => js_semi hC hD g ht o hy⟩
  rcases t with t | t
  · rcases Nat.lt_or_gt_of_ne ne with l | l
    · exact Or.inl (o.1.1 x y (g.1 x y (hch x y l hy t)))
    · exact Or.inr (o.1.1 y x (g.1 y x (hch y x l hx t.symm)))
  · exact o.1.2 x y hx hy ne t
theorem js_OPTof {n v g : Nat} {M D s b : Nat → Nat} {C : Nat → Nat → Bool} (o : js_OPT n M D C v s) (gd : js_GD n D (js_SD n M D C) b g) (c : js_C n D b g s) : js_OPT n M D C v b ∧ g = v + 1 ∧ v ≤ 160 := by
  rcases gd with z | ⟨sd, e, l⟩
  · exact absurd z c.1
  · have q := o.2.2 b sd
    have e2 := o.2.1
    have vb : js_sp n D b = v ∧ js_lex n b s := by
      rcases c.2 with z | ⟨z, lx⟩
      · rcases q with q | ⟨q, _⟩ <;> omega
      · exact ⟨by omega, lx⟩
    refine ⟨⟨sd, vb.1, fun t ht => ?_⟩, by omega, by omega⟩
    rcases o.2.2 t ht with w | ⟨w, lx⟩
    · exact Or.inl w
    · exact Or.inr ⟨w, js_lextr vb.2 lx⟩
def js_R2 (R : Nat → Nat → Bool) (a b : Nat) : Nat → Nat → Bool := fun x y => R x y || (decide (x = a) && decide (y = b))
theorem js_R2i {R : Nat → Nat → Bool} {a b x y : Nat} : js_R2 R a b x y = true ↔ R x y = true ∨ (x = a ∧ y = b) := by simp [js_R2]
section
variable {f_jobs f_machines f_n f_decisions f_low f_high f_end f_time : Int32} {a_job a_machine a_dur a_plan a_first a_second a_heads a_tails a_prevs a_seq a_at a_best a_done a_mark : Nat → Int32}
theorem yw_sA {post : Int32 → SY → Prop} {n nm : Nat} {J M D : Nat → Nat} {R C : Nat → Nat → Bool} (yc : js_YC n nm J M D f_n f_machines a_job a_machine a_dur) (hC : js_SO n C) (g : js_GN R C) (ht : ∀ x y, R x y = true → js_TD J M x y) (hch : ∀ x y, x < y → y < n → J x = J y → R x y = true) (pv : js_PV n R a_prevs)
    (K : ∀ v b sq at' ab dn, js_Ar n ab b → js_OPT n M D C v b → v ≤ 160 → post (nI v) (f_jobs, f_machines, f_n, f_decisions, f_low, f_high, f_end, f_time, a_job, a_machine, a_dur, a_plan, a_first, a_second, a_heads, a_tails, a_prevs, sq, at', ab, dn, a_mark)) : wpY_search post (f_jobs, f_machines, f_n, f_decisions, f_low, f_high, f_end, f_time, a_job, a_machine, a_dur, a_plan, a_first, a_second, a_heads, a_tails, a_prevs, a_seq, a_at, a_best, a_done, a_mark) (-1) (-1) := by
  have hn := yc.1
  have bd := yc.2.2.2.2.2.2.2
  obtain ⟨s0, hs0, _⟩ := js_ser M D hC hn
  obtain ⟨v, s, o⟩ := js_OPTex ⟨s0, hs0⟩
  refine yw_search (s := s) (P := js_SD n M D C) yc (fun x y r => hC.1 x y (g.1 x y r)) ht hch (fun b b' e h => js_SDeq hC e h) (fun σ a I => (js_YIf hn hC g I).1) (fun c hc => ⟨fun z => ?_, fun _ => pv c hc⟩) (fun g' b sq at' ab dn h5 gd cc => ?_)
  · exact absurd z (fun z => nI_pos (n := c) (by omega) (by rw [z]; decide))
  · obtain ⟨o', e, l⟩ := js_OPTof o gd (cc (js_SAof hC (fun x hx => (bd x hx).2.2.1) g ht hch o))
    have KK := K v b sq at' ab dn h5 o' l
    rw [e, js_lss]
    exact KK
theorem yw_need {n a b : Nat} {R : Nat → Nat → Bool} (hn : n ≤ 8) (ha : a < n) (hb : b < n) (pv : js_PV n R a_prevs) : ∀ c, c < n → (nI c = nI b → ∀ x, bt (a_prevs c ||| ((1 : Int32) <<< (nI a &&& 31))) x = true ↔ js_R2 R a b x c = true) ∧ (¬ nI c = nI b → ∀ x, bt (a_prevs c) x = true ↔ js_R2 R a b x c = true) := by
  intro c hc
  refine ⟨fun e x => ?_, fun e x => ?_⟩
  · have e' : c = b := (nI_eq (by omega) (by omega)).mp e
    rw [js_R2i, ← pv c hc x]
    rcases Nat.lt_or_ge x 32 with l | l
    · rw [js_bs (by omega) l, Bool.or_eq_true, decide_eq_true_eq]
      exact or_congr Iff.rfl ⟨fun z => ⟨z, e'⟩, fun z => z.1⟩
    · rw [b_big l, b_big l]
      exact ⟨Or.inl, fun z => z.elim id (fun z => by omega)⟩
  · have e' : c ≠ b := fun z => e (by rw [z])
    rw [js_R2i, ← pv c hc x]
    exact ⟨Or.inl, fun z => z.elim id (fun z => absurd z.2 e')⟩
theorem yw_sB {post : Int32 → SY → Prop} {n nm a b : Nat} {J M D : Nat → Nat} {R C : Nat → Nat → Bool} (yc : js_YC n nm J M D f_n f_machines a_job a_machine a_dur) (hC : js_SO n C) (g : js_GN R C) (ht : ∀ x y, R x y = true → js_TD J M x y) (hch : ∀ x y, x < y → y < n → J x = J y → R x y = true) (pv : js_PV n R a_prevs)
    (ha : a < n) (hb : b < n) (ne : a ≠ b) (em : M a = M b)
    (K0 : C b a = true → ∀ sq at' ab dn, post (-1) (f_jobs, f_machines, f_n, f_decisions, f_low, f_high, f_end, f_time, a_job, a_machine, a_dur, a_plan, a_first, a_second, a_heads, a_tails, a_prevs, sq, at', ab, dn, a_mark))
    (K : ¬ C b a = true → ∀ v b' sq at' ab dn, js_OPT n M D (js_LK C a b) v b' → v ≤ 160 → post (nI v) (f_jobs, f_machines, f_n, f_decisions, f_low, f_high, f_end, f_time, a_job, a_machine, a_dur, a_plan, a_first, a_second, a_heads, a_tails, a_prevs, sq, at', ab, dn, a_mark)) : wpY_search post (f_jobs, f_machines, f_n, f_decisions, f_low, f_high, f_end, f_time, a_job, a_machine, a_dur, a_plan, a_first, a_second, a_heads, a_tails, a_prevs, a_seq, a_at, a_best, a_done, a_mark) (nI a) (nI b) := by
  have hn := yc.1
  have bd := yc.2.2.2.2.2.2.2
  have hR2 : ∀ x y, js_R2 R a b x y = true → x < n ∧ y < n := fun x y r => (js_R2i.mp r).elim (fun r => hC.1 x y (g.1 x y r)) (fun r => by rw [r.1, r.2]; exact ⟨ha, hb⟩)
  have ht2 : ∀ x y, js_R2 R a b x y = true → js_TD J M x y := fun x y r => (js_R2i.mp r).elim (ht x y) (fun r => by rw [r.1, r.2]; exact Or.inr em)
  have hch2 : ∀ x y, x < y → y < n → J x = J y → js_R2 R a b x y = true := fun x y l hy e => js_R2i.mpr (Or.inl (hch x y l hy e))
  by_cases q : C b a = true
  · refine yw_search (s := fun _ => 0) (P := fun _ => False) yc hR2 ht2 hch2 (fun _ _ _ h => h) (fun σ t I => ?_) (yw_need hn ha hb pv) (fun g' b sq at' ab dn h5 gd _ => ?_)
    · obtain ⟨i1, i2, i3, i4, i5⟩ := I
      have all : ∀ x, x < n → js_sq σ n x = true := by
        intro x hx
        refine Classical.byContradiction fun no => ?_
        have := js_cna hx no
        have := js_cnle (js_ad (js_sq σ n) x) n
        omega
      have rs : js_RS D C t := js_RSg hC g fun x y r => (i3 x y (all y (hC.1 x y (g.1 x y r)).2) (js_R2i.mpr (Or.inl r))).2
      have r1 := rs b a q
      have r2 := (i3 a b (all b hb) (js_R2i.mpr (Or.inr ⟨rfl, rfl⟩))).2
      have := (bd a ha).2.2.1
      omega
    · rcases gd with z | ⟨z, _⟩
      · rw [z, js_ls0]; exact K0 q sq at' ab dn
      · exact z.elim
  · have so := js_LKs hC ha hb ne q
    have gn : js_GN (js_R2 R a b) (js_LK C a b) := js_GNl g (fun x y r => js_R2i.mpr (Or.inl r)) (js_R2i.mpr (Or.inr ⟨rfl, rfl⟩)) (fun x y r => (js_R2i.mp r).elim (fun r => js_LKsub (g.1 x y r)) (fun r => by rw [r.1, r.2]; exact js_LKab a b))
    obtain ⟨s0, hs0, _⟩ := js_ser M D so hn
    obtain ⟨v, s, o⟩ := js_OPTex ⟨s0, hs0⟩
    refine yw_search (s := s) (P := js_SD n M D (js_LK C a b)) yc hR2 ht2 hch2 (fun b b' e h => js_SDeq so e h) (fun σ a I => (js_YIf hn so gn I).1) (yw_need hn ha hb pv) (fun g' b' sq at' ab dn h5 gd cc => ?_)
    obtain ⟨o', e, l⟩ := js_OPTof o gd (cc (js_SAof so (fun x hx => (bd x hx).2.2.1) gn ht2 hch2 o))
    have KK := K q v b' sq at' ab dn o' l
    rw [e, js_lss]
    exact KK
end
end
section
def js_RB (n nm nj dec : Nat) (J M D F S : Nat → Nat) (xj xm xc xd : Int32) (xjo xma xdu : Nat → Int32) (xtr : Nat → Int64) (yj ym yn yd : Int32) (yjo yma ydu yfi yse : Nat → Int32) : Prop :=
  xj = nI nj ∧ yj = nI nj ∧ nj ≤ 4 ∧ js_XC n nm M D xc xm xma xdu ∧ js_Ar n xjo J ∧ js_YC n nm J M D yn ym yjo yma ydu ∧ xd = nI dec ∧ js_YD dec F S yd yfi yse ∧
  (∀ i, i < dec → F i < n ∧ S i < n ∧ M (F i) = M (S i)) ∧ (∀ l, l ≤ dec → js_LV n l J F S (js_bo (xtr l)))
def js_RH (n dec : Nat) (J D F S H T : Nat → Nat) (xtr : Nat → Int64) (yhe yta ypv : Nat → Int32) : Prop :=
  js_CX n D (js_bo (xtr dec)) H T ∧ js_Ar n yhe H ∧ js_Ar n yta T ∧ js_PV n (js_RR n J F S dec) ypv
def js_RO (n : Nat) (M D : Nat → Nat) (C : Nat → Nat → Bool) (xlo xhi ylo yhi : Int32) : Prop :=
  ∃ lo hi, xlo = nI lo ∧ ylo = nI lo ∧ xhi = nI hi ∧ yhi = nI hi ∧ hi ≤ 3000 ∧ (∀ s, js_SD n M D C s → lo ≤ js_sp n D s) ∧ (∃ s, js_SD n M D C s ∧ js_sp n D s ≤ hi)
def js_RP (n : Nat) (J M D : Nat → Nat) (xp xs xcr xcl : Int32) (xpl : Nat → Int32) (ye yt : Int32) (ypl : Nat → Int32) : Prop :=
  (xp = 0 ∧ yt = -1) ∨ (xp = 1 ∧ ∃ t v pl, xcl = nI t ∧ yt = nI t ∧ xs = nI v ∧ ye = nI v ∧ js_Ar n xpl pl ∧ js_Ar n ypl pl ∧ t ≤ v ∧ v ≤ 3000 ∧ (∀ x, x < n → pl x + D x ≤ v) ∧ (∀ x, bt xcr x = true ↔ js_Q n J M D pl v x))
/-- the two shops hold the same operations, decisions, bounds and plan -/
def i_Rel (_ : Nat) (u : SX) (v : SY) : Prop := match u, v with
  | (f_jobs, f_machines, f_count, f_depth, f_lower, f_upper, f_planned, f_planSpan, f_criticalSet, f_clock, f_nodeBound, f_found, f_bestSpan, a_jobOf, a_machineOf, a_duration, a_trail, a_planStart, a_heads, a_tails, a_rest, a_nodes, a_best), (g_jobs, g_machines, g_n, g_decisions, g_low, g_high, g_end, g_time, b_job, b_machine, b_dur, b_plan, b_first, b_second, b_heads, b_tails, b_prevs, b_seq, b_at, b_best, b_done, b_mark) => ∃ n nm nj dec J M D F S H T, js_RB n nm nj dec J M D F S f_jobs f_machines f_count f_depth a_jobOf a_machineOf a_duration a_trail g_jobs g_machines g_n g_decisions b_job b_machine b_dur b_first b_second ∧
      js_RH n dec J D F S H T a_trail b_heads b_tails b_prevs ∧ js_RO n M D (js_bo (a_trail dec)) f_lower f_upper g_low g_high ∧ js_RP n J M D f_planned f_planSpan f_criticalSet f_clock a_planStart g_end g_time b_plan
section
variable {f_jobs f_machines f_count f_depth f_lower f_upper f_planned f_planSpan f_criticalSet f_clock f_nodeBound f_found f_bestSpan : Int32} {a_jobOf a_machineOf a_duration a_planStart a_heads a_tails a_rest a_best : Nat → Int32} {a_trail a_nodes : Nat → Int64}
variable {g_jobs g_machines g_n g_decisions g_low g_high g_end g_time : Int32} {b_job b_machine b_dur b_plan b_first b_second b_heads b_tails b_prevs b_seq b_at b_best b_done b_mark : Nat → Int32}
theorem rl_mk {k n nm nj dec : Nat} {J M D F S H T : Nat → Nat} (rb : js_RB n nm nj dec J M D F S f_jobs f_machines f_count f_depth a_jobOf a_machineOf a_duration a_trail g_jobs g_machines g_n g_decisions b_job b_machine b_dur b_first b_second)
    (rh : js_RH n dec J D F S H T a_trail b_heads b_tails b_prevs) (ro : js_RO n M D (js_bo (a_trail dec)) f_lower f_upper g_low g_high) (rp : js_RP n J M D f_planned f_planSpan f_criticalSet f_clock a_planStart g_end g_time b_plan) : i_Rel k (f_jobs, f_machines, f_count, f_depth, f_lower, f_upper, f_planned, f_planSpan, f_criticalSet, f_clock, f_nodeBound, f_found, f_bestSpan, a_jobOf, a_machineOf, a_duration, a_trail, a_planStart, a_heads, a_tails, a_rest, a_nodes, a_best) (g_jobs, g_machines, g_n, g_decisions, g_low, g_high, g_end, g_time, b_job, b_machine, b_dur, b_plan, b_first, b_second, b_heads, b_tails, b_prevs, b_seq, b_at, b_best, b_done, b_mark) :=
  ⟨n, nm, nj, dec, J, M, D, F, S, H, T, rb, rh, ro, rp⟩
end
theorem rl_el {k : Nat} {u : SX} {v : SY} {P : SX → SY → Prop} (h : ∀ f_jobs f_machines f_count f_depth f_lower f_upper f_planned f_planSpan f_criticalSet f_clock f_nodeBound f_found f_bestSpan a_jobOf a_machineOf a_duration a_trail a_planStart a_heads a_tails a_rest a_nodes a_best g_jobs g_machines g_n g_decisions g_low g_high g_end g_time b_job b_machine b_dur b_plan b_first b_second b_heads b_tails b_prevs b_seq b_at b_best b_done b_mark n nm nj dec J M D F S H T, js_RB n nm nj dec J M D F S f_jobs f_machines f_count f_depth a_jobOf a_machineOf a_duration a_trail g_jobs g_machines g_n g_decisions b_job b_machine b_dur b_first b_second →
      js_RH n dec J D F S H T a_trail b_heads b_tails b_prevs → js_RO n M D (js_bo (a_trail dec)) f_lower f_upper g_low g_high → js_RP n J M D f_planned f_planSpan f_criticalSet f_clock a_planStart g_end g_time b_plan → P (f_jobs, f_machines, f_count, f_depth, f_lower, f_upper, f_planned, f_planSpan, f_criticalSet, f_clock, f_nodeBound, f_found, f_bestSpan, a_jobOf, a_machineOf, a_duration, a_trail, a_planStart, a_heads, a_tails, a_rest, a_nodes, a_best) (g_jobs, g_machines, g_n, g_decisions, g_low, g_high, g_end, g_time, b_job, b_machine, b_dur, b_plan, b_first, b_second, b_heads, b_tails, b_prevs, b_seq, b_at, b_best, b_done, b_mark)) (I : i_Rel k u v) : P u v := by
  obtain ⟨f_jobs, f_machines, f_count, f_depth, f_lower, f_upper, f_planned, f_planSpan, f_criticalSet, f_clock, f_nodeBound, f_found, f_bestSpan, a_jobOf, a_machineOf, a_duration, a_trail, a_planStart, a_heads, a_tails, a_rest, a_nodes, a_best⟩ := u
  obtain ⟨g_jobs, g_machines, g_n, g_decisions, g_low, g_high, g_end, g_time, b_job, b_machine, b_dur, b_plan, b_first, b_second, b_heads, b_tails, b_prevs, b_seq, b_at, b_best, b_done, b_mark⟩ := v
  obtain ⟨n, nm, nj, dec, J, M, D, F, S, H, T, rb, rh, ro, rp⟩ := I
  exact h f_jobs f_machines f_count f_depth f_lower f_upper f_planned f_planSpan f_criticalSet f_clock f_nodeBound f_found f_bestSpan a_jobOf a_machineOf a_duration a_trail a_planStart a_heads a_tails a_rest a_nodes a_best g_jobs g_machines g_n g_decisions g_low g_high g_end g_time b_job b_machine b_dur b_plan b_first b_second b_heads b_tails b_prevs b_seq b_at b_best b_done b_mark n nm nj dec J M D F S H T rb rh ro rp
section
variable {f_jobs f_machines f_count f_depth f_lower f_upper f_planned f_planSpan f_criticalSet f_clock f_nodeBound f_found f_bestSpan : Int32} {a_jobOf a_machineOf a_duration a_planStart a_heads a_tails a_rest a_best : Nat → Int32} {a_trail a_nodes : Nat → Int64}
theorem xw_exB {post : Int32 → Prop} {n : Nat} {v : Int32} (hc : f_count = nI n) (b : v < 0 ∨ nI n ≤ v) (h : post 0) : wpX_exists post (f_jobs, f_machines, f_count, f_depth, f_lower, f_upper, f_planned, f_planSpan, f_criticalSet, f_clock, f_nodeBound, f_found, f_bestSpan, a_jobOf, a_machineOf, a_duration, a_trail, a_planStart, a_heads, a_tails, a_rest, a_nodes, a_best) v := by
  unfold wpX_exists
  exact br_c (fun _ => h) (fun q => br_t (by rw [hc]; exact b.elim (fun z => absurd z q) id) h)
theorem xw_exG {post : Int32 → Prop} {n a : Nat} (hn : n ≤ 8) (hc : f_count = nI n) (ha : a < n) (h : post 1) : wpX_exists post (f_jobs, f_machines, f_count, f_depth, f_lower, f_upper, f_planned, f_planSpan, f_criticalSet, f_clock, f_nodeBound, f_found, f_bestSpan, a_jobOf, a_machineOf, a_duration, a_trail, a_planStart, a_heads, a_tails, a_rest, a_nodes, a_best) (nI a) := by
  unfold wpX_exists
  exact br_f (nI_pos (by omega)) (br_f (xh_ge hc ha hn) h)
theorem xw_meB {post : Int32 → Prop} {n : Nat} {v : Int32} (hc : f_machines = nI n) (b : v < 0 ∨ nI n ≤ v) (h : post 0) : wpX_machineExists post (f_jobs, f_machines, f_count, f_depth, f_lower, f_upper, f_planned, f_planSpan, f_criticalSet, f_clock, f_nodeBound, f_found, f_bestSpan, a_jobOf, a_machineOf, a_duration, a_trail, a_planStart, a_heads, a_tails, a_rest, a_nodes, a_best) v := by
  unfold wpX_machineExists
  exact br_c (fun _ => h) (fun q => br_t (by rw [hc]; exact b.elim (fun z => absurd z q) id) h)
theorem xw_meG {post : Int32 → Prop} {n a : Nat} (hn : n ≤ 8) (hc : f_machines = nI n) (ha : a < n) (h : post 1) : wpX_machineExists post (f_jobs, f_machines, f_count, f_depth, f_lower, f_upper, f_planned, f_planSpan, f_criticalSet, f_clock, f_nodeBound, f_found, f_bestSpan, a_jobOf, a_machineOf, a_duration, a_trail, a_planStart, a_heads, a_tails, a_rest, a_nodes, a_best) (nI a) := by
  unfold wpX_machineExists
  exact br_f (nI_pos (by omega)) (br_f (xh_ge hc ha hn) h)
end
section
variable {f_jobs f_machines f_n f_decisions f_low f_high f_end f_time : Int32} {a_job a_machine a_dur a_plan a_first a_second a_heads a_tails a_prevs a_seq a_at a_best a_done a_mark : Nat → Int32}
theorem yw_exB {post : Int32 → Prop} {n : Nat} {v : Int32} (hc : f_n = nI n) (b : v < 0 ∨ nI n ≤ v) (h : post 0) : wpY_exists post (f_jobs, f_machines, f_n, f_decisions, f_low, f_high, f_end, f_time, a_job, a_machine, a_dur, a_plan, a_first, a_second, a_heads, a_tails, a_prevs, a_seq, a_at, a_best, a_done, a_mark) v := by
  unfold wpY_exists
  exact br_c (fun _ => h) (fun q => br_t (by rw [hc]; exact b.elim (fun z => absurd z q) id) h)
theorem yw_exG {post : Int32 → Prop} {n a : Nat} (hn : n ≤ 8) (hc : f_n = nI n) (ha : a < n) (h : post 1) : wpY_exists post (f_jobs, f_machines, f_n, f_decisions, f_low, f_high, f_end, f_time, a_job, a_machine, a_dur, a_plan, a_first, a_second, a_heads, a_tails, a_prevs, a_seq, a_at, a_best, a_done, a_mark) (nI a) := by
  unfold wpY_exists
  exact br_f (nI_pos (by omega)) (br_f (xh_ge hc ha hn) h)
end
theorem xh_ix (x : Int32) {n : Nat} (hn : n ≤ 8) : (x < 0 ∨ nI n ≤ x) ∨ ∃ j : Nat, j < n ∧ x = nI j := by
  rcases pk_ix x (n := n) (by omega) with h | h | h
  · exact Or.inl (Or.inl h)
  · exact Or.inl (Or.inr h)
  · exact Or.inr h
theorem js_RBt {n nm nj dec : Nat} {J M D F S : Nat → Nat} {xj xm xc xd : Int32} {xjo xma xdu : Nat → Int32} {xtr : Nat → Int64} {yj ym yn yd : Int32} {yjo yma ydu yfi yse : Nat → Int32} (h : js_RB n nm nj dec J M D F S xj xm xc xd xjo xma xdu xtr yj ym yn yd yjo yma ydu yfi yse) :
    (∀ x y, js_RR n J F S dec x y = true → js_TD J M x y) ∧ (∀ x y, x < y → y < n → J x = J y → js_RR n J F S dec x y = true) := by
  obtain ⟨_, _, _, _, _, _, _, _, hF, _⟩ := h
  refine ⟨fun x y q => ?_, fun x y l hy e => js_RRi.mpr ⟨⟨by omega, hy⟩, Or.inr ⟨e, l⟩⟩⟩
  rcases (js_RRi.mp q).2 with ⟨i, hi, e1, e2⟩ | ⟨e, _⟩
  · rw [← e1, ← e2]; exact Or.inr (hF i hi).2.2
  · exact Or.inl e
section
variable {f_jobs f_machines f_count f_depth f_lower f_upper f_planned f_planSpan f_criticalSet f_clock f_nodeBound f_found f_bestSpan : Int32} {a_jobOf a_machineOf a_duration a_planStart a_heads a_tails a_rest a_best : Nat → Int32} {a_trail a_nodes : Nat → Int64}
variable {g_jobs g_machines g_n g_decisions g_low g_high g_end g_time : Int32} {b_job b_machine b_dur b_plan b_first b_second b_heads b_tails b_prevs b_seq b_at b_best b_done b_mark : Nat → Int32}
variable {n nm nj dec : Nat} {J M D F S H T : Nat → Nat}
theorem rv_head {k : Nat} (v1 : Int32) (rb : js_RB n nm nj dec J M D F S f_jobs f_machines f_count f_depth a_jobOf a_machineOf a_duration a_trail g_jobs g_machines g_n g_decisions b_job b_machine b_dur b_first b_second)
    (rh : js_RH n dec J D F S H T a_trail b_heads b_tails b_prevs) (ro : js_RO n M D (js_bo (a_trail dec)) f_lower f_upper g_low g_high) (rp : js_RP n J M D f_planned f_planSpan f_criticalSet f_clock a_planStart g_end g_time b_plan) :
    wpX_head (fun r u' => wpY_head (fun r' => r' = r ∧ i_Rel (k + 4) u' (g_jobs, g_machines, g_n, g_decisions, g_low, g_high, g_end, g_time, b_job, b_machine, b_dur, b_plan, b_first, b_second, b_heads, b_tails, b_prevs, b_seq, b_at, b_best, b_done, b_mark)) (g_jobs, g_machines, g_n, g_decisions, g_low, g_high, g_end, g_time, b_job, b_machine, b_dur, b_plan, b_first, b_second, b_heads, b_tails, b_prevs, b_seq, b_at, b_best, b_done, b_mark) v1) (f_jobs, f_machines, f_count, f_depth, f_lower, f_upper, f_planned, f_planSpan, f_criticalSet, f_clock, f_nodeBound, f_found, f_bestSpan, a_jobOf, a_machineOf, a_duration, a_trail, a_planStart, a_heads, a_tails, a_rest, a_nodes, a_best) v1 := by
  have hn := rh.1.1
  have xc := rb.2.2.2.1
  have yc := rb.2.2.2.2.2.1
  have d28 := rb.2.2.2.2.2.2.2.1.1
  have hd := rb.2.2.2.2.2.2.1
  unfold wpX_head wpY_head
  rcases xh_ix v1 hn with b | ⟨a, ha, e⟩
  · exact xw_exB xc.1 b (br_t rfl (yw_exB yc.2.1 b (br_t rfl ⟨rfl, rl_mk rb rh ro rp⟩)))
  · subst e
    have ia := xh_in (show a < 8 by omega)
    refine xw_exG hn xc.1 ha (br_f (by decide) ⟨by rw [hd]; exact vp_in_nI (by omega) (by omega), ?_⟩)
    have et : a_trail f_depth.toNatClampNeg = a_trail dec := by rw [hd, nI_clamp (by omega)]
    rw [et]
    refine xw_eval rh.1 xc.1 xc.2.2.2.2.2 (fun ah at' rH rT => ⟨ia, yw_exG hn yc.2.1 ha (br_f (by decide) ⟨ia, ?_, rl_mk rb rh ro rp⟩)⟩)
    rw [js_rd rH hn ha, js_rd rh.2.1 hn ha]
theorem rv_tail {k : Nat} (v1 : Int32) (rb : js_RB n nm nj dec J M D F S f_jobs f_machines f_count f_depth a_jobOf a_machineOf a_duration a_trail g_jobs g_machines g_n g_decisions b_job b_machine b_dur b_first b_second)
    (rh : js_RH n dec J D F S H T a_trail b_heads b_tails b_prevs) (ro : js_RO n M D (js_bo (a_trail dec)) f_lower f_upper g_low g_high) (rp : js_RP n J M D f_planned f_planSpan f_criticalSet f_clock a_planStart g_end g_time b_plan) :
    wpX_tail (fun r u' => wpY_tail (fun r' => r' = r ∧ i_Rel (k + 4) u' (g_jobs, g_machines, g_n, g_decisions, g_low, g_high, g_end, g_time, b_job, b_machine, b_dur, b_plan, b_first, b_second, b_heads, b_tails, b_prevs, b_seq, b_at, b_best, b_done, b_mark)) (g_jobs, g_machines, g_n, g_decisions, g_low, g_high, g_end, g_time, b_job, b_machine, b_dur, b_plan, b_first, b_second, b_heads, b_tails, b_prevs, b_seq, b_at, b_best, b_done, b_mark) v1) (f_jobs, f_machines, f_count, f_depth, f_lower, f_upper, f_planned, f_planSpan, f_criticalSet, f_clock, f_nodeBound, f_found, f_bestSpan, a_jobOf, a_machineOf, a_duration, a_trail, a_planStart, a_heads, a_tails, a_rest, a_nodes, a_best) v1 := by
  have hn := rh.1.1
  have xc := rb.2.2.2.1
  have yc := rb.2.2.2.2.2.1
  have d28 := rb.2.2.2.2.2.2.2.1.1
  have hd := rb.2.2.2.2.2.2.1
  unfold wpX_tail wpY_tail
  rcases xh_ix v1 hn with b | ⟨a, ha, e⟩
  · exact xw_exB xc.1 b (br_t rfl (yw_exB yc.2.1 b (br_t rfl ⟨rfl, rl_mk rb rh ro rp⟩)))
  · subst e
    have ia := xh_in (show a < 8 by omega)
    refine xw_exG hn xc.1 ha (br_f (by decide) ⟨by rw [hd]; exact vp_in_nI (by omega) (by omega), ?_⟩)
    have et : a_trail f_depth.toNatClampNeg = a_trail dec := by rw [hd, nI_clamp (by omega)]
    rw [et]
    refine xw_eval rh.1 xc.1 xc.2.2.2.2.2 (fun ah at' rH rT => ⟨ia, yw_exG hn yc.2.1 ha (br_f (by decide) ⟨ia, ?_, rl_mk rb rh ro rp⟩)⟩)
    rw [js_rd rT hn ha, js_rd rh.2.2.1 hn ha]
theorem rv_mb {k : Nat} (v1 : Int32) (rb : js_RB n nm nj dec J M D F S f_jobs f_machines f_count f_depth a_jobOf a_machineOf a_duration a_trail g_jobs g_machines g_n g_decisions b_job b_machine b_dur b_first b_second)
    (rh : js_RH n dec J D F S H T a_trail b_heads b_tails b_prevs) (ro : js_RO n M D (js_bo (a_trail dec)) f_lower f_upper g_low g_high) (rp : js_RP n J M D f_planned f_planSpan f_criticalSet f_clock a_planStart g_end g_time b_plan) :
    wpX_machineBound (fun r u' => wpY_machineBound (fun r' => r' = r ∧ i_Rel (k + 4) u' (g_jobs, g_machines, g_n, g_decisions, g_low, g_high, g_end, g_time, b_job, b_machine, b_dur, b_plan, b_first, b_second, b_heads, b_tails, b_prevs, b_seq, b_at, b_best, b_done, b_mark)) (g_jobs, g_machines, g_n, g_decisions, g_low, g_high, g_end, g_time, b_job, b_machine, b_dur, b_plan, b_first, b_second, b_heads, b_tails, b_prevs, b_seq, b_at, b_best, b_done, b_mark) v1) (f_jobs, f_machines, f_count, f_depth, f_lower, f_upper, f_planned, f_planSpan, f_criticalSet, f_clock, f_nodeBound, f_found, f_bestSpan, a_jobOf, a_machineOf, a_duration, a_trail, a_planStart, a_heads, a_tails, a_rest, a_nodes, a_best) v1 := by
  have hn := rh.1.1
  have xc := rb.2.2.2.1
  have yc := rb.2.2.2.2.2.1
  have d28 := rb.2.2.2.2.2.2.2.1.1
  have hd := rb.2.2.2.2.2.2.1
  have n4 := xc.2.2.1
  have bb := js_CXb rh.1
  unfold wpX_machineBound
  rcases xh_ix v1 (n := nm) (by omega) with b | ⟨a, ha, e⟩
  · refine xw_meB xc.2.1 b (br_t rfl ?_)
    unfold wpY_machineBound
    refine br_c (fun _ => ⟨rfl, rl_mk rb rh ro rp⟩) (fun q => br_f ?_ ⟨rfl, rl_mk rb rh ro rp⟩)
    rw [yc.2.2.1]
    exact Int32.not_lt.mpr (b.elim (fun z => absurd z q) id)
  · subst e
    refine xw_meG (by omega) xc.2.1 ha (br_f (by decide) ⟨by rw [hd]; exact vp_in_nI (by omega) (by omega), ?_⟩)
    have et : a_trail f_depth.toNatClampNeg = a_trail dec := by rw [hd, nI_clamp (by omega)]
    rw [et]
    refine xw_eval rh.1 xc.1 xc.2.2.2.2.2 (fun ah at' rH rT => ?_)
    refine xw_jack rh.1 xc.1 xc.2.2.2.1 (js_XCm xc) (by omega) xc.2.2.2.2.2 rH rT (fun ar w hw bd => ?_)
    refine yw_mb yc rh.2.1 rh.2.2.1 (fun x hx => by have := bb x hx; omega) ha (fun w' hw' bd' => ?_)
    exact ⟨by rw [js_BDuq bd bd'], rl_mk rb rh ro rp⟩
end
end
section
theorem js_Ars {n v : Nat} {a : Nat → Int32} {H : Nat → Nat} (h : js_Ar n a H) : js_Ar (n + 1) (upd a n (nI v)) (js_up H n v) := by
  intro i hi
  by_cases e : i = n
  · rw [e, pk_us, js_upc]
  · rw [pk_un e, js_upn e]; exact h i (by omega)
theorem js_Ard {n m : Nat} {a : Nat → Int32} {H : Nat → Nat} (h : js_Ar n a H) (l : m ≤ n) : js_Ar m a H := fun i hi => h i (by omega)
theorem js_ROr {n nm v v' : Nat} {M D H T : Nat → Nat} {C : Nat → Nat → Bool} (c : js_CX n D C H T) (g : js_GB n nm M D H T v) (g' : js_GB n nm M D H T v') : js_RO n M D C (nI v) (nI (sg_f D n)) (nI v') (nI (sg_f D n)) := by
  have e := js_GBuq g g'
  have b := js_Ds c.1 (fun x hx => (c.2.1 x hx).2)
  obtain ⟨s, hs, hl⟩ := js_ser M D c.2.2.1 c.1
  exact ⟨v, sg_f D n, rfl, by rw [e], rfl, rfl, by omega, fun s hs => js_GBle c.2.2.1 c.2.2.2.1 c.2.2.2.2 hs (Nat.le_refl _) g, s, hs, js_sple.mpr hl⟩
theorem js_CXex {n : Nat} {D : Nat → Nat} {C : Nat → Nat → Bool} (hn : n ≤ 8) (hD : ∀ x, x < n → 1 ≤ D x ∧ D x ≤ 20) (hC : js_SO n C) : ∃ H T, js_CX n D C H T := by
  obtain ⟨H, hH⟩ := js_HDex D hC
  obtain ⟨T, hT⟩ := js_HDex D (js_Ts hC)
  exact ⟨H, T, hn, hD, hC, hH, hT⟩
section
variable {f_jobs f_machines f_count f_depth f_lower f_upper f_planned f_planSpan f_criticalSet f_clock f_nodeBound f_found f_bestSpan : Int32} {a_jobOf a_machineOf a_duration a_planStart a_heads a_tails a_rest a_best : Nat → Int32} {a_trail a_nodes : Nat → Int64}
variable {g_jobs g_machines g_n g_decisions g_low g_high g_end g_time : Int32} {b_job b_machine b_dur b_plan b_first b_second b_heads b_tails b_prevs b_seq b_at b_best b_done b_mark : Nat → Int32}
variable {n nm nj dec : Nat} {J M D F S H T : Nat → Nat}
theorem rv_undo {k : Nat} (rb : js_RB n nm nj dec J M D F S f_jobs f_machines f_count f_depth a_jobOf a_machineOf a_duration a_trail g_jobs g_machines g_n g_decisions b_job b_machine b_dur b_first b_second)
    (rh : js_RH n dec J D F S H T a_trail b_heads b_tails b_prevs) (ro : js_RO n M D (js_bo (a_trail dec)) f_lower f_upper g_low g_high) (rp : js_RP n J M D f_planned f_planSpan f_criticalSet f_clock a_planStart g_end g_time b_plan) :
    wpX_undo (fun r u' => wpY_undo (fun r' v' => r' = r ∧ i_Rel (k + 4) u' v') (g_jobs, g_machines, g_n, g_decisions, g_low, g_high, g_end, g_time, b_job, b_machine, b_dur, b_plan, b_first, b_second, b_heads, b_tails, b_prevs, b_seq, b_at, b_best, b_done, b_mark)) (f_jobs, f_machines, f_count, f_depth, f_lower, f_upper, f_planned, f_planSpan, f_criticalSet, f_clock, f_nodeBound, f_found, f_bestSpan, a_jobOf, a_machineOf, a_duration, a_trail, a_planStart, a_heads, a_tails, a_rest, a_nodes, a_best) := by
  unfold wpX_undo wpY_undo
  cases dec with
  | zero => exact br_t rb.2.2.2.2.2.2.1 (br_t rb.2.2.2.2.2.2.2.1.2.1 ⟨rfl, rl_mk rb rh ro rp⟩)
  | succ d =>
    obtain ⟨ej, eyj, n4, xc, hJ, yc, hd, yd, hF, lv⟩ := rb
    have d28 := yd.1
    have hn := rh.1.1
    have lvd := lv d (by omega)
    obtain ⟨H', T', c⟩ := js_CXex hn rh.1.2.1 lvd.1
    have yd' : js_YD d F S (nI d) b_first b_second := ⟨by omega, rfl, js_Ard yd.2.2.1 (by omega), js_Ard yd.2.2.2.1 (by omega), fun i hi => yd.2.2.2.2 i (by omega)⟩
    refine br_f (by rw [hd]; exact nI_ne0 (by omega) (by omega)) (nm_r (e' := nI d) (by rw [hd, nI_pred]) ?_)
    refine xw_renew c xc rfl (by omega) (fun ah at' ar v hv gb => ?_)
    refine br_f (by rw [yd.2.1]; exact nI_ne0 (by omega) (by omega)) (nm_r (e' := nI d) (by rw [yd.2.1, nI_pred]) ?_)
    refine yw_renew yc yd' c lvd.2.1 lvd.2.2.1 (fun v' ah' at'' ap hv' gb' rH rT pv => ⟨rfl, ?_⟩)
    exact rl_mk (dec := d) ⟨ej, eyj, n4, xc, hJ, yc, rfl, yd', fun i hi => hF i (by omega), fun l hl => lv l (by omega)⟩ ⟨c, rH, rT, pv⟩ (js_ROr c gb gb') (Or.inl ⟨rfl, rfl⟩)
theorem rv_decide {k : Nat} (v1 v2 : Int32) (rb : js_RB n nm nj dec J M D F S f_jobs f_machines f_count f_depth a_jobOf a_machineOf a_duration a_trail g_jobs g_machines g_n g_decisions b_job b_machine b_dur b_first b_second)
    (rh : js_RH n dec J D F S H T a_trail b_heads b_tails b_prevs) (ro : js_RO n M D (js_bo (a_trail dec)) f_lower f_upper g_low g_high) (rp : js_RP n J M D f_planned f_planSpan f_criticalSet f_clock a_planStart g_end g_time b_plan) :
    wpX_decide (fun r u' => wpY_decide (fun r' v' => r' = r ∧ i_Rel (k + 4) u' v') (g_jobs, g_machines, g_n, g_decisions, g_low, g_high, g_end, g_time, b_job, b_machine, b_dur, b_plan, b_first, b_second, b_heads, b_tails, b_prevs, b_seq, b_at, b_best, b_done, b_mark) v1 v2) (f_jobs, f_machines, f_count, f_depth, f_lower, f_upper, f_planned, f_planSpan, f_criticalSet, f_clock, f_nodeBound, f_found, f_bestSpan, a_jobOf, a_machineOf, a_duration, a_trail, a_planStart, a_heads, a_tails, a_rest, a_nodes, a_best) v1 v2 := by
  have td := js_RBt rb
  have rb0 := rb
  obtain ⟨ej, eyj, n4, xc, hJ, yc, hd, yd, hF, lv⟩ := rb
  have d28 := yd.1
  have hn := rh.1.1
  have lvd := lv dec (Nat.le_refl _)
  have m4 := js_XCm xc
  unfold wpX_decide wpY_decide
  rcases xh_ix v1 hn with b | ⟨a, ha, e⟩
  · exact xw_exB xc.1 b (br_t rfl (yw_exB yc.2.1 b (br_t rfl ⟨rfl, rl_mk rb0 rh ro rp⟩)))
  · subst e
    refine xw_exG hn xc.1 ha (br_f (by decide) ?_)
    rcases xh_ix v2 hn with b | ⟨b, hb, e⟩
    · exact xw_exB xc.1 b (br_t rfl (yw_exG hn yc.2.1 ha (br_f (by decide) (yw_exB yc.2.1 b (br_t rfl ⟨rfl, rl_mk rb0 rh ro rp⟩)))))
    · subst e
      have ia := xh_in (show a < 8 by omega)
      have ib := xh_in (show b < 8 by omega)
      have ma := m4 a ha
      have mb := m4 b hb
      refine xw_exG hn xc.1 hb (br_f (by decide) ?_)
      by_cases e : a = b
      · subst e
        exact br_t rfl (yw_exG hn yc.2.1 ha (br_f (by decide) (yw_exG hn yc.2.1 ha (br_f (by decide) (br_t rfl ⟨rfl, rl_mk rb0 rh ro rp⟩)))))
      · have e' : ¬ nI a = nI b := fun q => e ((nI_eq (by omega) (by omega)).mp q)
        refine br_f e' ⟨ia, ib, ?_⟩
        rw [js_rd xc.2.2.2.1 hn ha, js_rd xc.2.2.2.1 hn hb]
        refine br_c (fun q => ?_) (fun q => ?_)
        · rw [nI_eq (by omega) (by omega)] at q
          have et : a_trail f_depth.toNatClampNeg = a_trail dec := by rw [hd, nI_clamp (by omega)]
          refine ⟨by rw [hd]; exact vp_in_nI (by omega) (by omega), nm_r et ?_⟩
          refine xw_prec (by omega) (by omega) (fun kn => br_f (by decide) ?_) (fun nk => br_t rfl ?_)
          · refine yw_exG hn yc.2.1 ha (br_f (by decide) (yw_exG hn yc.2.1 hb (br_f (by decide) (br_f e' ⟨ia, ib, br_t (by rw [js_rd yc.2.2.2.2.2.1 hn ha, js_rd yc.2.2.2.2.2.1 hn hb, q]) ?_⟩))))
            refine yw_sB yc lvd.1 lvd.2.1 td.1 td.2 rh.2.2.2 hb ha (fun z => e z.symm) q.symm (fun _ sq at' ab dn => br_f (by decide) ⟨rfl, rl_mk rb0 rh ro rp⟩) (fun z => absurd kn z)
          · refine xw_prec (by omega) (by omega) (fun cn => br_f (by decide) ?_) (fun nc => br_t rfl ?_)
            · refine yw_exG hn yc.2.1 ha (br_f (by decide) (yw_exG hn yc.2.1 hb (br_f (by decide) (br_f e' ⟨ia, ib, br_t (by rw [js_rd yc.2.2.2.2.2.1 hn ha, js_rd yc.2.2.2.2.2.1 hn hb, q]) ?_⟩))))
              refine yw_sB yc lvd.1 lvd.2.1 td.1 td.2 rh.2.2.2 hb ha (fun z => e z.symm) q.symm (fun z => absurd z nk) (fun _ v b' sq at' ab dn _ l => br_t (nI_pos' (by omega)) ?_)
              exact yw_sB yc lvd.1 lvd.2.1 td.1 td.2 rh.2.2.2 ha hb e q (fun _ sq at' ab dn => br_f (by decide) ⟨rfl, rl_mk rb0 rh ro rp⟩) (fun z => absurd cn z)
            · have dp := js_dple (js_LK (js_bo (a_trail dec)) a b)
              have F1 : ∀ i, i < dec → F i = js_up F dec a i ∧ S i = js_up S dec b i := fun i hi => ⟨(js_upn (by omega)).symm, (js_upn (by omega)).symm⟩
              have lvn := js_LVd hn (js_LVc F1 lvd) ha hb e nk nc js_upc js_upc
              have l28 : dec + 1 ≤ 28 := Nat.le_trans lvn.2.2.2 dp
              obtain ⟨H', T', c⟩ := js_CXex hn rh.1.2.1 lvn.1
              refine nm_r (e' := nI (dec + 1)) (by rw [hd, nI_1]) (xw_link xc.1 hn ha hb lvd.1 (fun r er => ⟨vp_in_nI (by omega) (by omega), nm_r (e' := vp_updL a_trail (dec + 1) r) (by rw [nI_clamp (by omega)]) ?_⟩))
              have ur : vp_updL a_trail (dec + 1) r (dec + 1) = r := pk_uLs
              have c' : js_CX n D (js_bo (vp_updL a_trail (dec + 1) r (dec + 1))) H' T' := by rw [ur, er]; exact c
              refine xw_renew c' xc rfl l28 (fun ah at' ar v hv gb => ?_)
              refine yw_exG hn yc.2.1 ha (br_f (by decide) (yw_exG hn yc.2.1 hb (br_f (by decide) (br_f e' ⟨ia, ib, br_t (by rw [js_rd yc.2.2.2.2.2.1 hn ha, js_rd yc.2.2.2.2.2.1 hn hb, q]) ?_⟩))))
              refine yw_sB yc lvd.1 lvd.2.1 td.1 td.2 rh.2.2.2 hb ha (fun z => e z.symm) q.symm (fun z => absurd z nk) (fun _ v2 b2 sq2 at2 ab2 dn2 _ l2 => br_t (nI_pos' (by omega)) ?_)
              refine yw_sB yc lvd.1 lvd.2.1 td.1 td.2 rh.2.2.2 ha hb e q (fun z => absurd z nc) (fun _ v3 b3 sq3 at3 ab3 dn3 _ l3 => br_t (nI_pos' (by omega)) ?_)
              have iv : vp_in g_decisions 28 := by rw [yd.2.1]; exact vp_in_nI (by omega) (by omega)
              have ec : g_decisions.toNatClampNeg = dec := by rw [yd.2.1, nI_clamp (by omega)]
              refine ⟨iv, nm_r (e' := upd b_first dec (nI a)) (by rw [ec]) (nm_r (e' := nI (dec + 1)) (by rw [yd.2.1, nI_1]) ⟨iv, nm_r (e' := upd b_second dec (nI b)) (by rw [ec]) ?_⟩)⟩
              have yd' : js_YD (dec + 1) (js_up F dec a) (js_up S dec b) (nI (dec + 1)) (upd b_first dec (nI a)) (upd b_second dec (nI b)) := by
                refine ⟨l28, rfl, js_Ars yd.2.2.1, js_Ars yd.2.2.2.1, fun i hi => ?_⟩
                by_cases z : i = dec
                · rw [z, js_upc, js_upc]; omega
                · rw [js_upn z, js_upn z]; exact yd.2.2.2.2 i (by omega)
              refine yw_renew yc yd' c lvn.2.1 lvn.2.2.1 (fun v' ah' at'' ap hv' gb' rH rT pv => ⟨rfl, ?_⟩)
              refine rl_mk (dec := dec + 1) (F := js_up F dec a) (S := js_up S dec b) (J := J) (M := M) (D := D) ⟨ej, eyj, n4, xc, hJ, yc, rfl, yd', fun i hi => ?_, fun l hl => ?_⟩ ⟨c', rH, rT, pv⟩ (js_ROr c' gb gb') (Or.inl ⟨rfl, rfl⟩)
              · by_cases z : i = dec
                · rw [z, js_upc, js_upc]; exact ⟨ha, hb, q⟩
                · rw [js_upn z, js_upn z]; exact hF i (by omega)
              · by_cases z : l = dec + 1
                · rw [z, ur, er]; exact lvn
                · rw [pk_uLn z]
                  exact js_LVc (fun i hi => F1 i (by omega)) (lv l (by omega))
        · rw [nI_eq (by omega) (by omega)] at q
          refine yw_exG hn yc.2.1 ha (br_f (by decide) (yw_exG hn yc.2.1 hb (br_f (by decide) (br_f e' ⟨ia, ib, br_f ?_ ⟨rfl, rl_mk rb0 rh ro rp⟩⟩))))
          rw [js_rd yc.2.2.2.2.2.1 hn ha, js_rd yc.2.2.2.2.2.1 hn hb, nI_eq (by omega) (by omega)]
          exact q
end
end
section
section
variable {f_jobs f_machines f_count f_depth f_lower f_upper f_planned f_planSpan f_criticalSet f_clock f_nodeBound f_found f_bestSpan : Int32} {a_jobOf a_machineOf a_duration a_planStart a_heads a_tails a_rest a_best : Nat → Int32} {a_trail a_nodes : Nat → Int64}
variable {g_jobs g_machines g_n g_decisions g_low g_high g_end g_time : Int32} {b_job b_machine b_dur b_plan b_first b_second b_heads b_tails b_prevs b_seq b_at b_best b_done b_mark : Nat → Int32}
variable {n nm nj dec : Nat} {J M D F S H T : Nat → Nat}
theorem rv_add {k : Nat} (v1 v2 v3 : Int32) (rb : js_RB n nm nj dec J M D F S f_jobs f_machines f_count f_depth a_jobOf a_machineOf a_duration a_trail g_jobs g_machines g_n g_decisions b_job b_machine b_dur b_first b_second)
    (rh : js_RH n dec J D F S H T a_trail b_heads b_tails b_prevs) (ro : js_RO n M D (js_bo (a_trail dec)) f_lower f_upper g_low g_high) (rp : js_RP n J M D f_planned f_planSpan f_criticalSet f_clock a_planStart g_end g_time b_plan) :
    wpX_add (fun r u' => wpY_add (fun r' v' => r' = r ∧ i_Rel (k + 4) u' v') (g_jobs, g_machines, g_n, g_decisions, g_low, g_high, g_end, g_time, b_job, b_machine, b_dur, b_plan, b_first, b_second, b_heads, b_tails, b_prevs, b_seq, b_at, b_best, b_done, b_mark) v1 v2 v3) (f_jobs, f_machines, f_count, f_depth, f_lower, f_upper, f_planned, f_planSpan, f_criticalSet, f_clock, f_nodeBound, f_found, f_bestSpan, a_jobOf, a_machineOf, a_duration, a_trail, a_planStart, a_heads, a_tails, a_rest, a_nodes, a_best) v1 v2 v3 := by
  have rl : ∀ k, i_Rel k (f_jobs, f_machines, f_count, f_depth, f_lower, f_upper, f_planned, f_planSpan, f_criticalSet, f_clock, f_nodeBound, f_found, f_bestSpan, a_jobOf, a_machineOf, a_duration, a_trail, a_planStart, a_heads, a_tails, a_rest, a_nodes, a_best) (g_jobs, g_machines, g_n, g_decisions, g_low, g_high, g_end, g_time, b_job, b_machine, b_dur, b_plan, b_first, b_second, b_heads, b_tails, b_prevs, b_seq, b_at, b_best, b_done, b_mark) := fun k => rl_mk rb rh ro rp
  obtain ⟨ej, eyj, n4, xc, hJ, yc, hd, yd, hF, lv⟩ := rb
  have d28 := yd.1
  have hn := rh.1.1
  have m4 := js_XCm xc
  have nm4 := xc.2.2.1
  have bd := yc.2.2.2.2.2.2.2
  unfold wpX_add wpY_add
  by_cases p1 : v1 < 0
  · exact br_t p1 (br_t p1 ⟨rfl, rl _⟩)
  by_cases p2 : f_jobs ≤ v1
  · exact br_f p1 (br_t p2 (br_f p1 (br_t (by rw [eyj, ← ej]; exact p2) ⟨rfl, rl _⟩)))
  have p2' : ¬ g_jobs ≤ v1 := by rw [eyj, ← ej]; exact p2
  refine br_f p1 (br_f p2 ?_)
  rcases xh_ix v2 (n := nm) (by omega) with b | ⟨m, hm, e⟩
  · refine xw_meB xc.2.1 b (br_t rfl (br_f p1 (br_f p2' (br_c (fun _ => ⟨rfl, rl _⟩) (fun q => br_t ?_ ⟨rfl, rl _⟩)))))
    rw [yc.2.2.1]
    exact b.elim (fun z => absurd z q) id
  subst e
  have q1 : ¬ nI m < 0 := nI_pos (by omega)
  have q2 : ¬ g_machines ≤ nI m := xh_ge yc.2.2.1 hm (by omega)
  refine xw_meG (by omega) xc.2.1 hm (br_f (by decide) ?_)
  by_cases p3 : v3 < 1
  · exact br_t p3 (br_f p1 (br_f p2' (br_f q1 (br_f q2 (br_t p3 ⟨rfl, rl _⟩)))))
  by_cases p4 : ¬ v3 ≤ 20
  · exact br_f p3 (br_f p4 (br_f p1 (br_f p2' (br_f q1 (br_f q2 (br_f p3 (br_f p4 ⟨rfl, rl _⟩)))))))
  replace p4 : v3 ≤ 20 := Classical.byContradiction p4
  refine br_f p3 (br_t p4 ?_)
  by_cases p5 : ¬ n < 8
  · have c8 : ¬ f_count < 8 := by rw [xc.1]; exact nI_nlt (b := 8) (by omega) (by omega)
    have cy8 : ¬ g_n < 8 := by rw [yc.2.1]; exact nI_nlt (b := 8) (by omega) (by omega)
    exact br_f c8 (br_f p1 (br_f p2' (br_f q1 (br_f q2 (br_f p3 (br_t p4 (br_f cy8 ⟨rfl, rl _⟩)))))))
  replace p5 : n < 8 := Classical.byContradiction p5
  obtain ⟨j, hj, e1⟩ : ∃ j, j < nj ∧ v1 = nI j := by
    obtain ⟨j, hj, e⟩ := nI_of p1
    refine ⟨j, ?_, e⟩
    rw [ej, e, nI_leI (by omega) (by omega)] at p2
    omega
  obtain ⟨dd, hd1, hd2, e3⟩ : ∃ dd, 1 ≤ dd ∧ dd ≤ 20 ∧ v3 = nI dd := by
    have z0 : (0 : Int32).toInt = 0 := by decide
    have z1 : (1 : Int32).toInt = 1 := by decide
    have z2 : (20 : Int32).toInt = 20 := by decide
    have a1 := p3
    have a2 := p4
    rw [Int32.lt_iff_toInt_lt, z1] at a1
    rw [Int32.le_iff_toInt_le, z2] at a2
    obtain ⟨j, hj, e⟩ := nI_of (x := v3) (by rw [Int32.lt_iff_toInt_lt, z0]; omega)
    rw [e, nI_toInt hj] at a1 a2
    exact ⟨j, by omega, by omega, e⟩
  subst e1
  subst e3
  have ic : vp_in f_count 8 := by rw [xc.1]; exact xh_in p5
  have cl : f_count.toNatClampNeg = n := by rw [xc.1, js_cl p5]
  have icy : vp_in g_n 8 := by rw [yc.2.1]; exact xh_in p5
  have cly : g_n.toNatClampNeg = n := by rw [yc.2.1, js_cl p5]
  have c8 : f_count < 8 := by rw [xc.1]; exact nI_lt (b := 8) p5 (by decide)
  have cy8 : g_n < 8 := by rw [yc.2.1]; exact nI_lt (b := 8) p5 (by decide)
  have up1 : ∀ {A : Nat → Nat} {v : Nat} {P : Nat → Prop}, (∀ x, x < n → P (A x)) → P v → ∀ x, x < n + 1 → P (js_up A n v x) := by
    intro A v P h h' x hx
    by_cases z : x = n
    · rw [z, js_upc]; exact h'
    · rw [js_upn z]; exact h x (by omega)
  have xc' : js_XC (n + 1) nm (js_up M n m) (js_up D n dd) (nI (n + 1)) f_machines (upd a_machineOf n (nI m)) (upd a_duration n (nI dd)) :=
    ⟨rfl, xc.2.1, xc.2.2.1, js_Ars xc.2.2.2.1, up1 (P := fun y => y < nm) xc.2.2.2.2.1 hm, js_Ars xc.2.2.2.2.2⟩
  have hJ' : js_Ar (n + 1) (upd a_jobOf n (nI j)) (js_up J n j) := js_Ars hJ
  have hD' : ∀ x, x < n + 1 → 1 ≤ js_up D n dd x ∧ js_up D n dd x ≤ 20 := up1 (P := fun y => 1 ≤ y ∧ y ≤ 20) rh.1.2.1 ⟨hd1, hd2⟩
  have yc' : js_YC (n + 1) nm (js_up J n j) (js_up M n m) (js_up D n dd) (nI (n + 1)) g_machines (upd b_job n (nI j)) (upd b_machine n (nI m)) (upd b_dur n (nI dd)) := by
    refine ⟨by omega, rfl, yc.2.2.1, yc.2.2.2.1, js_Ars yc.2.2.2.2.1, js_Ars yc.2.2.2.2.2.1, js_Ars yc.2.2.2.2.2.2.1, fun x hx => ⟨?_, ?_, hD' x hx⟩⟩
    · exact up1 (P := fun y => y < 4) (fun x hx => (bd x hx).1) (by omega) x hx
    · exact up1 (P := fun y => y < nm) (fun x hx => (bd x hx).2.1) hm x hx
  have hFn : ∀ l, l ≤ dec → ∀ i, i < l → F i < n ∧ S i < n := fun l hl i hi => by have := hF i (by omega); exact ⟨this.1, this.2.1⟩
  have hF' : ∀ i, i < dec → F i < n + 1 ∧ S i < n + 1 ∧ js_up M n m (F i) = js_up M n m (S i) := fun i hi => by
    have := hF i hi
    rw [js_upn (by omega), js_upn (by omega)]
    exact ⟨by omega, by omega, this.2.2⟩
  have fin : ∀ tr, (∀ l, l ≤ dec → js_LV (n + 1) l (js_up J n j) F S (js_bo (tr l))) → wX_add_107 (fun r u' => wpY_add (fun r' v' => r' = r ∧ i_Rel (k + 4) u' v') (g_jobs, g_machines, g_n, g_decisions, g_low, g_high, g_end, g_time, b_job, b_machine, b_dur, b_plan, b_first, b_second, b_heads, b_tails, b_prevs, b_seq, b_at, b_best, b_done, b_mark) (nI j) (nI m) (nI dd)) f_count f_jobs f_machines (nI (n + 1)) f_depth f_lower f_upper f_planned f_planSpan f_criticalSet f_clock f_nodeBound f_found f_bestSpan (upd a_jobOf n (nI j)) (upd a_machineOf n (nI m)) (upd a_duration n (nI dd)) tr a_planStart a_heads a_tails a_rest a_nodes a_best := by
    intro tr lv'
    have lvd := lv' dec (Nat.le_refl _)
    obtain ⟨H', T', c⟩ := js_CXex (D := js_up D n dd) (by omega) hD' lvd.1
    unfold wX_add_107
    refine xw_renew c xc' hd d28 (fun ah at' ar v hv gb => ?_)
    unfold wpY_add
    refine br_f p1 (br_f p2' (br_f q1 (br_f q2 (br_f p3 (br_t p4 (br_t cy8 ⟨icy, nm_r (e' := upd b_job n (nI j)) (by rw [cly]) ⟨icy, nm_r (e' := upd b_machine n (nI m)) (by rw [cly]) (nm_r (e' := nI (n + 1)) (by rw [yc.2.1, nI_1]) ⟨icy, nm_r (e' := upd b_dur n (nI dd)) (by rw [cly]) ?_⟩)⟩⟩))))))
    refine yw_renew yc' yd c lvd.2.1 lvd.2.2.1 (fun v' ah' at'' ap hv' gb' rH rT pv => ⟨?_, ?_⟩)
    · rw [nI_pred, xc.1]
    · exact rl_mk (n := n + 1) (J := js_up J n j) (M := js_up M n m) (D := js_up D n dd) ⟨ej, eyj, n4, xc', hJ', yc', hd, yd, hF', lv'⟩ ⟨c, rH, rT, pv⟩ (js_ROr c gb gb') (Or.inl ⟨rfl, rfl⟩)
  refine br_t c8 ?_
  refine xw_last hn xc.1 hJ (fun x hx => (bd x hx).1) (by omega) (fun l hl el mx => ?_) (fun no => ?_)
  · refine ⟨ic, nm_r (e' := upd a_jobOf n (nI j)) (by rw [cl]) ⟨ic, nm_r (e' := upd a_machineOf n (nI m)) (by rw [cl]) ⟨ic, nm_r (e' := upd a_duration n (nI dd)) (by rw [cl]) (nm_r (e' := nI (n + 1)) (by rw [xc.1, nI_1]) (br_f (nI_pos (by omega)) ?_))⟩⟩⟩
    have ap := xw_append (f_jobs := f_jobs) (f_machines := f_machines) (f_lower := f_lower) (f_upper := f_upper) (f_planned := f_planned) (f_planSpan := f_planSpan) (f_criticalSet := f_criticalSet) (f_clock := f_clock) (f_nodeBound := f_nodeBound) (f_found := f_found) (f_bestSpan := f_bestSpan) (a_jobOf := upd a_jobOf n (nI j)) (a_machineOf := upd a_machineOf n (nI m)) (a_duration := upd a_duration n (nI dd)) (a_planStart := a_planStart) (a_heads := a_heads) (a_tails := a_tails) (a_rest := a_rest) (a_nodes := a_nodes) (a_best := a_best)
      (f_count := nI (n + 1)) (f_depth := f_depth) (a_trail := a_trail) (post := fun u => match u with | (f_jobs, f_machines, f_count, f_depth, f_lower, f_upper, f_planned, f_planSpan, f_criticalSet, f_clock, f_nodeBound, f_found, f_bestSpan, a_jobOf, a_machineOf, a_duration, a_trail, a_planStart, a_heads, a_tails, a_rest, a_nodes, a_best) => wX_add_107 (fun r u' => wpY_add (fun r' v' => r' = r ∧ i_Rel (k + 4) u' v') (g_jobs, g_machines, g_n, g_decisions, g_low, g_high, g_end, g_time, b_job, b_machine, b_dur, b_plan, b_first, b_second, b_heads, b_tails, b_prevs, b_seq, b_at, b_best, b_done, b_mark) (nI j) (nI m) (nI dd)) (nI n) f_jobs f_machines f_count f_depth f_lower f_upper f_planned f_planSpan f_criticalSet f_clock f_nodeBound f_found f_bestSpan a_jobOf a_machineOf a_duration a_trail a_planStart a_heads a_tails a_rest a_nodes a_best) (n := n + 1) (dec := dec) (k := l) (b := n) (by omega) rfl hd d28 (by omega) (by omega) (fun l hl => js_SOs (lv l hl).1) (fun tr et => ?_)
    · rw [xc.1]
      exact ap
    · have f := fin tr (fun l' hl' => by rw [et l' hl']; exact js_LVa1 (hFn l' hl') (lv l' hl') hl el mx)
      rw [xc.1] at f
      exact f
  · refine ⟨ic, nm_r (e' := upd a_jobOf n (nI j)) (by rw [cl]) ⟨ic, nm_r (e' := upd a_machineOf n (nI m)) (by rw [cl]) ⟨ic, nm_r (e' := upd a_duration n (nI dd)) (by rw [cl]) (nm_r (e' := nI (n + 1)) (by rw [xc.1, nI_1]) (br_t (by decide) ?_))⟩⟩⟩
    exact fin a_trail (fun l hl => js_LVa0 (hFn l hl) (lv l hl) no)
end
end
section
theorem xh_lt {x : Int32} {v : Nat} (hv : v < 2 ^ 31) : x < nI v ↔ x.toInt < (v : Int) := by rw [Int32.lt_iff_toInt_lt, nI_toInt hv]
theorem xh_inc {x : Int32} {v : Nat} (hv : v < 2 ^ 31) (h : x.toInt < (v : Int)) : (x + 1).toInt = x.toInt + 1 := by
  have b := x.le_toInt
  have o : (1 : Int32).toInt = 1 := by decide
  rw [Int32.toInt_add, o]
  apply Int.bmod_eq_of_le <;> omega
section
variable {f_jobs f_machines f_count f_depth f_lower f_upper f_planned f_planSpan f_criticalSet f_clock f_nodeBound f_found f_bestSpan : Int32} {a_jobOf a_machineOf a_duration a_planStart a_heads a_tails a_rest a_best : Nat → Int32} {a_trail a_nodes : Nat → Int64}
variable {g_jobs g_machines g_n g_decisions g_low g_high g_end g_time : Int32} {b_job b_machine b_dur b_plan b_first b_second b_heads b_tails b_prevs b_seq b_at b_best b_done b_mark : Nat → Int32}
variable {n nm nj dec : Nat} {J M D F S H T : Nat → Nat}
theorem rv_probe {k : Nat} (v1 : Int32) (rb : js_RB n nm nj dec J M D F S f_jobs f_machines f_count f_depth a_jobOf a_machineOf a_duration a_trail g_jobs g_machines g_n g_decisions b_job b_machine b_dur b_first b_second)
    (rh : js_RH n dec J D F S H T a_trail b_heads b_tails b_prevs) (ro : js_RO n M D (js_bo (a_trail dec)) f_lower f_upper g_low g_high) (rp : js_RP n J M D f_planned f_planSpan f_criticalSet f_clock a_planStart g_end g_time b_plan) :
    wpX_probe (fun r u' => wpY_probe (fun r' v' => r' = r ∧ i_Rel (k + 4) u' v') (g_jobs, g_machines, g_n, g_decisions, g_low, g_high, g_end, g_time, b_job, b_machine, b_dur, b_plan, b_first, b_second, b_heads, b_tails, b_prevs, b_seq, b_at, b_best, b_done, b_mark) v1) (f_jobs, f_machines, f_count, f_depth, f_lower, f_upper, f_planned, f_planSpan, f_criticalSet, f_clock, f_nodeBound, f_found, f_bestSpan, a_jobOf, a_machineOf, a_duration, a_trail, a_planStart, a_heads, a_tails, a_rest, a_nodes, a_best) v1 := by
  have td := js_RBt rb
  have rb0 := rb
  obtain ⟨ej, eyj, n4, xc, hJ, yc, hd, yd, hF, lv⟩ := rb
  have d28 := yd.1
  have hn := rh.1.1
  have lvd := lv dec (Nat.le_refl _)
  have bd := yc.2.2.2.2.2.2.2
  obtain ⟨lo, hi, e1, e2, e3, e4, hhi, hlo, s0, sd0, sp0⟩ := id ro
  have l0 := hlo s0 sd0
  have hc : ∀ x y, x < y → y < n → J x = J y → js_bo (a_trail dec) x y = true := fun x y l hy e => lvd.2.1.1 x y (td.2 x y l hy e)
  unfold wpX_probe
  by_cases p1 : v1 < f_upper
  · by_cases p2 : f_lower ≤ v1
    · have h0 : ¬ v1 < 0 := by
        rw [e1, Int32.le_iff_toInt_le, nI_toInt (by omega)] at p2
        rw [Int32.lt_iff_toInt_lt]
        have : (0 : Int32).toInt = 0 := by decide
        omega
      obtain ⟨lim, hlim, el⟩ := nI_of h0
      subst el
      have q1 : lim < hi := by rw [e3, nI_ltI (by omega) (by omega)] at p1; exact p1
      have q2 : lo ≤ lim := by rw [e1, nI_leI (by omega) (by omega)] at p2; exact p2
      refine br_t p1 (br_t p2 ⟨by rw [hd]; exact vp_in_nI (by omega) (by omega), ?_⟩)
      have et : a_trail f_depth.toNatClampNeg = a_trail dec := by rw [hd, nI_clamp (by omega)]
      rw [et]
      refine xw_search (J := J) hn rh.1.2.1 xc hlim lvd.1 (fun x hx => (bd x hx).1) hc (fun nb fd bs ah at' ar nd ab b v sq => ?_)
      obtain ⟨_, hv, sq⟩ := sq
      rcases sq with ⟨f0, no⟩ | ⟨f1, hb, sdb, spb, _, _⟩
      · refine br_t f0 (nm_r (nI_1 lim) ?_)
        unfold wpY_probe
        refine yw_sA yc lvd.1 lvd.2.1 td.1 td.2 rh.2.2.2 (fun w b' sq' at'' ab' dn' h5 o hw => br_t ?_ ?_)
        · have := no b' o.1
          rw [o.2.1] at this
          exact nI_lt this (by omega)
        · unfold wY_probe_15 wY_probe_33 wY_probe_54
          refine br_t rfl (br_t rfl (br_f ?_ (nm_r (nI_1 lim) (br_t rfl ⟨rfl, rl_mk rb0 rh ⟨lim + 1, hi, rfl, rfl, e3, e4, hhi, fun s hs => no s hs, s0, sd0, sp0⟩ rp⟩))))
          rw [e2, nI_1]
          exact nI_ge (by omega) (by omega)
      · refine br_f (by rw [f1]; decide) ?_
        unfold wpY_probe
        refine yw_sA yc lvd.1 lvd.2.1 td.1 td.2 rh.2.2.2 (fun w b' sq' at'' ab' dn' h5 o hw => br_f ?_ ?_)
        · have := o.2.2 b sdb
          rw [spb] at this
          exact nI_nlt (by rcases this with z | ⟨z, _⟩ <;> omega) (by omega)
        · unfold wY_probe_15 wY_probe_33 wY_probe_54
          refine br_f (by decide) (br_f ?_ (br_f (by decide) (br_f (by decide) ⟨rfl, rl_mk rb0 rh ⟨lo, lim, e1, e2, rfl, rfl, by omega, hlo, b, sdb, by omega⟩ rp⟩)))
          rw [e4]
          exact nI_ge q1 (by omega)
    · refine br_t p1 (br_f p2 ?_)
      unfold wpY_probe
      have p2' : v1.toInt < (lo : Int) := by
        rw [e1] at p2
        have := Int32.not_le.mp p2
        rw [xh_lt (by omega)] at this
        exact this
      refine yw_sA yc lvd.1 lvd.2.1 td.1 td.2 rh.2.2.2 (fun w b' sq' at'' ab' dn' h5 o hw => br_t ?_ ?_)
      · have := hlo b' o.1
        rw [o.2.1] at this
        rw [xh_lt (by omega)]
        omega
      · unfold wY_probe_15 wY_probe_33 wY_probe_54
        refine br_t rfl (br_t rfl (br_t ?_ (br_t rfl ⟨rfl, rl_mk rb0 rh ro rp⟩)))
        rw [e2, Int32.le_iff_toInt_le, nI_toInt (by omega), xh_inc (v := lo) (by omega) p2']
        omega
  · refine br_f p1 ?_
    unfold wpY_probe
    have p1' : (hi : Int) ≤ v1.toInt := by
      rw [e3, xh_lt (by omega)] at p1
      omega
    refine yw_sA yc lvd.1 lvd.2.1 td.1 td.2 rh.2.2.2 (fun w b' sq' at'' ab' dn' h5 o hw => br_f ?_ ?_)
    · have := o.2.2 s0 sd0
      rw [xh_lt (by omega)]
      rcases this with z | ⟨z, _⟩ <;> omega
    · unfold wY_probe_15 wY_probe_33 wY_probe_54
      refine br_f (by decide) (br_t ?_ (br_f (by decide) (br_f (by decide) ⟨rfl, rl_mk rb0 rh ro rp⟩)))
      rw [e4, Int32.le_iff_toInt_le, nI_toInt (by omega)]
      exact p1'
end
def js_AP (n : Nat) (M D : Nat → Nat) (C : Nat → Nat → Bool) (a b : Nat) (z : Int) : Prop := ¬ C b a = true ∧ ∃ s, js_SD n M D (js_LK C a b) s ∧ (js_sp n D s : Int) ≤ z
section
variable {f_jobs f_machines f_count f_depth f_lower f_upper f_planned f_planSpan f_criticalSet f_clock f_nodeBound f_found f_bestSpan : Int32} {a_jobOf a_machineOf a_duration a_planStart a_heads a_tails a_rest a_best : Nat → Int32} {a_trail a_nodes : Nat → Int64}
theorem xw_poss {post : Int32 → SX → Prop} {n nm dec lo a b : Nat} {J M D : Nat → Nat} {v3 : Int32} (hn : n ≤ 8) (hD1 : ∀ x, x < n → 1 ≤ D x ∧ D x ≤ 20) (xc : js_XC n nm M D f_count f_machines a_machineOf a_duration) (hd : f_depth = nI dec) (d28 : dec ≤ 28) (so : js_SO n (js_bo (a_trail dec)))
    (hJ : ∀ x, x < n → J x < 4) (hch : ∀ x y, x < y → y < n → J x = J y → js_bo (a_trail dec) x y = true) (e1 : f_lower = nI lo) (hlo : ∀ s, js_SD n M D (js_bo (a_trail dec)) s → lo ≤ js_sp n D s) (bl : lo ≤ 3000) (ha : a < n) (hb : b < n) (ne : a ≠ b)
    (K1 : js_AP n M D (js_bo (a_trail dec)) a b v3.toInt → ∀ nb fd bs ah at' ar nd ab, post 1 (f_jobs, f_machines, f_count, f_depth, f_lower, f_upper, f_planned, f_planSpan, f_criticalSet, f_clock, nb, fd, bs, a_jobOf, a_machineOf, a_duration, a_trail, a_planStart, ah, at', ar, nd, ab))
    (K0 : ¬ js_AP n M D (js_bo (a_trail dec)) a b v3.toInt → ∀ nb fd bs ah at' ar nd ab, post 0 (f_jobs, f_machines, f_count, f_depth, f_lower, f_upper, f_planned, f_planSpan, f_criticalSet, f_clock, nb, fd, bs, a_jobOf, a_machineOf, a_duration, a_trail, a_planStart, ah, at', ar, nd, ab)) : wpX_possible post (f_jobs, f_machines, f_count, f_depth, f_lower, f_upper, f_planned, f_planSpan, f_criticalSet, f_clock, f_nodeBound, f_found, f_bestSpan, a_jobOf, a_machineOf, a_duration, a_trail, a_planStart, a_heads, a_tails, a_rest, a_nodes, a_best) (nI a) (nI b) v3 := by
  have et : a_trail f_depth.toNatClampNeg = a_trail dec := by rw [hd, nI_clamp (by omega)]
  unfold wpX_possible
  refine ⟨by rw [hd]; exact vp_in_nI (by omega) (by omega), nm_r et (br_c (fun q => ?_) (fun q => ?_))⟩
  · rw [e1, xh_lt (by omega)] at q
    refine K0 (fun ⟨_, s, hs, hl⟩ => ?_) _ _ _ _ _ _ _ _
    have := hlo s (js_SDsub (fun x y z => js_LKsub z) hs)
    omega
  · rw [e1, xh_lt (by omega)] at q
    refine xw_prec (by omega) (by omega) (fun r => br_f (by decide) (K0 (fun z => z.1 r) _ _ _ _ _ _ _ _)) (fun r => br_t rfl ?_)
    have h0 : ¬ v3 < 0 := by
      rw [Int32.lt_iff_toInt_lt]
      have : (0 : Int32).toInt = 0 := by decide
      omega
    obtain ⟨lim, hlim, el⟩ := nI_of h0
    subst el
    refine xw_link xc.1 hn ha hb so (fun o eo => ?_)
    have so' : js_SO n (js_bo o) := by rw [eo]; exact js_LKs so ha hb ne r
    refine xw_search (J := J) hn hD1 xc hlim so' hJ (fun x y l hy e => by rw [eo]; exact js_LKsub (hch x y l hy e)) (fun nb fd bs ah at' ar nd ab b v sq => ?_)
    rw [eo] at sq
    obtain ⟨_, hv, sq⟩ := sq
    rw [nI_toInt hlim] at K1 K0
    rcases sq with ⟨f0, no⟩ | ⟨f1, hb, sdb, spb, _, _⟩
    · rw [f0]
      exact ⟨by rfl, K0 (fun ⟨_, s, hs, hl⟩ => by have := no s hs; omega) _ _ _ _ _ _ _ _⟩
    · rw [f1]
      exact ⟨by rfl, K1 ⟨r, _, sdb, by omega⟩ _ _ _ _ _ _ _ _⟩
end
section
variable {f_jobs f_machines f_n f_decisions f_low f_high f_end f_time : Int32} {a_job a_machine a_dur a_plan a_first a_second a_heads a_tails a_prevs a_seq a_at a_best a_done a_mark : Nat → Int32}
theorem yw_ord {post : Int32 → SY → Prop} {n nm a b : Nat} {J M D : Nat → Nat} {R C : Nat → Nat → Bool} {v3 r : Int32} (yc : js_YC n nm J M D f_n f_machines a_job a_machine a_dur) (hC : js_SO n C) (g : js_GN R C) (ht : ∀ x y, R x y = true → js_TD J M x y) (hch : ∀ x y, x < y → y < n → J x = J y → R x y = true) (pv : js_PV n R a_prevs)
    (ha : a < n) (hb : b < n) (ne : a ≠ b) (em : M a = M b)
    (hr : (js_AP n M D C a b v3.toInt ∧ js_AP n M D C b a v3.toInt ∧ r = 3) ∨ (js_AP n M D C a b v3.toInt ∧ ¬ js_AP n M D C b a v3.toInt ∧ r = 1) ∨ (¬ js_AP n M D C a b v3.toInt ∧ js_AP n M D C b a v3.toInt ∧ r = 2) ∨ (¬ js_AP n M D C a b v3.toInt ∧ ¬ js_AP n M D C b a v3.toInt ∧ r = 0))
    (K : ∀ sq at' ab dn, post r (f_jobs, f_machines, f_n, f_decisions, f_low, f_high, f_end, f_time, a_job, a_machine, a_dur, a_plan, a_first, a_second, a_heads, a_tails, a_prevs, sq, at', ab, dn, a_mark)) : wpY_orders post (f_jobs, f_machines, f_n, f_decisions, f_low, f_high, f_end, f_time, a_job, a_machine, a_dur, a_plan, a_first, a_second, a_heads, a_tails, a_prevs, a_seq, a_at, a_best, a_done, a_mark) (nI a) (nI b) v3 := by
  have hn := yc.1
  have n4 := yc.2.2.2.1
  have bd := yc.2.2.2.2.2.2.2
  have ia := xh_in (show a < 8 by omega)
  have ib := xh_in (show b < 8 by omega)
  have e' : ¬ nI a = nI b := fun q => ne ((nI_eq (by omega) (by omega)).mp q)
  -- what a search's answer says of the possibility
  have no : ∀ x y, C y x = true → ¬ js_AP n M D C x y v3.toInt := fun x y q z => z.1 q
  have op : ∀ x y v s, ¬ C y x = true → js_OPT n M D (js_LK C x y) v s → v ≤ 160 → (¬ v3 < nI v ↔ js_AP n M D C x y v3.toInt) := by
    intro x y v s q o l
    rw [xh_lt (by omega)]
    constructor
    · intro z
      exact ⟨q, s, o.1, by have := o.2.1; omega⟩
    · rintro ⟨_, t, ht, hl⟩ z
      have := o.2.2 t ht
      rcases this with w | ⟨w, _⟩ <;> omega
  have f73 : ∀ (z : Nat) (w : Int32) sq at' ab dn, (js_AP n M D C b a v3.toInt → r = nI z + 2) → (¬ js_AP n M D C b a v3.toInt → r = nI z) → ((w = -1 ∧ ¬ js_AP n M D C b a v3.toInt) ∨ ∃ v, v ≤ 160 ∧ w = nI v ∧ (¬ v3 < nI v ↔ js_AP n M D C b a v3.toInt)) → wY_orders_73 post v3 w (nI z) f_jobs f_machines f_n f_decisions f_low f_high f_end f_time a_job a_machine a_dur a_plan a_first a_second a_heads a_tails a_prevs sq at' ab dn a_mark := by
    intro z w sq at' ab dn h1 h2 hw
    unfold wY_orders_73
    have z0 : nI z + 0 = nI z := Int32.add_zero _
    rw [z0]
    rcases hw with ⟨e, hw⟩ | ⟨v, l, e, hw⟩
    · have KK := K sq at' ab dn
      rw [h2 hw] at KK
      exact br_t (by rw [e]; decide) KK
    · refine br_f (by rw [e]; exact nI_pos (by omega)) (br_c (fun q => ?_) (fun q => ?_))
      · rw [e] at q
        have KK := K sq at' ab dn
        rw [h2 fun z => (hw.mpr z) q] at KK
        exact KK
      · rw [e] at q
        have KK := K sq at' ab dn
        rw [h1 (hw.mp q)] at KK
        exact KK
  unfold wpY_orders
  refine yw_exG hn yc.2.1 ha (br_f (by decide) (yw_exG hn yc.2.1 hb (br_f (by decide) (br_f e' ⟨ia, ib, br_t (by rw [js_rd yc.2.2.2.2.2.1 hn ha, js_rd yc.2.2.2.2.2.1 hn hb, em]) ?_⟩))))
  have c0 : ¬ js_AP n M D C a b v3.toInt → (js_AP n M D C b a v3.toInt → r = nI 0 + 2) ∧ (¬ js_AP n M D C b a v3.toInt → r = nI 0) := by
    intro n1
    rcases hr with ⟨z, _⟩ | ⟨z, _⟩ | ⟨_, z, e⟩ | ⟨_, z, e⟩
    · exact absurd z n1
    · exact absurd z n1
    · exact ⟨fun _ => by rw [e]; decide, fun w => absurd z w⟩
    · exact ⟨fun w => absurd w z, fun _ => by rw [e]; decide⟩
  have c1 : js_AP n M D C a b v3.toInt → (js_AP n M D C b a v3.toInt → r = nI 1 + 2) ∧ (¬ js_AP n M D C b a v3.toInt → r = nI 1) := by
    intro n1
    rcases hr with ⟨_, z, e⟩ | ⟨_, z, e⟩ | ⟨z, _⟩ | ⟨z, _⟩
    · exact ⟨fun _ => by rw [e]; decide, fun w => absurd z w⟩
    · exact ⟨fun w => absurd w z, fun _ => by rw [e]; decide⟩
    · exact absurd n1 z
    · exact absurd n1 z
  refine yw_sB yc hC g ht hch pv ha hb ne em (fun q sq at' ab dn => ?_) (fun q v s sq at' ab dn o l => ?_)
  · obtain ⟨h1, h2⟩ := c0 (no a b q)
    refine yw_sB yc hC g ht hch pv hb ha (fun e => ne e.symm) em.symm (fun q sq at' ab dn => br_t (by decide) ?_) (fun q v s sq at' ab dn o l => br_t (by decide) ?_)
    · exact f73 0 (-1) sq at' ab dn h1 h2 (Or.inl ⟨rfl, no b a q⟩)
    · exact f73 0 (nI v) sq at' ab dn h1 h2 (Or.inr ⟨v, l, rfl, op b a v s q o l⟩)
  · have nv : ¬ nI v < 0 := nI_pos (by omega)
    by_cases w : v3 < nI v
    · obtain ⟨h1, h2⟩ := c0 fun z => (op a b v s q o l).mpr z w
      refine yw_sB yc hC g ht hch pv hb ha (fun e => ne e.symm) em.symm (fun q sq at' ab dn => br_f nv (br_t w ?_)) (fun q v s sq at' ab dn o l => br_f nv (br_t w ?_))
      · exact f73 0 (-1) sq at' ab dn h1 h2 (Or.inl ⟨rfl, no b a q⟩)
      · exact f73 0 (nI v) sq at' ab dn h1 h2 (Or.inr ⟨v, l, rfl, op b a v s q o l⟩)
    · obtain ⟨h1, h2⟩ := c1 ((op a b v s q o l).mp w)
      refine yw_sB yc hC g ht hch pv hb ha (fun e => ne e.symm) em.symm (fun q sq at' ab dn => br_f nv (br_f w ?_)) (fun q v s sq at' ab dn o l => br_f nv (br_f w ?_))
      · exact f73 1 (-1) sq at' ab dn h1 h2 (Or.inl ⟨rfl, no b a q⟩)
      · exact f73 1 (nI v) sq at' ab dn h1 h2 (Or.inr ⟨v, l, rfl, op b a v s q o l⟩)
end
section
variable {f_jobs f_machines f_count f_depth f_lower f_upper f_planned f_planSpan f_criticalSet f_clock f_nodeBound f_found f_bestSpan : Int32} {a_jobOf a_machineOf a_duration a_planStart a_heads a_tails a_rest a_best : Nat → Int32} {a_trail a_nodes : Nat → Int64}
variable {g_jobs g_machines g_n g_decisions g_low g_high g_end g_time : Int32} {b_job b_machine b_dur b_plan b_first b_second b_heads b_tails b_prevs b_seq b_at b_best b_done b_mark : Nat → Int32}
variable {n nm nj dec : Nat} {J M D F S H T : Nat → Nat}
theorem rv_orders {k : Nat} (v1 v2 v3 : Int32) (rb : js_RB n nm nj dec J M D F S f_jobs f_machines f_count f_depth a_jobOf a_machineOf a_duration a_trail g_jobs g_machines g_n g_decisions b_job b_machine b_dur b_first b_second)
    (rh : js_RH n dec J D F S H T a_trail b_heads b_tails b_prevs) (ro : js_RO n M D (js_bo (a_trail dec)) f_lower f_upper g_low g_high) (rp : js_RP n J M D f_planned f_planSpan f_criticalSet f_clock a_planStart g_end g_time b_plan) :
    wpX_orders (fun r u' => wpY_orders (fun r' v' => r' = r ∧ i_Rel (k + 4) u' v') (g_jobs, g_machines, g_n, g_decisions, g_low, g_high, g_end, g_time, b_job, b_machine, b_dur, b_plan, b_first, b_second, b_heads, b_tails, b_prevs, b_seq, b_at, b_best, b_done, b_mark) v1 v2 v3) (f_jobs, f_machines, f_count, f_depth, f_lower, f_upper, f_planned, f_planSpan, f_criticalSet, f_clock, f_nodeBound, f_found, f_bestSpan, a_jobOf, a_machineOf, a_duration, a_trail, a_planStart, a_heads, a_tails, a_rest, a_nodes, a_best) v1 v2 v3 := by
  have td := js_RBt rb
  have rb0 := rb
  obtain ⟨ej, eyj, n4, xc, hJ, yc, hd, yd, hF, lv⟩ := rb
  have d28 := yd.1
  have hn := rh.1.1
  have lvd := lv dec (Nat.le_refl _)
  have m4 := js_XCm xc
  have bd := yc.2.2.2.2.2.2.2
  have hc : ∀ x y, x < y → y < n → J x = J y → js_bo (a_trail dec) x y = true := fun x y l hy e => lvd.2.1.1 x y (td.2 x y l hy e)
  obtain ⟨lo, hi, e1, e2, e3, e4, hhi, hlo, s0, sd0, sp0⟩ := id ro
  have l0 := hlo s0 sd0
  unfold wpX_orders
  rcases xh_ix v1 hn with b | ⟨a, ha, e⟩
  · refine xw_exB xc.1 b (br_t rfl ?_)
    unfold wpY_orders
    exact yw_exB yc.2.1 b (br_t rfl ⟨rfl, rl_mk rb0 rh ro rp⟩)
  · subst e
    refine xw_exG hn xc.1 ha (br_f (by decide) ?_)
    rcases xh_ix v2 hn with b | ⟨b, hb, e⟩
    · refine xw_exB xc.1 b (br_t rfl ?_)
      unfold wpY_orders
      exact yw_exG hn yc.2.1 ha (br_f (by decide) (yw_exB yc.2.1 b (br_t rfl ⟨rfl, rl_mk rb0 rh ro rp⟩)))
    · subst e
      have ia := xh_in (show a < 8 by omega)
      have ib := xh_in (show b < 8 by omega)
      have ma := m4 a ha
      have mb := m4 b hb
      refine xw_exG hn xc.1 hb (br_f (by decide) ?_)
      by_cases e : a = b
      · subst e
        refine br_t rfl ?_
        unfold wpY_orders
        exact yw_exG hn yc.2.1 ha (br_f (by decide) (yw_exG hn yc.2.1 ha (br_f (by decide) (br_t rfl ⟨rfl, rl_mk rb0 rh ro rp⟩))))
      · have e' : ¬ nI a = nI b := fun q => e ((nI_eq (by omega) (by omega)).mp q)
        refine br_f e' ⟨ia, ib, ?_⟩
        rw [js_rd xc.2.2.2.1 hn ha, js_rd xc.2.2.2.1 hn hb]
        refine br_c (fun q => ?_) (fun q => ?_)
        · rw [nI_eq (by omega) (by omega)] at q
          refine xw_poss (J := J) hn rh.1.2.1 xc hd d28 lvd.1 (fun x hx => (bd x hx).1) hc e1 hlo (by omega) ha hb e (fun A1 nb fd bs ah at' ar nd ab => br_f (by decide) (nm_e ?_)) (fun A1 nb fd bs ah at' ar nd ab => br_t rfl ?_)
          · unfold wX_orders_57
            refine xw_poss (J := J) hn rh.1.2.1 xc hd d28 lvd.1 (fun x hx => (bd x hx).1) hc e1 hlo (by omega) hb ha (fun z => e z.symm) (fun A2 nb fd bs ah at' ar nd ab => br_f (by decide) (nm_e ?_)) (fun A2 nb fd bs ah at' ar nd ab => br_t rfl ?_)
            · exact yw_ord yc lvd.1 lvd.2.1 td.1 td.2 rh.2.2.2 ha hb e q (Or.inl ⟨A1, A2, by decide⟩) (fun sq at' ab dn => ⟨rfl, rl_mk rb0 rh ro rp⟩)
            · exact yw_ord yc lvd.1 lvd.2.1 td.1 td.2 rh.2.2.2 ha hb e q (Or.inr (Or.inl ⟨A1, A2, by decide⟩)) (fun sq at' ab dn => ⟨rfl, rl_mk rb0 rh ro rp⟩)
          · unfold wX_orders_57
            refine xw_poss (J := J) hn rh.1.2.1 xc hd d28 lvd.1 (fun x hx => (bd x hx).1) hc e1 hlo (by omega) hb ha (fun z => e z.symm) (fun A2 nb fd bs ah at' ar nd ab => br_f (by decide) (nm_e ?_)) (fun A2 nb fd bs ah at' ar nd ab => br_t rfl ?_)
            · exact yw_ord yc lvd.1 lvd.2.1 td.1 td.2 rh.2.2.2 ha hb e q (Or.inr (Or.inr (Or.inl ⟨A1, A2, by decide⟩))) (fun sq at' ab dn => ⟨rfl, rl_mk rb0 rh ro rp⟩)
            · exact yw_ord yc lvd.1 lvd.2.1 td.1 td.2 rh.2.2.2 ha hb e q (Or.inr (Or.inr (Or.inr ⟨A1, A2, by decide⟩))) (fun sq at' ab dn => ⟨rfl, rl_mk rb0 rh ro rp⟩)
        · rw [nI_eq (by omega) (by omega)] at q
          unfold wpY_orders
          refine yw_exG hn yc.2.1 ha (br_f (by decide) (yw_exG hn yc.2.1 hb (br_f (by decide) (br_f e' ⟨ia, ib, br_f ?_ ⟨rfl, rl_mk rb0 rh ro rp⟩⟩))))
          rw [js_rd yc.2.2.2.2.2.1 hn ha, js_rd yc.2.2.2.2.2.1 hn hb, nI_eq (by omega) (by omega)]
          exact q
end
end
section
section
variable {f_jobs f_machines f_count f_depth f_lower f_upper f_planned f_planSpan f_criticalSet f_clock f_nodeBound f_found f_bestSpan : Int32} {a_jobOf a_machineOf a_duration a_planStart a_heads a_tails a_rest a_best : Nat → Int32} {a_trail a_nodes : Nat → Int64}
theorem xw_sol20 {post : Int32 → SX → Prop} {n nm v : Nat} {J M D b : Nat → Nat} (hn : n ≤ 8) (hD1 : ∀ x, x < n → 1 ≤ D x) (xc : js_XC n nm M D f_count f_machines a_machineOf a_duration) (hJ : js_Ar n a_jobOf J) (bJ : ∀ x, x < n → J x < 4) (hb : js_Ar n a_best b) (bb : ∀ x, x < n → b x + D x ≤ 3000) (hv : f_bestSpan = nI v) (bv : v ≤ 3000)
    (K : ∀ ps cs, js_Ar n ps b → (∀ x, bt cs x = true ↔ js_Q n J M D b v x) → post (nI v) (f_jobs, f_machines, f_count, f_depth, nI v, nI v, 1, nI v, cs, 0, f_nodeBound, f_found, nI v, a_jobOf, a_machineOf, a_duration, a_trail, ps, a_heads, a_tails, a_rest, a_nodes, a_best)) :
    ∀ d i, i + d = n → ∀ ps, (∀ j, j < i → ps j = nI (b j)) → wX_solve_20 post f_jobs f_machines f_count f_depth f_lower f_upper f_planned f_planSpan f_criticalSet f_clock f_nodeBound f_found f_bestSpan (d + 1) (nI i) a_jobOf a_machineOf a_duration a_trail ps a_heads a_tails a_rest a_nodes a_best := by
  intro d
  induction d with
  | zero =>
    intro i hi ps h
    have e : i = n := by omega
    subst e
    refine br_t (xh_le xc.1) ?_
    rw [hv]
    exact xw_mark hn hD1 xc hJ bJ h bb rfl bv (fun cs hc => K ps cs h hc)
  | succ d ih =>
    intro i hi ps h
    have ii := xh_in (show i < 8 by omega)
    refine br_f (xh_ge xc.1 (by omega) hn) ⟨ii, ii, nm_r (e' := upd ps i (nI (b i))) (by rw [js_rd hb hn (show i < n by omega), js_cl (show i < 8 by omega)]) (nm_r (nI_1 i) (ih (i + 1) (by omega) _ (lt_s (fun j hj => ?_) pk_us)))⟩
    rw [pk_un (by omega)]; exact h j hj
end
section
variable {f_jobs f_machines f_n f_decisions f_low f_high f_end f_time : Int32} {a_job a_machine a_dur a_plan a_first a_second a_heads a_tails a_prevs a_seq a_at a_best a_done a_mark : Nat → Int32}
theorem yw_sol12 {post : Int32 → SY → Prop} {n : Nat} {b : Nat → Nat} (hn : n ≤ 8) (hc : f_n = nI n) (hb : js_Ar n a_best b)
    (K : ∀ pl, js_Ar n pl b → post f_end (f_jobs, f_machines, f_n, f_decisions, f_end, f_end, f_end, 0, a_job, a_machine, a_dur, pl, a_first, a_second, a_heads, a_tails, a_prevs, a_seq, a_at, a_best, a_done, a_mark)) :
    ∀ d i, i + d = n → ∀ pl, (∀ j, j < i → pl j = nI (b j)) → wY_solve_12 post f_jobs f_machines f_n f_decisions f_low f_high f_end f_time (d + 1) (nI i) a_job a_machine a_dur pl a_first a_second a_heads a_tails a_prevs a_seq a_at a_best a_done a_mark := by
  intro d
  induction d with
  | zero =>
    intro i hi pl h
    have e : i = n := by omega
    subst e
    exact br_t (xh_le hc) (K pl h)
  | succ d ih =>
    intro i hi pl h
    have ii := xh_in (show i < 8 by omega)
    refine br_f (xh_ge hc (by omega) hn) ⟨ii, ii, nm_r (e' := upd pl i (nI (b i))) (by rw [js_rd hb hn (show i < n by omega), js_cl (show i < 8 by omega)]) (nm_r (nI_1 i) (ih (i + 1) (by omega) _ (lt_s (fun j hj => ?_) pk_us)))⟩
    rw [pk_un (by omega)]; exact h j hj
end
section
variable {f_jobs f_machines f_count f_depth f_lower f_upper f_planned f_planSpan f_criticalSet f_clock f_nodeBound f_found f_bestSpan : Int32} {a_jobOf a_machineOf a_duration a_planStart a_heads a_tails a_rest a_best : Nat → Int32} {a_trail a_nodes : Nat → Int64}
variable {g_jobs g_machines g_n g_decisions g_low g_high g_end g_time : Int32} {b_job b_machine b_dur b_plan b_first b_second b_heads b_tails b_prevs b_seq b_at b_best b_done b_mark : Nat → Int32}
variable {n nm nj dec : Nat} {J M D F S H T : Nat → Nat}
theorem rv_solve {k : Nat} (rb : js_RB n nm nj dec J M D F S f_jobs f_machines f_count f_depth a_jobOf a_machineOf a_duration a_trail g_jobs g_machines g_n g_decisions b_job b_machine b_dur b_first b_second)
    (rh : js_RH n dec J D F S H T a_trail b_heads b_tails b_prevs) (ro : js_RO n M D (js_bo (a_trail dec)) f_lower f_upper g_low g_high) :
    wpX_solve (fun r u' => wpY_solve (fun r' v' => r' = r ∧ i_Rel (k + 4) u' v') (g_jobs, g_machines, g_n, g_decisions, g_low, g_high, g_end, g_time, b_job, b_machine, b_dur, b_plan, b_first, b_second, b_heads, b_tails, b_prevs, b_seq, b_at, b_best, b_done, b_mark)) (f_jobs, f_machines, f_count, f_depth, f_lower, f_upper, f_planned, f_planSpan, f_criticalSet, f_clock, f_nodeBound, f_found, f_bestSpan, a_jobOf, a_machineOf, a_duration, a_trail, a_planStart, a_heads, a_tails, a_rest, a_nodes, a_best) := by
  have td := js_RBt rb
  have rb0 := rb
  obtain ⟨ej, eyj, n4, xc, hJ, yc, hd, yd, hF, lv⟩ := rb
  have d28 := yd.1
  have hn := rh.1.1
  have lvd := lv dec (Nat.le_refl _)
  have bd := yc.2.2.2.2.2.2.2
  obtain ⟨lo, hi, e1, e2, e3, e4, hhi, hlo, s0, sd0, sp0⟩ := ro
  have hc : ∀ x y, x < y → y < n → J x = J y → js_bo (a_trail dec) x y = true := fun x y l hy e => lvd.2.1.1 x y (td.2 x y l hy e)
  unfold wpX_solve
  refine ⟨by rw [hd]; exact vp_in_nI (by omega) (by omega), ?_⟩
  have et : a_trail f_depth.toNatClampNeg = a_trail dec := by rw [hd, nI_clamp (by omega)]
  rw [et, e3]
  refine xw_search (J := J) hn rh.1.2.1 xc (by omega) lvd.1 (fun x hx => (bd x hx).1) hc (fun nb fd bs ah at' ar nd ab b v sq => ?_)
  obtain ⟨eb, hv, sq⟩ := sq
  rcases sq with ⟨f0, no⟩ | ⟨f1, hb, sdb, spb, v3, opt⟩
  · have := no s0 sd0
    omega
  · have o : js_OPT n M D (js_bo (a_trail dec)) v b := ⟨sdb, spb, opt rfl⟩
    have bb : ∀ x, x < n → b x + D x ≤ v := fun x hx => by rw [← spb]; exact js_spge hx
    refine ⟨n + 1, xw_sol20 hn (fun x hx => (bd x hx).2.2.1) xc hJ (fun x hx => (bd x hx).1) hb (fun x hx => by have := bb x hx; omega) eb v3 (fun ps cs hps hcs => ?_) n 0 (by omega) a_planStart (fun j hj => by omega)⟩
    unfold wpY_solve
    refine yw_sA yc lvd.1 lvd.2.1 td.1 td.2 rh.2.2.2 (fun w b' sq' at'' ab' dn' h5 o' hw => ⟨n + 1, ?_⟩)
    obtain ⟨ew, eb'⟩ := js_OPTuq o o'
    refine yw_sol12 hn yc.2.1 h5 (fun pl hpl => ⟨by rw [ew], ?_⟩) n 0 (by omega) b_plan (fun j hj => by omega)
    refine rl_mk rb0 rh ⟨v, v, rfl, by rw [ew], rfl, by rw [ew], v3, fun s hs => ?_, b, sdb, by omega⟩ (Or.inr ⟨rfl, 0, v, b, rfl, rfl, rfl, by rw [ew], hps, fun i hi => by rw [hpl i hi, eb' i hi], Nat.zero_le _, v3, bb, hcs⟩)
    rcases o.2.2 s hs with z | ⟨z, _⟩ <;> omega
theorem rv_start {k : Nat} (v1 : Int32) (rb : js_RB n nm nj dec J M D F S f_jobs f_machines f_count f_depth a_jobOf a_machineOf a_duration a_trail g_jobs g_machines g_n g_decisions b_job b_machine b_dur b_first b_second)
    (rh : js_RH n dec J D F S H T a_trail b_heads b_tails b_prevs) (ro : js_RO n M D (js_bo (a_trail dec)) f_lower f_upper g_low g_high) (rp : js_RP n J M D f_planned f_planSpan f_criticalSet f_clock a_planStart g_end g_time b_plan) :
    wpX_start (fun r => wpY_start (fun r' => r' = r ∧ i_Rel (k + 4) (f_jobs, f_machines, f_count, f_depth, f_lower, f_upper, f_planned, f_planSpan, f_criticalSet, f_clock, f_nodeBound, f_found, f_bestSpan, a_jobOf, a_machineOf, a_duration, a_trail, a_planStart, a_heads, a_tails, a_rest, a_nodes, a_best) (g_jobs, g_machines, g_n, g_decisions, g_low, g_high, g_end, g_time, b_job, b_machine, b_dur, b_plan, b_first, b_second, b_heads, b_tails, b_prevs, b_seq, b_at, b_best, b_done, b_mark)) (g_jobs, g_machines, g_n, g_decisions, g_low, g_high, g_end, g_time, b_job, b_machine, b_dur, b_plan, b_first, b_second, b_heads, b_tails, b_prevs, b_seq, b_at, b_best, b_done, b_mark) v1) (f_jobs, f_machines, f_count, f_depth, f_lower, f_upper, f_planned, f_planSpan, f_criticalSet, f_clock, f_nodeBound, f_found, f_bestSpan, a_jobOf, a_machineOf, a_duration, a_trail, a_planStart, a_heads, a_tails, a_rest, a_nodes, a_best) v1 := by
  have hn := rh.1.1
  have xc := rb.2.2.2.1
  have yc := rb.2.2.2.2.2.1
  have rl : i_Rel (k + 4) (f_jobs, f_machines, f_count, f_depth, f_lower, f_upper, f_planned, f_planSpan, f_criticalSet, f_clock, f_nodeBound, f_found, f_bestSpan, a_jobOf, a_machineOf, a_duration, a_trail, a_planStart, a_heads, a_tails, a_rest, a_nodes, a_best) (g_jobs, g_machines, g_n, g_decisions, g_low, g_high, g_end, g_time, b_job, b_machine, b_dur, b_plan, b_first, b_second, b_heads, b_tails, b_prevs, b_seq, b_at, b_best, b_done, b_mark) := rl_mk rb rh ro rp
  unfold wpX_start wpY_start
  rcases xh_ix v1 hn with b | ⟨a, ha, e⟩
  · exact xw_exB xc.1 b (br_t rfl (yw_exB yc.2.1 b (br_t rfl ⟨rfl, rl⟩)))
  · subst e
    have ia := xh_in (show a < 8 by omega)
    refine xw_exG hn xc.1 ha (br_f (by decide) ?_)
    rcases rp with ⟨p0, t0⟩ | ⟨p1, t, v, pl, h1, h2, h3, h4, h5, h6, h7, h8, h9, h10⟩
    · exact br_t p0 (yw_exG hn yc.2.1 ha (br_f (by decide) (br_f (by rw [t0]; decide) ⟨rfl, rl⟩)))
    · refine br_f (by rw [p1]; decide) ⟨ia, yw_exG hn yc.2.1 ha (br_f (by decide) (br_t (by rw [h2]; exact nI_pos' (by omega)) ⟨ia, ?_, rl⟩))⟩
      rw [js_rd h5 hn ha, js_rd h6 hn ha]
theorem rv_critical {k : Nat} (v1 : Int32) (rb : js_RB n nm nj dec J M D F S f_jobs f_machines f_count f_depth a_jobOf a_machineOf a_duration a_trail g_jobs g_machines g_n g_decisions b_job b_machine b_dur b_first b_second)
    (rh : js_RH n dec J D F S H T a_trail b_heads b_tails b_prevs) (ro : js_RO n M D (js_bo (a_trail dec)) f_lower f_upper g_low g_high) (rp : js_RP n J M D f_planned f_planSpan f_criticalSet f_clock a_planStart g_end g_time b_plan) :
    wpX_critical (fun r => wpY_critical (fun r' v' => r' = r ∧ i_Rel (k + 4) (f_jobs, f_machines, f_count, f_depth, f_lower, f_upper, f_planned, f_planSpan, f_criticalSet, f_clock, f_nodeBound, f_found, f_bestSpan, a_jobOf, a_machineOf, a_duration, a_trail, a_planStart, a_heads, a_tails, a_rest, a_nodes, a_best) v') (g_jobs, g_machines, g_n, g_decisions, g_low, g_high, g_end, g_time, b_job, b_machine, b_dur, b_plan, b_first, b_second, b_heads, b_tails, b_prevs, b_seq, b_at, b_best, b_done, b_mark) v1) (f_jobs, f_machines, f_count, f_depth, f_lower, f_upper, f_planned, f_planSpan, f_criticalSet, f_clock, f_nodeBound, f_found, f_bestSpan, a_jobOf, a_machineOf, a_duration, a_trail, a_planStart, a_heads, a_tails, a_rest, a_nodes, a_best) v1 := by
  have hn := rh.1.1
  have xc := rb.2.2.2.1
  have yc := rb.2.2.2.2.2.1
  unfold wpX_critical wpY_critical wpY_start
  rcases xh_ix v1 hn with b | ⟨a, ha, e⟩
  · exact xw_exB xc.1 b (br_t rfl (yw_exB yc.2.1 b (br_t rfl (br_f (by decide) (yw_exB yc.2.1 b (br_t rfl ⟨rfl, rl_mk rb rh ro rp⟩))))))
  · subst e
    have ia := xh_in (show a < 8 by omega)
    refine xw_exG hn xc.1 ha (br_f (by decide) ?_)
    rcases id rp with ⟨p0, t0⟩ | ⟨p1, t, v, pl, h1, h2, h3, h4, h5, h6, h7, h8, h9, h10⟩
    · have nt : ¬ 0 ≤ g_time := by rw [t0]; decide
      exact br_t p0 (yw_exG hn yc.2.1 ha (br_f (by decide) (br_f nt (br_f (by decide) (yw_exG hn yc.2.1 ha (br_f (by decide) (br_f nt ⟨rfl, rl_mk rb rh ro rp⟩)))))))
    · have bp : ∀ x, x < n → pl x + D x ≤ 3000 := fun x hx => by have := h9 x hx; omega
      have pa := bp a ha
      refine br_f (by rw [p1]; decide) (yw_exG hn yc.2.1 ha (br_f (by decide) (br_t (by rw [h2]; exact nI_pos' (by omega)) ⟨ia, ?_⟩)))
      rw [js_bsh f_criticalSet (show a < 31 by omega)]
      refine br_t (by rw [js_rd h6 hn ha]; exact nI_pos' (by omega)) ⟨n + 1, ?_⟩
      exact yw_crit16 yc h6 bp ha h4 h8 (fun mk q => ⟨(if_pos ((h10 a).mpr q)).symm, rl_mk rb rh ro rp⟩) (fun mk q => ⟨(if_neg fun z => q ((h10 a).mp z)).symm, rl_mk rb rh ro rp⟩) n 0 (by omega) b_mark (fun x hx => by omega)
theorem rv_step {k : Nat} (rb : js_RB n nm nj dec J M D F S f_jobs f_machines f_count f_depth a_jobOf a_machineOf a_duration a_trail g_jobs g_machines g_n g_decisions b_job b_machine b_dur b_first b_second)
    (rh : js_RH n dec J D F S H T a_trail b_heads b_tails b_prevs) (ro : js_RO n M D (js_bo (a_trail dec)) f_lower f_upper g_low g_high) (rp : js_RP n J M D f_planned f_planSpan f_criticalSet f_clock a_planStart g_end g_time b_plan) :
    wpX_step (fun r u' => wpY_step (fun r' v' => r' = r ∧ i_Rel (k + 4) u' v') (g_jobs, g_machines, g_n, g_decisions, g_low, g_high, g_end, g_time, b_job, b_machine, b_dur, b_plan, b_first, b_second, b_heads, b_tails, b_prevs, b_seq, b_at, b_best, b_done, b_mark)) (f_jobs, f_machines, f_count, f_depth, f_lower, f_upper, f_planned, f_planSpan, f_criticalSet, f_clock, f_nodeBound, f_found, f_bestSpan, a_jobOf, a_machineOf, a_duration, a_trail, a_planStart, a_heads, a_tails, a_rest, a_nodes, a_best) := by
  have hn := rh.1.1
  have xc := rb.2.2.2.1
  have yc := rb.2.2.2.2.2.1
  unfold wpX_step wpY_step
  rcases id rp with ⟨p0, t0⟩ | ⟨p1, t, v, pl, h1, h2, h3, h4, h5, h6, h7, h8, h9, h10⟩
  · exact br_t p0 (br_f (by rw [t0]; decide) ⟨rfl, rl_mk rb rh ro rp⟩)
  · have bp : ∀ x, x < n → pl x + D x ≤ 3000 := fun x hx => by have := h9 x hx; omega
    have tn : 0 ≤ g_time := by rw [h2]; exact nI_pos' (by omega)
    refine br_f (by rw [p1]; decide) ?_
    by_cases e : t = v
    · exact br_t (by rw [h1, h3, e]) (br_t tn (br_t (by rw [h2, h4, e]) ⟨rfl, rl_mk rb rh ro rp⟩))
    · have ne : ¬ f_clock = f_planSpan := by rw [h1, h3, nI_eq (by omega) (by omega)]; exact e
      have ney : ¬ g_time = g_end := by rw [h2, h4, nI_eq (by omega) (by omega)]; exact e
      refine br_f ne ⟨n + 1, ?_⟩
      have x31 := xw_step31 (post := fun r u' => wpY_step (fun r' v' => r' = r ∧ i_Rel (k + 4) u' v') (g_jobs, g_machines, g_n, g_decisions, g_low, g_high, g_end, g_time, b_job, b_machine, b_dur, b_plan, b_first, b_second, b_heads, b_tails, b_prevs, b_seq, b_at, b_best, b_done, b_mark)) (t := t) (v := v) (f_jobs := f_jobs) (f_depth := f_depth) (f_lower := f_lower) (f_upper := f_upper) (f_planned := f_planned) (f_planSpan := f_planSpan) (f_criticalSet := f_criticalSet) (f_nodeBound := f_nodeBound) (f_found := f_found) (f_bestSpan := f_bestSpan) (a_jobOf := a_jobOf) (a_trail := a_trail) (a_heads := a_heads) (a_tails := a_tails) (a_rest := a_rest) (a_nodes := a_nodes) (a_best := a_best) hn xc h5 bp h1 (by omega) h8 (fun r nx => ?_) n 0 (by omega) v (by omega) (Nat.le_refl _) (Or.inl rfl) (fun e l1 l2 j hj => by omega)
      · rw [← h3] at x31
        exact x31
      · unfold wpY_step
        refine br_t tn (br_f ney (nm_r (e' := nI (t + 1)) (by rw [h2, nI_1]) ⟨v - (t + 1) + 1, ?_⟩))
        refine yw_step34 (t := t) yc h6 bp h4 h8 (fun r' nx' => ⟨by rw [js_NXuq nx nx'], ?_⟩) (v - (t + 1)) (t + 1) (by omega) (by omega) (fun e' l1 l2 => by omega)
        have er := js_NXuq nx nx'
        exact rl_mk rb rh ro (Or.inr ⟨p1, r, v, pl, rfl, by rw [er], h3, h4, h5, h6, nx.2.1, h8, h9, h10⟩)
theorem rv_running {k : Nat} (v1 : Int32) (rb : js_RB n nm nj dec J M D F S f_jobs f_machines f_count f_depth a_jobOf a_machineOf a_duration a_trail g_jobs g_machines g_n g_decisions b_job b_machine b_dur b_first b_second)
    (rh : js_RH n dec J D F S H T a_trail b_heads b_tails b_prevs) (ro : js_RO n M D (js_bo (a_trail dec)) f_lower f_upper g_low g_high) (rp : js_RP n J M D f_planned f_planSpan f_criticalSet f_clock a_planStart g_end g_time b_plan) :
    wpX_running (fun r => wpY_running (fun r' => r' = r ∧ i_Rel (k + 4) (f_jobs, f_machines, f_count, f_depth, f_lower, f_upper, f_planned, f_planSpan, f_criticalSet, f_clock, f_nodeBound, f_found, f_bestSpan, a_jobOf, a_machineOf, a_duration, a_trail, a_planStart, a_heads, a_tails, a_rest, a_nodes, a_best) (g_jobs, g_machines, g_n, g_decisions, g_low, g_high, g_end, g_time, b_job, b_machine, b_dur, b_plan, b_first, b_second, b_heads, b_tails, b_prevs, b_seq, b_at, b_best, b_done, b_mark)) (g_jobs, g_machines, g_n, g_decisions, g_low, g_high, g_end, g_time, b_job, b_machine, b_dur, b_plan, b_first, b_second, b_heads, b_tails, b_prevs, b_seq, b_at, b_best, b_done, b_mark) v1) (f_jobs, f_machines, f_count, f_depth, f_lower, f_upper, f_planned, f_planSpan, f_criticalSet, f_clock, f_nodeBound, f_found, f_bestSpan, a_jobOf, a_machineOf, a_duration, a_trail, a_planStart, a_heads, a_tails, a_rest, a_nodes, a_best) v1 := by
  have hn := rh.1.1
  have xc := rb.2.2.2.1
  have yc := rb.2.2.2.2.2.1
  have nm4 := xc.2.2.1
  have rl : i_Rel (k + 4) (f_jobs, f_machines, f_count, f_depth, f_lower, f_upper, f_planned, f_planSpan, f_criticalSet, f_clock, f_nodeBound, f_found, f_bestSpan, a_jobOf, a_machineOf, a_duration, a_trail, a_planStart, a_heads, a_tails, a_rest, a_nodes, a_best) (g_jobs, g_machines, g_n, g_decisions, g_low, g_high, g_end, g_time, b_job, b_machine, b_dur, b_plan, b_first, b_second, b_heads, b_tails, b_prevs, b_seq, b_at, b_best, b_done, b_mark) := rl_mk rb rh ro rp
  unfold wpX_running wpY_running
  rcases xh_ix v1 (n := nm) (by omega) with b | ⟨a, ha, e⟩
  · refine xw_meB xc.2.1 b (br_t rfl (br_c (fun _ => ⟨rfl, rl⟩) (fun q => br_f ?_ ⟨rfl, rl⟩)))
    rw [yc.2.2.1]
    exact Int32.not_lt.mpr (b.elim (fun z => absurd z q) id)
  · subst e
    have q1 : ¬ nI a < 0 := nI_pos (by omega)
    have q2 : nI a < g_machines := by rw [yc.2.2.1]; exact nI_lt ha (by omega)
    refine xw_meG (by omega) xc.2.1 ha (br_f (by decide) ?_)
    rcases rp with ⟨p0, t0⟩ | ⟨p1, t, v, pl, h1, h2, h3, h4, h5, h6, h7, h8, h9, h10⟩
    · exact br_t p0 (br_f q1 (br_t q2 (br_f (by rw [t0]; decide) ⟨rfl, rl⟩)))
    · have bp : ∀ x, x < n → pl x + D x ≤ 3000 := fun x hx => by have := h9 x hx; omega
      have tn : 0 ≤ g_time := by rw [h2]; exact nI_pos' (by omega)
      refine br_f (by rw [p1]; decide) ⟨n + 1, xw_run22 hn xc h5 bp h1 (by omega) (by omega) (fun x hx rx fx => ?_) (fun no => ?_) n 0 (by omega) (fun j hj => by omega)⟩
      · refine br_f q1 (br_t q2 (br_t tn ⟨n + 1, yw_run26 yc h6 bp h2 (by omega) (by omega) (fun y hy ry fy => ⟨?_, rl⟩) (fun no => absurd rx (no x hx)) n 0 (by omega) (fun j hj => by omega)⟩))
        rcases Nat.lt_trichotomy x y with l | l | l
        · exact absurd rx (fy x l)
        · rw [l]
        · exact absurd ry (fx y l)
      · exact br_f q1 (br_t q2 (br_t tn ⟨n + 1, yw_run26 yc h6 bp h2 (by omega) (by omega) (fun y hy ry fy => absurd ry (no y hy)) (fun _ => ⟨rfl, rl⟩) n 0 (by omega) (fun j hj => by omega)⟩))
theorem rv_clock {k : Nat} (rb : js_RB n nm nj dec J M D F S f_jobs f_machines f_count f_depth a_jobOf a_machineOf a_duration a_trail g_jobs g_machines g_n g_decisions b_job b_machine b_dur b_first b_second)
    (rh : js_RH n dec J D F S H T a_trail b_heads b_tails b_prevs) (ro : js_RO n M D (js_bo (a_trail dec)) f_lower f_upper g_low g_high) (rp : js_RP n J M D f_planned f_planSpan f_criticalSet f_clock a_planStart g_end g_time b_plan) :
    wpX_clock (fun r => wpY_clock (fun r' => r' = r ∧ i_Rel (k + 4) (f_jobs, f_machines, f_count, f_depth, f_lower, f_upper, f_planned, f_planSpan, f_criticalSet, f_clock, f_nodeBound, f_found, f_bestSpan, a_jobOf, a_machineOf, a_duration, a_trail, a_planStart, a_heads, a_tails, a_rest, a_nodes, a_best) (g_jobs, g_machines, g_n, g_decisions, g_low, g_high, g_end, g_time, b_job, b_machine, b_dur, b_plan, b_first, b_second, b_heads, b_tails, b_prevs, b_seq, b_at, b_best, b_done, b_mark)) (g_jobs, g_machines, g_n, g_decisions, g_low, g_high, g_end, g_time, b_job, b_machine, b_dur, b_plan, b_first, b_second, b_heads, b_tails, b_prevs, b_seq, b_at, b_best, b_done, b_mark)) (f_jobs, f_machines, f_count, f_depth, f_lower, f_upper, f_planned, f_planSpan, f_criticalSet, f_clock, f_nodeBound, f_found, f_bestSpan, a_jobOf, a_machineOf, a_duration, a_trail, a_planStart, a_heads, a_tails, a_rest, a_nodes, a_best) := by
  have rl : i_Rel (k + 4) (f_jobs, f_machines, f_count, f_depth, f_lower, f_upper, f_planned, f_planSpan, f_criticalSet, f_clock, f_nodeBound, f_found, f_bestSpan, a_jobOf, a_machineOf, a_duration, a_trail, a_planStart, a_heads, a_tails, a_rest, a_nodes, a_best) (g_jobs, g_machines, g_n, g_decisions, g_low, g_high, g_end, g_time, b_job, b_machine, b_dur, b_plan, b_first, b_second, b_heads, b_tails, b_prevs, b_seq, b_at, b_best, b_done, b_mark) := rl_mk rb rh ro rp
  unfold wpX_clock wpY_clock
  rcases rp with ⟨p0, t0⟩ | ⟨p1, t, v, pl, h1, h2, h3, h4, h5, h6, h7, h8, h9, h10⟩
  · exact br_t p0 (br_f (by rw [t0]; decide) ⟨rfl, rl⟩)
  · exact br_f (by rw [p1]; decide) (br_t (by rw [h2]; exact nI_pos' (by omega)) ⟨by rw [h1, h2], rl⟩)
end
end
section
theorem i_up {k : Nat} {u : SX} {v : SY} (h : i_Rel k u v) : i_Rel (k + 4) u v := h
theorem rv_0 {k nj nm : Nat} (hj : nj ≤ 4) (hm : nm ≤ 4) : i_Rel k (nI nj, nI nm, 0, 0, 0, 0, 0, 0, 0, 0, 0, 0, 0, (fun _ => 0), (fun _ => 0), (fun _ => 0), (fun _ => 0), (fun _ => 0), (fun _ => 0), (fun _ => 0), (fun _ => 0), (fun _ => 0), (fun _ => 0)) (nI nj, nI nm, 0, 0, 0, 0, 0, (-1), (fun _ => 0), (fun _ => 0), (fun _ => 0), (fun _ => 0), (fun _ => 0), (fun _ => 0), (fun _ => 0), (fun _ => 0), (fun _ => 0), (fun _ => 0), (fun _ => 0), (fun _ => 0), (fun _ => 0), (fun _ => 0)) := by
  have so : js_SO 0 (js_bo 0) := by
    rw [js_bo0]
    exact ⟨fun x y h => by simp at h, fun x h => by simp at h, fun x y z h => by simp at h⟩
  have gn : ∀ R : Nat → Nat → Bool, (∀ x y, ¬ R x y = true) → js_GN R (js_bo 0) := fun R h => ⟨fun x y q => absurd q (h x y), fun x y q => by rw [js_bo0] at q; simp at q⟩
  have gt : ∀ R : Nat → Nat → Bool, (∀ x y, ¬ R x y = true) → js_GN R (js_T (js_bo 0)) := fun R h => ⟨fun x y q => absurd q (h x y), fun x y q => by rw [js_bo0] at q; simp [js_T] at q⟩
  have nr : ∀ x y, ¬ js_RR 0 (fun _ => 0) (fun _ => 0) (fun _ => 0) 0 x y = true := fun x y q => by have := (js_RRi.mp q).1; omega
  obtain ⟨H, T, c⟩ := js_CXex (n := 0) (D := fun _ => 0) (by omega) (fun x hx => by omega) so
  refine rl_mk (n := 0) (nm := nm) (nj := nj) (dec := 0) (J := fun _ => 0) (M := fun _ => 0) (D := fun _ => 0) (F := fun _ => 0) (S := fun _ => 0) (H := H) (T := T) ⟨rfl, rfl, hj, ⟨rfl, rfl, hm, fun i hi => by omega, fun x hx => by omega, fun i hi => by omega⟩, fun i hi => by omega, ⟨by omega, rfl, rfl, hm, fun i hi => by omega, fun i hi => by omega, fun i hi => by omega, fun x hx => by omega⟩, rfl, ⟨by omega, rfl, fun i hi => by omega, fun i hi => by omega, fun i hi => by omega⟩, fun i hi => by omega, fun l hl => ?_⟩
    ⟨c, fun i hi => by omega, fun i hi => by omega, fun y hy => by omega⟩ ⟨0, 0, rfl, rfl, rfl, rfl, by omega, fun s _ => Nat.zero_le _, fun _ => 0, ⟨fun x y q => by rw [js_bo0] at q; simp at q, fun x y hx => by omega⟩, Nat.le_refl _⟩ (Or.inl ⟨rfl, rfl⟩)
  have e : l = 0 := by omega
  subst e
  exact ⟨so, gn _ nr, gt _ (fun x y => nr y x), Nat.zero_le _⟩
theorem rv_cl (x : Int32) : (¬ 1 ≤ x) ∨ (1 ≤ x ∧ ¬ x ≤ 4) ∨ (1 ≤ x ∧ x ≤ 4 ∧ ∃ j, j ≤ 4 ∧ x = nI j) := by
  by_cases h : 1 ≤ x
  · by_cases g : x ≤ 4
    · refine Or.inr (Or.inr ⟨h, g, ?_⟩)
      refine nI_of2 (M := 4) (by decide) ?_ g
      rw [Int32.le_iff_toInt_le] at h
      rw [Int32.lt_iff_toInt_lt]
      have z0 : (0 : Int32).toInt = 0 := by decide
      have z1 : (1 : Int32).toInt = 1 := by decide
      omega
    · exact Or.inr (Or.inl ⟨h, g⟩)
  · exact Or.inl h
theorem i_vc0 (k0 : Int32) (k1 : Int32) : wpX_init (fun u => wpY_init (fun v => i_Rel 2 u v) k0 k1) k0 k1 := by
  unfold wpX_init wX_init_104 wpY_init wY_init_141
  rcases rv_cl k0 with a | ⟨a, a'⟩ | ⟨a, a', j, hj, e⟩
  · refine br_f a ?_
    rcases rv_cl k1 with b | ⟨b, b'⟩ | ⟨b, b', m, hm, e'⟩
    · exact br_f b (br_f a (br_f b (rv_0 (nj := 1) (nm := 1) (by omega) (by omega))))
    · exact br_t b (br_f b' (br_f a (br_t b (br_f b' (rv_0 (nj := 1) (nm := 4) (by omega) (by omega))))))
    · subst e'
      exact br_t b (br_t b' (br_f a (br_t b (br_t b' (rv_0 (nj := 1) (nm := m) (by omega) hm)))))
  · refine br_t a (br_f a' ?_)
    rcases rv_cl k1 with b | ⟨b, b'⟩ | ⟨b, b', m, hm, e'⟩
    · exact br_f b (br_t a (br_f a' (br_f b (rv_0 (nj := 4) (nm := 1) (by omega) (by omega)))))
    · exact br_t b (br_f b' (br_t a (br_f a' (br_t b (br_f b' (rv_0 (nj := 4) (nm := 4) (by omega) (by omega)))))))
    · subst e'
      exact br_t b (br_t b' (br_t a (br_f a' (br_t b (br_t b' (rv_0 (nj := 4) (nm := m) (by omega) hm))))))
  · subst e
    refine br_t a (br_t a' ?_)
    rcases rv_cl k1 with b | ⟨b, b'⟩ | ⟨b, b', m, hm, e'⟩
    · exact br_f b (br_t a (br_t a' (br_f b (rv_0 (nj := j) (nm := 1) hj (by omega)))))
    · exact br_t b (br_f b' (br_t a (br_t a' (br_t b (br_f b' (rv_0 (nj := j) (nm := 4) hj (by omega)))))))
    · subst e'
      exact br_t b (br_t b' (br_t a (br_t a' (br_t b (br_t b' (rv_0 (nj := j) (nm := m) hj hm))))))
theorem i_vc_add {k : Nat} {u : SX} {v : SY} (I : i_Rel k u v) (hk : k + 4 ≤ 2050) (v1 : Int32) (v2 : Int32) (v3 : Int32) : wpX_add (fun r u' => wpY_add (fun r' v' => r' = r ∧ i_Rel (k + 4) u' v') v v1 v2 v3) u v1 v2 v3 := by
  refine rl_el (P := fun u v => wpX_add (fun r u' => wpY_add (fun r' v' => r' = r ∧ i_Rel (k + 4) u' v') v v1 v2 v3) u v1 v2 v3) ?_ I
  intro f_jobs f_machines f_count f_depth f_lower f_upper f_planned f_planSpan f_criticalSet f_clock f_nodeBound f_found f_bestSpan a_jobOf a_machineOf a_duration a_trail a_planStart a_heads a_tails a_rest a_nodes a_best g_jobs g_machines g_n g_decisions g_low g_high g_end g_time b_job b_machine b_dur b_plan b_first b_second b_heads b_tails b_prevs b_seq b_at b_best b_done b_mark n nm nj dec J M D F S H T rb rh ro rp
  exact rv_add v1 v2 v3 rb rh ro rp
theorem i_vc_decide {k : Nat} {u : SX} {v : SY} (I : i_Rel k u v) (hk : k + 4 ≤ 2050) (v1 : Int32) (v2 : Int32) : wpX_decide (fun r u' => wpY_decide (fun r' v' => r' = r ∧ i_Rel (k + 4) u' v') v v1 v2) u v1 v2 := by
  refine rl_el (P := fun u v => wpX_decide (fun r u' => wpY_decide (fun r' v' => r' = r ∧ i_Rel (k + 4) u' v') v v1 v2) u v1 v2) ?_ I
  intro f_jobs f_machines f_count f_depth f_lower f_upper f_planned f_planSpan f_criticalSet f_clock f_nodeBound f_found f_bestSpan a_jobOf a_machineOf a_duration a_trail a_planStart a_heads a_tails a_rest a_nodes a_best g_jobs g_machines g_n g_decisions g_low g_high g_end g_time b_job b_machine b_dur b_plan b_first b_second b_heads b_tails b_prevs b_seq b_at b_best b_done b_mark n nm nj dec J M D F S H T rb rh ro rp
  exact rv_decide v1 v2 rb rh ro rp
theorem i_vc_undo {k : Nat} {u : SX} {v : SY} (I : i_Rel k u v) (hk : k + 4 ≤ 2050) : wpX_undo (fun r u' => wpY_undo (fun r' v' => r' = r ∧ i_Rel (k + 4) u' v') v) u := by
  refine rl_el (P := fun u v => wpX_undo (fun r u' => wpY_undo (fun r' v' => r' = r ∧ i_Rel (k + 4) u' v') v) u) ?_ I
  intro f_jobs f_machines f_count f_depth f_lower f_upper f_planned f_planSpan f_criticalSet f_clock f_nodeBound f_found f_bestSpan a_jobOf a_machineOf a_duration a_trail a_planStart a_heads a_tails a_rest a_nodes a_best g_jobs g_machines g_n g_decisions g_low g_high g_end g_time b_job b_machine b_dur b_plan b_first b_second b_heads b_tails b_prevs b_seq b_at b_best b_done b_mark n nm nj dec J M D F S H T rb rh ro rp
  exact rv_undo rb rh ro rp
theorem i_vc_head {k : Nat} {u : SX} {v : SY} (I : i_Rel k u v) (hk : k + 4 ≤ 2050) (v1 : Int32) : wpX_head (fun r u' => wpY_head (fun r' => r' = r ∧ i_Rel (k + 4) u' v) v v1) u v1 := by
  refine rl_el (P := fun u v => wpX_head (fun r u' => wpY_head (fun r' => r' = r ∧ i_Rel (k + 4) u' v) v v1) u v1) ?_ I
  intro f_jobs f_machines f_count f_depth f_lower f_upper f_planned f_planSpan f_criticalSet f_clock f_nodeBound f_found f_bestSpan a_jobOf a_machineOf a_duration a_trail a_planStart a_heads a_tails a_rest a_nodes a_best g_jobs g_machines g_n g_decisions g_low g_high g_end g_time b_job b_machine b_dur b_plan b_first b_second b_heads b_tails b_prevs b_seq b_at b_best b_done b_mark n nm nj dec J M D F S H T rb rh ro rp
  exact rv_head v1 rb rh ro rp
theorem i_vc_tail {k : Nat} {u : SX} {v : SY} (I : i_Rel k u v) (hk : k + 4 ≤ 2050) (v1 : Int32) : wpX_tail (fun r u' => wpY_tail (fun r' => r' = r ∧ i_Rel (k + 4) u' v) v v1) u v1 := by
  refine rl_el (P := fun u v => wpX_tail (fun r u' => wpY_tail (fun r' => r' = r ∧ i_Rel (k + 4) u' v) v v1) u v1) ?_ I
  intro f_jobs f_machines f_count f_depth f_lower f_upper f_planned f_planSpan f_criticalSet f_clock f_nodeBound f_found f_bestSpan a_jobOf a_machineOf a_duration a_trail a_planStart a_heads a_tails a_rest a_nodes a_best g_jobs g_machines g_n g_decisions g_low g_high g_end g_time b_job b_machine b_dur b_plan b_first b_second b_heads b_tails b_prevs b_seq b_at b_best b_done b_mark n nm nj dec J M D F S H T rb rh ro rp
  exact rv_tail v1 rb rh ro rp
theorem i_vc_machineBound {k : Nat} {u : SX} {v : SY} (I : i_Rel k u v) (hk : k + 4 ≤ 2050) (v1 : Int32) : wpX_machineBound (fun r u' => wpY_machineBound (fun r' => r' = r ∧ i_Rel (k + 4) u' v) v v1) u v1 := by
  refine rl_el (P := fun u v => wpX_machineBound (fun r u' => wpY_machineBound (fun r' => r' = r ∧ i_Rel (k + 4) u' v) v v1) u v1) ?_ I
  intro f_jobs f_machines f_count f_depth f_lower f_upper f_planned f_planSpan f_criticalSet f_clock f_nodeBound f_found f_bestSpan a_jobOf a_machineOf a_duration a_trail a_planStart a_heads a_tails a_rest a_nodes a_best g_jobs g_machines g_n g_decisions g_low g_high g_end g_time b_job b_machine b_dur b_plan b_first b_second b_heads b_tails b_prevs b_seq b_at b_best b_done b_mark n nm nj dec J M D F S H T rb rh ro rp
  exact rv_mb v1 rb rh ro rp
theorem i_vc_lower {k : Nat} {u : SX} {v : SY} (I : i_Rel k u v) (hk : k + 4 ≤ 2050) : wpX_lower (fun r => wpY_lower (fun r' => r' = r ∧ i_Rel (k + 4) u v) v) u := by
  refine rl_el (P := fun u v => wpX_lower (fun r => wpY_lower (fun r' => r' = r ∧ i_Rel (k + 4) u v) v) u) ?_ I
  intro f_jobs f_machines f_count f_depth f_lower f_upper f_planned f_planSpan f_criticalSet f_clock f_nodeBound f_found f_bestSpan a_jobOf a_machineOf a_duration a_trail a_planStart a_heads a_tails a_rest a_nodes a_best g_jobs g_machines g_n g_decisions g_low g_high g_end g_time b_job b_machine b_dur b_plan b_first b_second b_heads b_tails b_prevs b_seq b_at b_best b_done b_mark n nm nj dec J M D F S H T rb rh ro rp
  have rl : i_Rel (k + 4) (f_jobs, f_machines, f_count, f_depth, f_lower, f_upper, f_planned, f_planSpan, f_criticalSet, f_clock, f_nodeBound, f_found, f_bestSpan, a_jobOf, a_machineOf, a_duration, a_trail, a_planStart, a_heads, a_tails, a_rest, a_nodes, a_best) (g_jobs, g_machines, g_n, g_decisions, g_low, g_high, g_end, g_time, b_job, b_machine, b_dur, b_plan, b_first, b_second, b_heads, b_tails, b_prevs, b_seq, b_at, b_best, b_done, b_mark) := rl_mk rb rh ro rp
  obtain ⟨lo, hi, e1, e2, e3, e4, _⟩ := ro
  unfold wpX_lower wpY_lower
  exact ⟨e2.trans e1.symm, rl⟩
theorem i_vc_upper {k : Nat} {u : SX} {v : SY} (I : i_Rel k u v) (hk : k + 4 ≤ 2050) : wpX_upper (fun r => wpY_upper (fun r' => r' = r ∧ i_Rel (k + 4) u v) v) u := by
  refine rl_el (P := fun u v => wpX_upper (fun r => wpY_upper (fun r' => r' = r ∧ i_Rel (k + 4) u v) v) u) ?_ I
  intro f_jobs f_machines f_count f_depth f_lower f_upper f_planned f_planSpan f_criticalSet f_clock f_nodeBound f_found f_bestSpan a_jobOf a_machineOf a_duration a_trail a_planStart a_heads a_tails a_rest a_nodes a_best g_jobs g_machines g_n g_decisions g_low g_high g_end g_time b_job b_machine b_dur b_plan b_first b_second b_heads b_tails b_prevs b_seq b_at b_best b_done b_mark n nm nj dec J M D F S H T rb rh ro rp
  have rl : i_Rel (k + 4) (f_jobs, f_machines, f_count, f_depth, f_lower, f_upper, f_planned, f_planSpan, f_criticalSet, f_clock, f_nodeBound, f_found, f_bestSpan, a_jobOf, a_machineOf, a_duration, a_trail, a_planStart, a_heads, a_tails, a_rest, a_nodes, a_best) (g_jobs, g_machines, g_n, g_decisions, g_low, g_high, g_end, g_time, b_job, b_machine, b_dur, b_plan, b_first, b_second, b_heads, b_tails, b_prevs, b_seq, b_at, b_best, b_done, b_mark) := rl_mk rb rh ro rp
  obtain ⟨lo, hi, e1, e2, e3, e4, _⟩ := ro
  unfold wpX_upper wpY_upper
  exact ⟨e4.trans e3.symm, rl⟩
theorem i_vc_probe {k : Nat} {u : SX} {v : SY} (I : i_Rel k u v) (hk : k + 4 ≤ 2050) (v1 : Int32) : wpX_probe (fun r u' => wpY_probe (fun r' v' => r' = r ∧ i_Rel (k + 4) u' v') v v1) u v1 := by
  refine rl_el (P := fun u v => wpX_probe (fun r u' => wpY_probe (fun r' v' => r' = r ∧ i_Rel (k + 4) u' v') v v1) u v1) ?_ I
  intro f_jobs f_machines f_count f_depth f_lower f_upper f_planned f_planSpan f_criticalSet f_clock f_nodeBound f_found f_bestSpan a_jobOf a_machineOf a_duration a_trail a_planStart a_heads a_tails a_rest a_nodes a_best g_jobs g_machines g_n g_decisions g_low g_high g_end g_time b_job b_machine b_dur b_plan b_first b_second b_heads b_tails b_prevs b_seq b_at b_best b_done b_mark n nm nj dec J M D F S H T rb rh ro rp
  exact rv_probe v1 rb rh ro rp
theorem i_vc_orders {k : Nat} {u : SX} {v : SY} (I : i_Rel k u v) (hk : k + 4 ≤ 2050) (v1 : Int32) (v2 : Int32) (v3 : Int32) : wpX_orders (fun r u' => wpY_orders (fun r' v' => r' = r ∧ i_Rel (k + 4) u' v') v v1 v2 v3) u v1 v2 v3 := by
  refine rl_el (P := fun u v => wpX_orders (fun r u' => wpY_orders (fun r' v' => r' = r ∧ i_Rel (k + 4) u' v') v v1 v2 v3) u v1 v2 v3) ?_ I
  intro f_jobs f_machines f_count f_depth f_lower f_upper f_planned f_planSpan f_criticalSet f_clock f_nodeBound f_found f_bestSpan a_jobOf a_machineOf a_duration a_trail a_planStart a_heads a_tails a_rest a_nodes a_best g_jobs g_machines g_n g_decisions g_low g_high g_end g_time b_job b_machine b_dur b_plan b_first b_second b_heads b_tails b_prevs b_seq b_at b_best b_done b_mark n nm nj dec J M D F S H T rb rh ro rp
  exact rv_orders v1 v2 v3 rb rh ro rp
theorem i_vc_solve {k : Nat} {u : SX} {v : SY} (I : i_Rel k u v) (hk : k + 4 ≤ 2050) : wpX_solve (fun r u' => wpY_solve (fun r' v' => r' = r ∧ i_Rel (k + 4) u' v') v) u := by
  refine rl_el (P := fun u v => wpX_solve (fun r u' => wpY_solve (fun r' v' => r' = r ∧ i_Rel (k + 4) u' v') v) u) ?_ I
  intro f_jobs f_machines f_count f_depth f_lower f_upper f_planned f_planSpan f_criticalSet f_clock f_nodeBound f_found f_bestSpan a_jobOf a_machineOf a_duration a_trail a_planStart a_heads a_tails a_rest a_nodes a_best g_jobs g_machines g_n g_decisions g_low g_high g_end g_time b_job b_machine b_dur b_plan b_first b_second b_heads b_tails b_prevs b_seq b_at b_best b_done b_mark n nm nj dec J M D F S H T rb rh ro rp
  exact rv_solve rb rh ro
theorem i_vc_start {k : Nat} {u : SX} {v : SY} (I : i_Rel k u v) (hk : k + 4 ≤ 2050) (v1 : Int32) : wpX_start (fun r => wpY_start (fun r' => r' = r ∧ i_Rel (k + 4) u v) v v1) u v1 := by
  refine rl_el (P := fun u v => wpX_start (fun r => wpY_start (fun r' => r' = r ∧ i_Rel (k + 4) u v) v v1) u v1) ?_ I
  intro f_jobs f_machines f_count f_depth f_lower f_upper f_planned f_planSpan f_criticalSet f_clock f_nodeBound f_found f_bestSpan a_jobOf a_machineOf a_duration a_trail a_planStart a_heads a_tails a_rest a_nodes a_best g_jobs g_machines g_n g_decisions g_low g_high g_end g_time b_job b_machine b_dur b_plan b_first b_second b_heads b_tails b_prevs b_seq b_at b_best b_done b_mark n nm nj dec J M D F S H T rb rh ro rp
  exact rv_start v1 rb rh ro rp
theorem i_vc_critical {k : Nat} {u : SX} {v : SY} (I : i_Rel k u v) (hk : k + 4 ≤ 2050) (v1 : Int32) : wpX_critical (fun r => wpY_critical (fun r' v' => r' = r ∧ i_Rel (k + 4) u v') v v1) u v1 := by
  refine rl_el (P := fun u v => wpX_critical (fun r => wpY_critical (fun r' v' => r' = r ∧ i_Rel (k + 4) u v') v v1) u v1) ?_ I
  intro f_jobs f_machines f_count f_depth f_lower f_upper f_planned f_planSpan f_criticalSet f_clock f_nodeBound f_found f_bestSpan a_jobOf a_machineOf a_duration a_trail a_planStart a_heads a_tails a_rest a_nodes a_best g_jobs g_machines g_n g_decisions g_low g_high g_end g_time b_job b_machine b_dur b_plan b_first b_second b_heads b_tails b_prevs b_seq b_at b_best b_done b_mark n nm nj dec J M D F S H T rb rh ro rp
  exact rv_critical v1 rb rh ro rp
theorem i_vc_step {k : Nat} {u : SX} {v : SY} (I : i_Rel k u v) (hk : k + 4 ≤ 2050) : wpX_step (fun r u' => wpY_step (fun r' v' => r' = r ∧ i_Rel (k + 4) u' v') v) u := by
  refine rl_el (P := fun u v => wpX_step (fun r u' => wpY_step (fun r' v' => r' = r ∧ i_Rel (k + 4) u' v') v) u) ?_ I
  intro f_jobs f_machines f_count f_depth f_lower f_upper f_planned f_planSpan f_criticalSet f_clock f_nodeBound f_found f_bestSpan a_jobOf a_machineOf a_duration a_trail a_planStart a_heads a_tails a_rest a_nodes a_best g_jobs g_machines g_n g_decisions g_low g_high g_end g_time b_job b_machine b_dur b_plan b_first b_second b_heads b_tails b_prevs b_seq b_at b_best b_done b_mark n nm nj dec J M D F S H T rb rh ro rp
  exact rv_step rb rh ro rp
theorem i_vc_clock {k : Nat} {u : SX} {v : SY} (I : i_Rel k u v) (hk : k + 4 ≤ 2050) : wpX_clock (fun r => wpY_clock (fun r' => r' = r ∧ i_Rel (k + 4) u v) v) u := by
  refine rl_el (P := fun u v => wpX_clock (fun r => wpY_clock (fun r' => r' = r ∧ i_Rel (k + 4) u v) v) u) ?_ I
  intro f_jobs f_machines f_count f_depth f_lower f_upper f_planned f_planSpan f_criticalSet f_clock f_nodeBound f_found f_bestSpan a_jobOf a_machineOf a_duration a_trail a_planStart a_heads a_tails a_rest a_nodes a_best g_jobs g_machines g_n g_decisions g_low g_high g_end g_time b_job b_machine b_dur b_plan b_first b_second b_heads b_tails b_prevs b_seq b_at b_best b_done b_mark n nm nj dec J M D F S H T rb rh ro rp
  exact rv_clock rb rh ro rp
theorem i_vc_running {k : Nat} {u : SX} {v : SY} (I : i_Rel k u v) (hk : k + 4 ≤ 2050) (v1 : Int32) : wpX_running (fun r => wpY_running (fun r' => r' = r ∧ i_Rel (k + 4) u v) v v1) u v1 := by
  refine rl_el (P := fun u v => wpX_running (fun r => wpY_running (fun r' => r' = r ∧ i_Rel (k + 4) u v) v v1) u v1) ?_ I
  intro f_jobs f_machines f_count f_depth f_lower f_upper f_planned f_planSpan f_criticalSet f_clock f_nodeBound f_found f_bestSpan a_jobOf a_machineOf a_duration a_trail a_planStart a_heads a_tails a_rest a_nodes a_best g_jobs g_machines g_n g_decisions g_low g_high g_end g_time b_job b_machine b_dur b_plan b_first b_second b_heads b_tails b_prevs b_seq b_at b_best b_done b_mark n nm nj dec J M D F S H T rb rh ro rp
  exact rv_running v1 rb rh ro rp
end
