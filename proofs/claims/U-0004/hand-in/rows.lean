section
theorem pk_us {f : Nat → Int32} {k : Nat} {x : Int32} : upd f k x k = x := if_pos rfl
theorem pk_un {f : Nat → Int32} {k j : Nat} {x : Int32} (h : j ≠ k) : upd f k x j = f j := if_neg h
theorem pk_sub {a b : Nat} (h : b ≤ a) : nI a - nI b = nI (a - b) := by
  obtain ⟨c, rfl⟩ : ∃ c, a = c + b := ⟨a - b, by omega⟩
  rw [← nI_add, Int32.add_sub_cancel, Nat.add_sub_cancel]
theorem pk_m1 (n : Nat) : nI (n + 1) + (-1) = nI n := by
  rw [← nI_1, Int32.add_assoc, show (1 : Int32) + (-1) = 0 from rfl, Int32.add_zero]
theorem pk_mul (a b : Nat) : nI a * nI b = nI (a * b) := (Int32.ofNat_mul a b).symm
theorem pk_sub_toInt {a b : Nat} (ha : a < 2 ^ 30) (hb : b < 2 ^ 30) : (nI a - nI b).toInt = (a : Int) - b := by
  rw [Int32.toInt_sub, nI_toInt (by omega), nI_toInt (by omega)]
  exact Int.bmod_eq_of_le (by omega) (by omega)
theorem pk_sneg {a b : Nat} (hb : b < 2 ^ 30) (h : a < b) : nI a - nI b < 0 := by
  rw [Int32.lt_iff_toInt_lt, pk_sub_toInt (by omega) hb, show (0 : Int32).toInt = 0 from by decide]
  omega
theorem pk_ix (x : Int32) {n : Nat} (hn : n < 2 ^ 31) : x < 0 ∨ nI n ≤ x ∨ ∃ j : Nat, j < n ∧ x = nI j := by
  by_cases h : x < 0
  · exact Or.inl h
  · obtain ⟨j, hj, rfl⟩ := nI_of h
    by_cases h2 : j < n
    · exact Or.inr (Or.inr ⟨j, h2, rfl⟩)
    · exact Or.inr (Or.inl (nI_le (by omega) hj))
theorem pk_le {x y : Int32} {A B : Prop} (a b : Nat) (f : a ≤ b → A) (g : b < a → B) (hx : x = nI a := by rfl) (hy : y = nI b := by rfl) (ha : a < 2 ^ 31 := by omega) (hb : b < 2 ^ 31 := by omega) : (x ≤ y → A) ∧ (¬ x ≤ y → B) := by
  subst hx hy
  rw [nI_leI ha hb]
  exact ⟨f, fun z => g (by omega)⟩
theorem pk_lt {x y : Int32} {A B : Prop} (a b : Nat) (f : a < b → A) (g : b ≤ a → B) (hx : x = nI a := by rfl) (hy : y = nI b := by rfl) (ha : a < 2 ^ 31 := by omega) (hb : b < 2 ^ 31 := by omega) : (x < y → A) ∧ (¬ x < y → B) := by
  subst hx hy
  rw [nI_ltI ha hb]
  exact ⟨f, fun z => g (by omega)⟩
theorem pk_eq {x y : Int32} {A B : Prop} (a b : Nat) (f : a = b → A) (g : a ≠ b → B) (hx : x = nI a := by rfl) (hy : y = nI b := by rfl) (ha : a < 2 ^ 31 := by omega) (hb : b < 2 ^ 31 := by omega) : (x = y → A) ∧ (¬ x = y → B) := by
  subst hx hy
  rw [nI_eq ha hb]
  exact ⟨f, g⟩
theorem pk_in {x : Int32} (n N : Nat) (h : n < N) (hx : x = nI n := by rfl) (hN : N < 2 ^ 31 := by omega) : vp_in x N := by
  subst hx
  exact vp_in_nI h hN
theorem pk_cl {x : Int32} (n : Nat) (hx : x = nI n := by rfl) (h : n < 2 ^ 31 := by omega) : x.toNatClampNeg = n := by
  subst hx
  exact nI_clamp h
theorem pk_tn {n : Nat} (h : n < 2 ^ 32) : (nI n).toBitVec.toNat = n := Nat.mod_eq_of_lt h
theorem pk_and (x : Int32) {m : Int32} (k : Nat) (hm : m.toBitVec.toNat = 2 ^ k - 1) : x &&& m = nI (x.toBitVec.toNat % 2 ^ k) := by
  apply Int32.toBitVec_inj.mp
  apply BitVec.eq_of_toNat_eq
  rw [Int32.toBitVec_and, BitVec.toNat_and, hm, Nat.and_two_pow_sub_one_eq_mod]
  show _ = (BitVec.ofNat 32 _).toNat
  rw [BitVec.toNat_ofNat]
  exact (Nat.mod_eq_of_lt (Nat.lt_of_le_of_lt (Nat.mod_le _ _) x.toBitVec.isLt)).symm
theorem pk_andN {n : Nat} (h : n < 2 ^ 32) {m : Int32} (k : Nat) (hm : m.toBitVec.toNat = 2 ^ k - 1) : nI n &&& m = nI (n % 2 ^ k) := by
  rw [pk_and _ k hm, pk_tn h]
theorem pk_shl (a s : Int32) (k : Nat) (hs : (s.toBitVec.smod 32).toNat = k) : (a <<< s).toBitVec.toNat = a.toBitVec.toNat * 2 ^ k % 2 ^ 32 := by
  show (a.toBitVec <<< (s.toBitVec.smod 32).toNat).toNat = _
  rw [hs, BitVec.toNat_shiftLeft, Nat.shiftLeft_eq]
theorem pk_shlN {n : Nat} (s : Int32) (k : Nat) (hs : (s.toBitVec.smod 32).toNat = k) (h : n * 2 ^ k < 2 ^ 32) : nI n <<< s = nI (n * 2 ^ k) := by
  apply Int32.toBitVec_inj.mp
  apply BitVec.eq_of_toNat_eq
  have hn : n < 2 ^ 32 := Nat.lt_of_le_of_lt (Nat.le_mul_of_pos_right n (Nat.two_pow_pos k)) h
  rw [pk_shl _ _ k hs, pk_tn hn, pk_tn h, Nat.mod_eq_of_lt h]
theorem pk_shr (a s : Int32) (k : Nat) (hs : (s.toBitVec.smod 32).toNat = k) : (a >>> s).toInt = a.toInt >>> k := by
  show (a.toBitVec.sshiftRight (s.toBitVec.smod 32).toNat).toInt = _
  rw [hs, BitVec.toInt_sshiftRight]
  rfl
theorem pk_shrN {n : Nat} (h : n < 2 ^ 31) (s : Int32) (k : Nat) (hs : (s.toBitVec.smod 32).toNat = k) : nI n >>> s = nI (n / 2 ^ k) := by
  apply Int32.toInt_inj.mp
  have h2 : n / 2 ^ k ≤ n := Nat.div_le_self _ _
  rw [pk_shr _ _ k hs, nI_toInt h, nI_toInt (by omega), Int.shiftRight_eq_div_pow]
  rfl
theorem pk_loop {σ : Type} (W : Nat → Nat → σ → Prop) (I : Nat → σ → Prop) (e i0 : Nat) (s : σ) (hi : i0 ≤ e) (h0 : I i0 s) (hx : ∀ n s, I e s → W (n + 1) e s)
    (hs : ∀ n i s, i < e → I i s → (∀ s', I (i + 1) s' → W n (i + 1) s') → W (n + 1) i s) : ∃ n, W n i0 s :=
  ⟨e + 1, loop_i W I e hx hs (e + 1) i0 s hi (by omega) h0⟩
theorem pk_loopD {σ : Type} (W : Nat → Nat → σ → Prop) (I : Nat → σ → Prop) (hx : ∀ n s, I 0 s → W (n + 1) 0 s)
    (hs : ∀ n i s, I (i + 1) s → (∀ s', I i s' → W n i s') → W (n + 1) (i + 1) s) : ∀ (e : Nat) (s : σ), I e s → W (e + 1) e s := by
  intro e
  induction e with
  | zero => exact fun s h => hx 0 s h
  | succ e ih => exact fun s h => hs (e + 1) e s h (fun s' h' => ih s' h')
theorem pk_least (P : Nat → Prop) (h : ∃ k, P k) : ∃ k, P k ∧ ∀ j, j < k → ¬ P j := by
  obtain ⟨k, hk⟩ := h
  induction k using Nat.strongRecOn with
  | ind k ih =>
    by_cases e : ∃ j, j < k ∧ P j
    · obtain ⟨j, hj, pj⟩ := e
      exact ih j hj pj
    · exact ⟨k, hk, fun j hj pj => e ⟨j, hj, pj⟩⟩
theorem ek_if {c d A B : Prop} (e : c ↔ d) (f : d → A) (g : ¬ d → B) : (c → A) ∧ (¬ c → B) :=
  ⟨fun z => f (e.mp z), fun z => g (fun y => z (e.mpr y))⟩
theorem ek_v {α : Sort _} {P : α → Prop} {a b : α} (e : a = b) (h : P b) : P a := e ▸ h
theorem s_l : ∀ n, n < 32 → ((nI n &&& 31).toBitVec.smod 32).toNat = n := by decide +kernel
theorem nx_and (a b : Nat) : nI a &&& nI b = nI (a &&& b) := by
  apply Int32.toBitVec_inj.1
  show BitVec.ofNat 32 a &&& BitVec.ofNat 32 b = BitVec.ofNat 32 (a &&& b)
  apply BitVec.eq_of_getLsbD_eq
  intro i hi
  simp [hi]
end
section
/-! Int32 rows of our own: arrays of naturals, literals, shifts and bits -/
def za_n (f : Nat → Nat) : Nat → Int32 := fun i => nI (f i)
def za_u (f : Nat → Nat) (k v : Nat) : Nat → Nat := fun j => if j = k then v else f j
theorem za_us {f : Nat → Nat} {k v : Nat} : za_u f k v k = v := if_pos rfl
theorem za_un {f : Nat → Nat} {k v j : Nat} (h : j ≠ k) : za_u f k v j = f j := if_neg h
theorem za_ap (f : Nat → Nat) (i : Nat) : za_n f i = nI (f i) := rfl
theorem za_upd (f : Nat → Nat) (k v : Nat) : upd (za_n f) k (nI v) = za_n (za_u f k v) := by
  funext j
  unfold upd za_n za_u
  by_cases h : j = k
  · rw [if_pos h, if_pos h]
  · rw [if_neg h, if_neg h]
theorem za_zero : (fun _ => 0 : Nat → Int32) = za_n (fun _ => 0) := rfl
def za_b (b : Bool) : Int32 := if b then 1 else 0
theorem za_bt : za_b true = 1 := rfl
theorem za_bf : za_b false = 0 := rfl
theorem za_b0 (b : Bool) : za_b b = 0 ↔ b = false := by cases b <;> decide
theorem za_bn (b : Bool) : za_b b = nI b.toNat := by cases b <;> rfl
theorem za_lit (n : Nat) : (OfNat.ofNat n : Int32) = nI (OfNat.ofNat n) := rfl
theorem za_cl {n : Nat} (h : n < 2147483648) : (nI n).toNatClampNeg = n := nI_clamp h
theorem za_in {n N : Nat} (h : n < 2147483648) : vp_in (nI n) N ↔ n < N := by
  unfold vp_in
  rw [nI_clamp h]
  have := nI_pos (n := n) h
  constructor
  · intro z
    exact Nat.not_le.mp fun q => z (Or.inr q)
  · intro z q
    rcases q with q | q
    · exact this q
    · omega
theorem za_le {a b : Nat} (ha : a < 2147483648) (hb : b < 2147483648) : nI a ≤ nI b ↔ a ≤ b := nI_leI ha hb
theorem za_lt {a b : Nat} (ha : a < 2147483648) (hb : b < 2147483648) : nI a < nI b ↔ a < b := nI_ltI ha hb
theorem za_eq {a b : Nat} (ha : a < 2147483648) (hb : b < 2147483648) : nI a = nI b ↔ a = b := nI_eq ha hb
theorem za_add (a b : Nat) : nI a + nI b = nI (a + b) := nI_add a b
theorem za_mul (a b : Nat) : nI a * nI b = nI (a * b) := pk_mul a b
theorem za_sub {a b : Nat} (h : b ≤ a) : nI a - nI b = nI (a - b) := pk_sub h
theorem za_31 {k : Nat} (h : k < 32) : nI k &&& nI 31 = nI k := by
  have := pk_andN (n := k) (m := nI 31) (by omega) 5 (by decide)
  rw [this, Nat.mod_eq_of_lt (by omega)]
theorem za_1 {a : Nat} (h : a < 2147483648) : nI a &&& nI 1 = nI (a % 2) := pk_andN (n := a) (m := nI 1) (by omega) 1 (by decide)
theorem za_15 {a : Nat} (h : a < 2147483648) : nI a &&& nI 15 = nI (a % 16) := pk_andN (n := a) (m := nI 15) (by omega) 4 (by decide)
theorem za_511 {a : Nat} (h : a < 2147483648) : nI a &&& nI 511 = nI (a % 512) := pk_andN (n := a) (m := nI 511) (by omega) 9 (by decide)
theorem za_sl : ∀ n, n < 32 → ((nI n).toBitVec.smod 32).toNat = n := by decide +kernel
theorem za_shr {a k : Nat} (h : a < 2147483648) (hk : k < 32) : nI a >>> nI k = nI (a / 2 ^ k) := pk_shrN h (nI k) k (za_sl k hk)
theorem za_shl {a k : Nat} (h : a * 2 ^ k < 4294967296) (hk : k < 32) : nI a <<< nI k = nI (a * 2 ^ k) := pk_shlN (nI k) k (za_sl k hk) h
theorem za_p2 {a b : Nat} (h : a ≤ b) : 2 ^ a ≤ 2 ^ b := Nat.pow_le_pow_right (by decide) h
theorem za_shl1 {k : Nat} (hk : k < 31) : nI 1 <<< nI k = nI (2 ^ k) := by
  have : 2 ^ k ≤ 2 ^ 30 := za_p2 (by omega)
  rw [za_shl (by omega) (by omega), Nat.one_mul]
theorem za_shl2 {k : Nat} (hk : k < 30) : nI 2 <<< nI k = nI (2 ^ (k + 1)) := by
  have : 2 ^ k ≤ 2 ^ 29 := za_p2 (by omega)
  rw [za_shl (by omega) (by omega), Nat.pow_succ, Nat.mul_comm]
theorem za_or (a b : Nat) : nI a ||| nI b = nI (a ||| b) := by
  apply Int32.toBitVec_inj.1
  show BitVec.ofNat 32 a ||| BitVec.ofNat 32 b = BitVec.ofNat 32 (a ||| b)
  apply BitVec.eq_of_getLsbD_eq
  intro i hi
  simp [hi]
theorem za_tb (m p : Nat) : m / 2 ^ p % 2 = 0 ↔ m.testBit p = false := by
  rw [Nat.testBit_eq_decide_div_mod_eq, decide_eq_false_iff_not]
  generalize m / 2 ^ p = z
  omega
theorem za_tb1 (m p : Nat) : m / 2 ^ p % 2 = 1 ↔ m.testBit p = true := by
  rw [Nat.testBit_eq_decide_div_mod_eq, decide_eq_true_iff]
theorem za_dl (m p : Nat) (h : m < 2147483648) : m / 2 ^ p < 2147483648 := Nat.lt_of_le_of_lt (Nat.div_le_self _ _) h
/-- one bit of a word, as the print asks for it -/
theorem za_bit {m p : Nat} (h : m < 2147483648) (hp : p < 32) : (((nI m >>> (nI p &&& 31)) &&& 1) = 0) ↔ m.testBit p = false := by
  have e : (nI m >>> (nI p &&& 31)) &&& 1 = nI (m / 2 ^ p % 2) := by
    show (nI m >>> (nI p &&& nI 31)) &&& nI 1 = _
    rw [za_31 hp, za_shr h hp, za_1 (za_dl m p h)]
  rw [e, ← za_tb]
  show nI _ = nI 0 ↔ _
  rw [za_eq (by omega) (by omega)]
theorem za_ng {x : Nat} (h : x < 2147483648) : ¬ nI x < 0 := nI_pos h
theorem za_tt (P Q : Prop) (h : P) : ((P → Q) ∧ (¬ P → False)) ↔ Q := ⟨fun z => z.1 h, fun z => ⟨fun _ => z, fun n => n h⟩⟩
/-- a branch by an equivalence of the condition -/
theorem za_br {c d A B : Prop} (e : c ↔ d) (f : d → A) (g : ¬ d → B) : (c → A) ∧ (¬ c → B) := ⟨fun z => f (e.mp z), fun z => g (fun y => z (e.mpr y))⟩
theorem za_br0 {x : Bool} {c A B : Prop} (e : c ↔ x = false) (f : x = false → A) (g : x = true → B) : (c → A) ∧ (¬ c → B) :=
  ⟨fun z => f (e.mp z), fun z => g (by cases x with | true => rfl | false => exact absurd (e.mpr rfl) z)⟩
theorem za_brb {x : Bool} {A B : Prop} (f : x = false → A) (g : x = true → B) : (za_b x = 0 → A) ∧ (¬ za_b x = 0 → B) := za_br0 (za_b0 x) f g
theorem za_mo {A B : Prop} {P Q : Prop} (h : A → B) (z : (P → A) ∧ (Q → A)) : (P → B) ∧ (Q → B) := ⟨fun p => h (z.1 p), fun q => h (z.2 q)⟩
theorem za_or16 {a b : Nat} (ha : a < 65536) (hb : b < 65536) : a ||| b < 65536 := Nat.or_lt_two_pow (n := 16) ha hb
theorem za_nz {m : Nat} : (¬ m = 0) → ∃ p, m.testBit p = true := fun h => Nat.exists_testBit_of_ne_zero h
theorem za_hi {m p k : Nat} (h : m < 2 ^ k) (hp : k ≤ p) : m.testBit p = false := Nat.testBit_lt_two_pow (Nat.lt_of_lt_of_le h (za_p2 hp))
theorem za_nb0 : vp_nar .boolean 0 = 0 := rfl
theorem za_nb1 : vp_nar .boolean 1 = 1 := rfl
theorem za_nbb (b : Bool) : narrow .boolean (.int (za_b b)) = .int (za_b b) := by cases b <;> rfl
end
section
/-! words as codes: a one, then the letters -/
def zc_tl (w k : Nat) : Nat := 2 ^ k + w % 2 ^ k
theorem zc_pp (k : Nat) : 0 < 2 ^ k := Nat.two_pow_pos k
theorem zc_tl0 (w : Nat) : zc_tl w 0 = 1 := by simp [zc_tl, Nat.mod_one]
theorem zc_tl_pos (w k : Nat) : 1 ≤ zc_tl w k := by have := zc_pp k; unfold zc_tl; omega
theorem zc_tl_ge (w k : Nat) : 2 ^ k ≤ zc_tl w k := Nat.le_add_right _ _
theorem zc_tl_lt (w k : Nat) : zc_tl w k < 2 ^ (k + 1) := by
  have := Nat.mod_lt w (zc_pp k)
  unfold zc_tl
  rw [Nat.pow_succ]
  omega
theorem zc_mod2 (w m : Nat) (hm : 0 < m) : w % (m * 2) = 2 * (w / 2 % m) + w % 2 := by
  rw [Nat.mul_comm m 2, Nat.mod_mul]
  omega
theorem zc_div (w k : Nat) : w / 2 ^ (k + 1) = w / 2 / 2 ^ k := by
  rw [Nat.pow_succ, Nat.mul_comm, Nat.div_div_eq_div_mul]
theorem zc_tlS (w k : Nat) : zc_tl w (k + 1) = 2 * zc_tl (w / 2) k + w % 2 := by
  unfold zc_tl
  rw [Nat.pow_succ, zc_mod2 w _ (zc_pp k)]
  omega
theorem zc_tl_half (w k : Nat) : zc_tl w (k + 1) / 2 = zc_tl (w / 2) k := by
  rw [zc_tlS]
  omega
theorem zc_tl_par (w k : Nat) : zc_tl w (k + 1) % 2 = w % 2 := by
  rw [zc_tlS]
  omega
theorem zc_tl_div (b : Nat) : ∀ (V a : Nat), zc_tl V (a + b) / 2 ^ b = zc_tl (V / 2 ^ b) a := by
  induction b with
  | zero => intro V a; simp
  | succ b ih =>
    intro V a
    rw [zc_div, ← Nat.add_assoc, zc_tl_half, ih, zc_div]
theorem zc_tl_tl (b : Nat) : ∀ (V a : Nat), zc_tl (zc_tl V (a + b)) b = zc_tl V b := by
  induction b with
  | zero => intro V a; rw [zc_tl0, zc_tl0]
  | succ b ih =>
    intro V a
    rw [zc_tlS, ← Nat.add_assoc, zc_tl_half, zc_tl_par, ih, ← zc_tlS]
theorem zc_split (w k : Nat) : w = w / 2 ^ k * 2 ^ k + w % 2 ^ k := by
  rw [Nat.mul_comm]
  exact (Nat.div_add_mod w (2 ^ k)).symm
theorem zc_tl_lt_w {w k : Nat} (h : 2 ≤ w / 2 ^ k) : zc_tl w k < w := by
  have e := zc_split w k
  have h2 : 2 * 2 ^ k ≤ w / 2 ^ k * 2 ^ k := Nat.mul_le_mul_right _ h
  have := zc_pp k
  unfold zc_tl
  omega
theorem zc_tl_eq_w {w k : Nat} (h : w / 2 ^ k = 1) : zc_tl w k = w := by
  have e := zc_split w k
  rw [h, Nat.one_mul] at e
  unfold zc_tl
  omega
theorem zc_tl_le_w {w k : Nat} (h : 1 ≤ w / 2 ^ k) : zc_tl w k ≤ w := by
  rcases Nat.lt_or_ge 1 (w / 2 ^ k) with z | z
  · exact Nat.le_of_lt (zc_tl_lt_w z)
  · exact Nat.le_of_eq (zc_tl_eq_w (by omega))
theorem zc_tl_one {w k : Nat} : zc_tl w k = 1 ↔ k = 0 := by
  constructor
  · intro h
    rcases Nat.eq_zero_or_pos k with z | z
    · exact z
    · have := zc_tl_ge w k
      have : 2 ^ 1 ≤ 2 ^ k := za_p2 z
      omega
  · rintro rfl
    exact zc_tl0 w
/-- letters i .. j-1 of the word W of n letters -/
def zc_sub (W n i j : Nat) : Nat := zc_tl (W / 2 ^ (n - j)) (j - i)
theorem zc_sub_ge (W n i j : Nat) : 2 ^ (j - i) ≤ zc_sub W n i j := zc_tl_ge _ _
theorem zc_sub_lt (W n i j : Nat) : zc_sub W n i j < 2 ^ (j - i + 1) := zc_tl_lt _ _
theorem zc_sub_pos (W n i j : Nat) : 1 ≤ zc_sub W n i j := zc_tl_pos _ _
theorem zc_sub_ii (W n i : Nat) : zc_sub W n i i = 1 := by unfold zc_sub; rw [Nat.sub_self, zc_tl0]
theorem zc_sub_one {W n i j : Nat} (h : i ≤ j) : zc_sub W n i j = 1 ↔ i = j := by
  unfold zc_sub
  rw [zc_tl_one]
  omega
theorem zc_sub_div {W n i m j : Nat} (h1 : i ≤ m) (h2 : m ≤ j) (h3 : j ≤ n) : zc_sub W n i j / 2 ^ (j - m) = zc_sub W n i m := by
  unfold zc_sub
  have e : j - i = (m - i) + (j - m) := by omega
  rw [e, zc_tl_div, Nat.div_div_eq_div_mul, ← Nat.pow_add, show n - j + (j - m) = n - m by omega]
theorem zc_sub_tl {W n i m j : Nat} (h1 : i ≤ m) (h2 : m ≤ j) : zc_tl (zc_sub W n i j) (j - m) = zc_sub W n m j := by
  unfold zc_sub
  have e : j - i = (m - i) + (j - m) := by omega
  rw [e, zc_tl_tl]
theorem zc_sub_big {W n i j k : Nat} (h : j - i < k) : zc_sub W n i j / 2 ^ k = 0 :=
  Nat.div_eq_of_lt (Nat.lt_of_lt_of_le (zc_sub_lt W n i j) (za_p2 h))
theorem zc_sub_all {W n : Nat} (h1 : 2 ^ n ≤ W) (h2 : W < 2 ^ (n + 1)) : zc_sub W n 0 n = W := by
  unfold zc_sub
  rw [Nat.sub_self, Nat.pow_zero, Nat.div_one, Nat.sub_zero]
  apply zc_tl_eq_w
  rw [Nat.pow_succ] at h2
  have := zc_pp n
  apply Nat.le_antisymm
  · have : W / 2 ^ n < 2 := Nat.div_lt_of_lt_mul (by omega)
    omega
  · exact (Nat.le_div_iff_mul_le (zc_pp n)).mpr (by omega)
theorem zc_sub_le {W n i j L : Nat} (h : j ≤ L) : zc_sub W n i j < 2 ^ (L + 1) :=
  Nat.lt_of_lt_of_le (zc_sub_lt W n i j) (za_p2 (by omega))
/-- every code has a length -/
theorem zc_len (w : Nat) (h : 1 ≤ w) : ∃ n, 2 ^ n ≤ w ∧ w < 2 ^ (n + 1) := by
  induction w using Nat.strongRecOn with
  | ind w ih =>
    rcases Nat.lt_or_ge w 2 with z | z
    · exact ⟨0, by simp; omega, by simp; omega⟩
    · obtain ⟨n, h1, h2⟩ := ih (w / 2) (by omega) (by omega)
      refine ⟨n + 1, ?_, ?_⟩
      · rw [Nat.pow_succ]; omega
      · rw [Nat.pow_succ]; omega
theorem zc_len_u {w a b : Nat} (h1 : 2 ^ a ≤ w) (h2 : w < 2 ^ (a + 1)) (h3 : 2 ^ b ≤ w) (h4 : w < 2 ^ (b + 1)) : a = b := by
  have x1 : a < b + 1 := (Nat.pow_lt_pow_iff_right (by decide : 1 < 2)).mp (Nat.lt_of_le_of_lt h1 h4)
  have x2 : b < a + 1 := (Nat.pow_lt_pow_iff_right (by decide : 1 < 2)).mp (Nat.lt_of_le_of_lt h3 h2)
  omega
theorem zc_div_pos {w n k : Nat} (h1 : 2 ^ n ≤ w) (hk : k ≤ n) : 1 ≤ w / 2 ^ k :=
  (Nat.le_div_iff_mul_le (zc_pp k)).mpr (by rw [Nat.one_mul]; exact Nat.le_trans (za_p2 hk) h1)
theorem zc_div_zero {w n k : Nat} (h2 : w < 2 ^ (n + 1)) (hk : n < k) : w / 2 ^ k = 0 :=
  Nat.div_eq_of_lt (Nat.lt_of_lt_of_le h2 (za_p2 hk))
/-! least of a set, counts of ways -/
def zm_M (v : Nat) (S : Nat → Prop) : Prop := (∀ w, S w → v ≠ 0 ∧ v ≤ w) ∧ (v ≠ 0 → S v)
theorem zm_uniq {a b : Nat} {S : Nat → Prop} (ha : zm_M a S) (hb : zm_M b S) : a = b := by
  by_cases h : a = 0
  · by_cases h2 : b = 0
    · omega
    · exact absurd h (ha.1 b (hb.2 h2)).1
  · have x := hb.1 a (ha.2 h)
    have y := ha.1 b (hb.2 x.1)
    omega
theorem zm_cg {a : Nat} {S T : Nat → Prop} (ha : zm_M a S) (h : ∀ w, S w ↔ T w) : zm_M a T :=
  ⟨fun w hw => ha.1 w ((h w).mpr hw), fun z => (h a).mp (ha.2 z)⟩
theorem zm_dn {a : Nat} {S T : Nat → Prop} (ha : zm_M a S) (h1 : ∀ w, S w → T w) (h2 : ∀ w, T w → ∃ v, S v ∧ v ≤ w) : zm_M a T :=
  ⟨fun w hw => by
    obtain ⟨v, hv, hl⟩ := h2 w hw
    have := ha.1 v hv
    omega, fun z => h1 a (ha.2 z)⟩
theorem zm_0 {S : Nat → Prop} (h : ∀ w, ¬ S w) : zm_M 0 S := ⟨fun w hw => absurd hw (h w), fun z => absurd rfl z⟩
theorem zm_add {v r : Nat} {S R : Nat → Prop} (hv : zm_M v S) (hr : zm_M r R) (h0 : r ≠ 0) : zm_M (if v = 0 ∨ r < v then r else v) (fun w => S w ∨ R w) := by
  by_cases c : v = 0 ∨ r < v
  · rw [if_pos c]
    refine ⟨fun w hw => ?_, fun _ => Or.inr (hr.2 h0)⟩
    rcases hw with z | z
    · have := hv.1 w z
      omega
    · exact hr.1 w z
  · rw [if_neg c]
    refine ⟨fun w hw => ?_, fun z => Or.inl (hv.2 z)⟩
    rcases hw with z | z
    · exact hv.1 w z
    · have := hr.1 w z
      omega
def zm_sum (b : Nat → Nat) : Nat → Nat
  | 0 => 0
  | n + 1 => zm_sum b n + b n
theorem zm_sum1 (b : Nat → Nat) (n : Nat) : 1 ≤ zm_sum b n ↔ ∃ k, k < n ∧ 1 ≤ b k := by
  induction n with
  | zero =>
    constructor
    · intro h; exact absurd h (show ¬ 1 ≤ 0 by decide)
    · rintro ⟨k, h, _⟩; omega
  | succ n ih =>
    have e : zm_sum b (n + 1) = zm_sum b n + b n := rfl
    constructor
    · intro h
      by_cases z : 1 ≤ b n
      · exact ⟨n, by omega, z⟩
      · obtain ⟨k, hk, hb⟩ := ih.mp (by omega)
        exact ⟨k, by omega, hb⟩
    · rintro ⟨k, hk, hb⟩
      by_cases z : k = n
      · subst z; omega
      · have := ih.mpr ⟨k, by omega, hb⟩
        omega
theorem zm_sum2 (b : Nat → Nat) (n : Nat) : 2 ≤ zm_sum b n ↔ (∃ k, k < n ∧ 2 ≤ b k) ∨ ∃ k l, k < n ∧ l < n ∧ k ≠ l ∧ 1 ≤ b k ∧ 1 ≤ b l := by
  induction n with
  | zero =>
    constructor
    · intro h; exact absurd h (show ¬ 2 ≤ 0 by decide)
    · rintro (⟨k, h, _⟩ | ⟨k, l, h, _⟩) <;> omega
  | succ n ih =>
    have e : zm_sum b (n + 1) = zm_sum b n + b n := rfl
    constructor
    · intro h
      by_cases z : 2 ≤ b n
      · exact Or.inl ⟨n, by omega, z⟩
      · by_cases z1 : 1 ≤ b n
        · obtain ⟨k, hk, hb⟩ := (zm_sum1 b n).mp (by omega)
          exact Or.inr ⟨k, n, by omega, by omega, by omega, hb, z1⟩
        · rcases ih.mp (by omega) with ⟨k, hk, hb⟩ | ⟨k, l, hk, hl, hn, h1, h2⟩
          · exact Or.inl ⟨k, by omega, hb⟩
          · exact Or.inr ⟨k, l, by omega, by omega, hn, h1, h2⟩
    · rintro (⟨k, hk, hb⟩ | ⟨k, l, hk, hl, hn, h1, h2⟩)
      · by_cases z : k = n
        · subst z; omega
        · have := ih.mpr (Or.inl ⟨k, by omega, hb⟩)
          omega
      · by_cases z : k = n
        · subst z
          have := (zm_sum1 b k).mpr ⟨l, by omega, h2⟩
          omega
        · by_cases z2 : l = n
          · subst z2
            have := (zm_sum1 b l).mpr ⟨k, by omega, h1⟩
            omega
          · have := ih.mpr (Or.inr ⟨k, l, by omega, by omega, hn, h1, h2⟩)
            omega
def zm_C {α : Type} (n : Nat) (P : α → Prop) : Prop := (1 ≤ n ↔ ∃ h, P h) ∧ (2 ≤ n ↔ ∃ h g, h ≠ g ∧ P h ∧ P g)
theorem zm_Ctr {α β : Type} {n : Nat} {V : α → Prop} {P : β → Prop} (H : α → β → Prop) (c : zm_C n V)
    (h1 : ∀ h, P h → ∃ k, V k ∧ H k h) (h2 : ∀ k, V k → ∃ h, P h ∧ H k h)
    (h3 : ∀ k l h, H k h → H l h → k = l) (h4 : ∀ k h g, P h → P g → H k h → H k g → h = g) : zm_C n P := by
  refine ⟨c.1.trans ⟨fun ⟨k, hk⟩ => ?_, fun ⟨h, hh⟩ => ?_⟩, c.2.trans ⟨fun ⟨k, l, hn, hk, hl⟩ => ?_, fun ⟨h, g, hn, hh, hg⟩ => ?_⟩⟩
  · obtain ⟨h, hh, _⟩ := h2 k hk
    exact ⟨h, hh⟩
  · obtain ⟨k, hk, _⟩ := h1 h hh
    exact ⟨k, hk⟩
  · obtain ⟨h, hh, e1⟩ := h2 k hk
    obtain ⟨g, hg, e2⟩ := h2 l hl
    exact ⟨h, g, fun e => hn (h3 k l h e1 (e ▸ e2)), hh, hg⟩
  · obtain ⟨k, hk, e1⟩ := h1 h hh
    obtain ⟨l, hl, e2⟩ := h1 g hg
    exact ⟨k, l, fun e => hn (h4 k h g hh hg e1 (e ▸ e2)), hk, hl⟩
theorem zm_Csum (n : Nat) (b : Nat → Nat) (V : Nat → Prop) (h01 : ∀ k, k < n → (b k = 1 ∧ V k) ∨ (b k = 0 ∧ ¬ V k)) (hV : ∀ k, V k → k < n) : zm_C (zm_sum b n) V := by
  constructor
  · rw [zm_sum1]
    constructor
    · rintro ⟨k, hk, h⟩
      rcases h01 k hk with z | z
      · exact ⟨k, z.2⟩
      · omega
    · rintro ⟨k, h⟩
      refine ⟨k, hV k h, ?_⟩
      rcases h01 k (hV k h) with z | z
      · omega
      · exact absurd h z.2
  · rw [zm_sum2]
    constructor
    · rintro (⟨k, hk, h⟩ | ⟨k, l, hk, hl, hn, h1, h2⟩)
      · rcases h01 k hk with z | z <;> omega
      · refine ⟨k, l, hn, ?_, ?_⟩
        · rcases h01 k hk with z | z
          · exact z.2
          · omega
        · rcases h01 l hl with z | z
          · exact z.2
          · omega
    · rintro ⟨k, l, hn, h1, h2⟩
      refine Or.inr ⟨k, l, hV k h1, hV l h2, hn, ?_, ?_⟩
      · rcases h01 k (hV k h1) with z | z
        · omega
        · exact absurd h1 z.2
      · rcases h01 l (hV l h2) with z | z
        · omega
        · exact absurd h2 z.2
end
section
/-! runs of a position automaton, with the history of crossings (latest step first); 16 is the start -/
def zr_S (E : Bool → Nat → Nat → Prop) (lb : Nat → Nat → Prop) : List Bool → Nat → Nat → Prop
  | [], w, q => w = 1 ∧ q = 16
  | b :: h, w, q => lb q (w % 2) ∧ ∃ p, zr_S E lb h (w / 2) p ∧ E b p q
def zr_f (n : Nat) : List Bool := List.replicate n false
theorem zr_fS (n : Nat) : zr_f (n + 1) = false :: zr_f n := rfl
theorem zr_fl (n : Nat) : (zr_f n).length = n := List.length_replicate
theorem zr_fA : ∀ n, zr_f n ++ [false] = zr_f (n + 1)
  | 0 => rfl
  | n + 1 => by
    rw [zr_fS n, List.cons_append, zr_fA n]
    rfl
theorem zr_len {E : Bool → Nat → Nat → Prop} {lb : Nat → Nat → Prop} : ∀ {h : List Bool} {w q : Nat}, zr_S E lb h w q → 2 ^ h.length ≤ w ∧ w < 2 ^ (h.length + 1)
  | [], w, q, z => by
    have e : w = 1 := z.1
    subst e
    decide
  | b :: h, w, q, z => by
    obtain ⟨_, p, hp, _⟩ := z
    have x := zr_len hp
    rw [List.length_cons, Nat.pow_succ, Nat.pow_succ, Nat.pow_succ]
    rw [Nat.pow_succ] at x
    omega
theorem zr_len_eq {E E' : Bool → Nat → Nat → Prop} {lb lb' : Nat → Nat → Prop} {h g : List Bool} {w q r : Nat} (x : zr_S E lb h w q) (y : zr_S E' lb' g w r) : h.length = g.length :=
  zc_len_u (zr_len x).1 (zr_len x).2 (zr_len y).1 (zr_len y).2
theorem zr_mono {E E' : Bool → Nat → Nat → Prop} {lb : Nat → Nat → Prop} (he : ∀ b p q, E b p q → E' b p q) : ∀ {h : List Bool} {w q : Nat}, zr_S E lb h w q → zr_S E' lb h w q
  | [], _, _, z => z
  | _ :: _, _, _, ⟨l, p, hp, e⟩ => ⟨l, p, zr_mono he hp, he _ _ _ e⟩
def zr_G (I : Nat → Prop) (fo : Nat → Nat → Prop) (p q : Nat) : Prop := (p = 16 ∧ I q) ∨ (p ≠ 16 ∧ fo p q)
def zr_D (nu : Prop) (la : Nat → Prop) (p : Nat) : Prop := (p = 16 ∧ nu) ∨ (p ≠ 16 ∧ la p)
def zr_E (G K : Nat → Nat → Prop) : Bool → Nat → Nat → Prop
  | false => G
  | true => K
/-- the language: runs without a crossing that end where D holds -/
def zr_L (G : Nat → Nat → Prop) (lb : Nat → Nat → Prop) (D : Nat → Prop) (w : Nat) : Prop := ∃ n p, zr_S (fun _ => G) lb (zr_f n) w p ∧ D p
theorem zr_fr {G K : Nat → Nat → Prop} {lb : Nat → Nat → Prop} : ∀ {n w q : Nat}, zr_S (zr_E G K) lb (zr_f n) w q ↔ zr_S (fun _ => G) lb (zr_f n) w q
  | 0, _, _ => Iff.rfl
  | n + 1, w, q => by
    constructor
    · rintro ⟨l, p, hp, e⟩
      exact ⟨l, p, zr_fr.mp hp, e⟩
    · rintro ⟨l, p, hp, e⟩
      exact ⟨l, p, zr_fr.mpr hp, e⟩
theorem zr_any {G' G K : Nat → Nat → Prop} {lb : Nat → Nat → Prop} (hg : ∀ p q, G' p q ↔ G p q ∨ K p q) : ∀ {n w q : Nat}, zr_S (fun _ => G') lb (zr_f n) w q ↔ ∃ h, h.length = n ∧ zr_S (zr_E G K) lb h w q
  | 0, w, q => by
    constructor
    · intro z
      exact ⟨[], rfl, z⟩
    · rintro ⟨h, hl, z⟩
      cases h with
      | nil => exact z
      | cons b h => cases hl
  | n + 1, w, q => by
    constructor
    · rintro ⟨l, p, hp, e⟩
      obtain ⟨h, hl, z⟩ := (zr_any hg).mp hp
      rcases (hg p q).mp e with y | y
      · exact ⟨false :: h, by rw [List.length_cons, hl], l, p, z, y⟩
      · exact ⟨true :: h, by rw [List.length_cons, hl], l, p, z, y⟩
    · rintro ⟨h, hl, z⟩
      cases h with
      | nil => cases hl
      | cons b h =>
        obtain ⟨l, p, hp, e⟩ := z
        refine ⟨l, p, (zr_any hg).mpr ⟨h, by rw [List.length_cons] at hl; omega, hp⟩, (hg p q).mpr ?_⟩
        cases b with
        | false => exact Or.inl e
        | true => exact Or.inr e
theorem zr_L0 {G : Nat → Nat → Prop} {lb : Nat → Nat → Prop} {D : Nat → Prop} : ¬ zr_L G lb D 0 := by
  rintro ⟨n, p, h, _⟩
  have := (zr_len h).1
  have := zc_pp (zr_f n).length
  omega
theorem zr_L1 {G : Nat → Nat → Prop} {lb : Nat → Nat → Prop} {nu : Prop} {la : Nat → Prop} : zr_L G lb (zr_D nu la) 1 ↔ nu := by
  constructor
  · rintro ⟨n, p, h, d⟩
    cases n with
    | zero =>
      have e : p = 16 := h.2
      rcases d with d | d
      · exact d.2
      · exact absurd e d.1
    | succ n =>
      have x := (zr_len h).1
      rw [zr_fl, Nat.pow_succ] at x
      have := zc_pp n
      omega
  · intro h
    exact ⟨0, 16, ⟨rfl, rfl⟩, Or.inl ⟨rfl, h⟩⟩
/-- a nonempty run stays where the edges lead -/
theorem zr_pos {E : Bool → Nat → Nat → Prop} {lb : Nat → Nat → Prop} {P : Nat → Prop} (h0 : ∀ b q, E b 16 q → P q) (hs : ∀ b p q, P p → E b p q → P q) : ∀ {h : List Bool} {b : Bool} {w q : Nat}, zr_S E lb (b :: h) w q → P q
  | [], b, w, q, ⟨_, p, hp, e⟩ => h0 b q (hp.2 ▸ e)
  | c :: h, b, w, q, ⟨_, p, hp, e⟩ => hs b p q (zr_pos h0 hs hp) e
theorem zr_ne {E : Bool → Nat → Nat → Prop} {lb : Nat → Nat → Prop} (hl : ∀ q c, lb q c → q < 16) {h : List Bool} {b : Bool} {w q : Nat} (z : zr_S E lb (b :: h) w q) : q ≠ 16 := by
  have := hl q _ z.1
  omega
theorem zr_ne2 {E : Bool → Nat → Nat → Prop} {lb : Nat → Nat → Prop} (hl : ∀ q c, lb q c → q < 16) {h : List Bool} {w q : Nat} (z : zr_S E lb h w q) (h0 : h ≠ []) : q ≠ 16 := by
  cases h with
  | nil => exact absurd rfl h0
  | cons b h => exact zr_ne hl z
/-- the first crossing cuts the run -/
theorem zr_cross {G K G2 : Nat → Nat → Prop} {lb : Nat → Nat → Prop} {D X : Nat → Prop} (hl : ∀ q c, lb q c → q < 16) (hx : ∀ p q, K p q ↔ D p ∧ X q)
    (h2 : ∀ p q, p ≠ 16 → (G2 p q ↔ G p q)) (h3 : ∀ q, G2 16 q ↔ X q) (j : Nat) :
    ∀ (g : List Bool) (w q : Nat), zr_S (zr_E G K) lb (g ++ true :: zr_f j) w q ↔ (∃ p, zr_S (fun _ => G) lb (zr_f j) (w / 2 ^ (g.length + 1)) p ∧ D p) ∧ zr_S (zr_E G2 K) lb (g ++ [false]) (zc_tl w (g.length + 1)) q
  | [], w, q => by
    show (lb q (w % 2) ∧ ∃ p, zr_S (zr_E G K) lb (zr_f j) (w / 2) p ∧ K p q) ↔ (∃ p, zr_S (fun _ => G) lb (zr_f j) (w / 2 ^ (0 + 1)) p ∧ D p) ∧ (lb q (zc_tl w (0 + 1) % 2) ∧ ∃ p, (zc_tl w (0 + 1) / 2 = 1 ∧ p = 16) ∧ G2 p q)
    rw [zc_tl_par, zc_tl_half, zc_tl0, Nat.zero_add, Nat.pow_one]
    constructor
    · rintro ⟨l, p, hp, e⟩
      have e' := (hx p q).mp e
      exact ⟨⟨p, zr_fr.mp hp, e'.1⟩, l, 16, ⟨rfl, rfl⟩, (h3 q).mpr e'.2⟩
    · rintro ⟨⟨p, hp, d⟩, l, r, ⟨_, hr⟩, e⟩
      subst hr
      exact ⟨l, p, zr_fr.mpr hp, (hx p q).mpr ⟨d, (h3 q).mp e⟩⟩
  | b :: g, w, q => by
    have ih := zr_cross hl hx h2 h3 j g (w / 2)
    have key : ∀ p, zr_S (zr_E G2 K) lb (g ++ [false]) (zc_tl (w / 2) (g.length + 1)) p → (zr_E G K b p q ↔ zr_E G2 K b p q) := by
      intro p hp
      have hne : p ≠ 16 := zr_ne2 hl hp (by simp)
      cases b with
      | false => exact (h2 p q hne).symm
      | true => exact Iff.rfl
    show (lb q (w % 2) ∧ ∃ p, zr_S (zr_E G K) lb (g ++ true :: zr_f j) (w / 2) p ∧ zr_E G K b p q) ↔ (∃ p, zr_S (fun _ => G) lb (zr_f j) (w / 2 ^ (g.length + 1 + 1)) p ∧ D p) ∧ (lb q (zc_tl w (g.length + 1 + 1) % 2) ∧ ∃ p, zr_S (zr_E G2 K) lb (g ++ [false]) (zc_tl w (g.length + 1 + 1) / 2) p ∧ zr_E G2 K b p q)
    rw [zc_tl_par, zc_tl_half, zc_div w (g.length + 1)]
    constructor
    · rintro ⟨l, p, hp, e⟩
      have y := (ih p).mp hp
      exact ⟨y.1, l, p, y.2, (key p y.2).mp e⟩
    · rintro ⟨a, l, p, hp, e⟩
      exact ⟨l, p, (ih p).mpr ⟨a, hp⟩, (key p hp).mpr e⟩
/-- behind the crossing nothing crosses again -/
theorem zr_after {G2 K : Nat → Nat → Prop} {lb : Nat → Nat → Prop} {D X P : Nat → Prop} (hx : ∀ p q, K p q → D p) (hD : ∀ p, P p → ¬ D p) (h0 : ∀ q, G2 16 q → P q) (hs : ∀ p q, P p → G2 p q → P q) :
    ∀ (g : List Bool) (w q : Nat), zr_S (zr_E G2 K) lb (g ++ [false]) w q → (g = zr_f g.length ∧ zr_S (fun _ => G2) lb (zr_f (g.length + 1)) w q ∧ P q)
  | [], w, q, z => by
    obtain ⟨l, p, hp, e⟩ := z
    have hp' : w / 2 = 1 ∧ p = 16 := hp
    obtain ⟨hw, rfl⟩ := hp'
    exact ⟨rfl, ⟨l, 16, ⟨hw, rfl⟩, e⟩, h0 q e⟩
  | b :: g, w, q, z => by
    obtain ⟨l, p, hp, e⟩ := z
    obtain ⟨i1, i2, i3⟩ := zr_after (X := X) hx hD h0 hs g (w / 2) p hp
    cases b with
    | true => exact absurd (hx p q e) (hD p i3)
    | false =>
      refine ⟨?_, ⟨l, p, i2, e⟩, hs p q i3 e⟩
      rw [List.length_cons, zr_fS, ← i1]
theorem zr_into {G2 K : Nat → Nat → Prop} {lb : Nat → Nat → Prop} {n w q : Nat} (z : zr_S (fun _ => G2) lb (zr_f (n + 1)) w q) : zr_S (zr_E G2 K) lb (zr_f n ++ [false]) w q := by
  rw [zr_fA]
  exact zr_fr.mpr z
/-- every history is plain, or has a first crossing -/
theorem zr_dich : ∀ h : List Bool, h = zr_f h.length ∨ ∃ g j, h = g ++ true :: zr_f j
  | [] => Or.inl rfl
  | b :: h => by
    rcases zr_dich h with e | ⟨g, j, e⟩
    · cases b with
      | false => left; rw [List.length_cons, zr_fS, ← e]
      | true => right; exact ⟨[], h.length, by rw [List.nil_append, ← e]⟩
    · right
      exact ⟨b :: g, j, by rw [e, List.cons_append]⟩
theorem zr_nf : ∀ (n : Nat) (g : List Bool) (j : Nat), zr_f n ≠ g ++ true :: zr_f j
  | 0, [], j, e => by cases e
  | 0, b :: g, j, e => by cases e
  | n + 1, [], j, e => by
    rw [zr_fS, List.nil_append] at e
    injection e with e1 _
    cases e1
  | n + 1, b :: g, j, e => by
    rw [zr_fS, List.cons_append] at e
    injection e with _ e2
    exact zr_nf n g j e2
theorem zr_uq : ∀ (g g' : List Bool) (j j' : Nat), g ++ true :: zr_f j = g' ++ true :: zr_f j' → g = g' ∧ j = j'
  | [], [], j, j', e => by
    rw [List.nil_append, List.nil_append] at e
    injection e with _ e2
    have := congrArg List.length e2
    rw [zr_fl, zr_fl] at this
    exact ⟨rfl, this⟩
  | [], b :: g', j, j', e => by
    rw [List.nil_append, List.cons_append] at e
    injection e with _ e2
    exact absurd e2 (zr_nf j g' j')
  | b :: g, [], j, j', e => by
    rw [List.nil_append, List.cons_append] at e
    injection e with _ e2
    exact absurd e2.symm (zr_nf j' g j)
  | b :: g, b' :: g', j, j', e => by
    rw [List.cons_append, List.cons_append] at e
    injection e with e1 e2
    have := zr_uq g g' j j' e2
    exact ⟨by rw [e1, this.1], this.2⟩
/-- accepted with this history -/
def zr_F (E : Bool → Nat → Nat → Prop) (lb : Nat → Nat → Prop) (A : Nat → Prop) (h : List Bool) (w : Nat) : Prop := ∃ q, A q ∧ zr_S E lb h w q
theorem zr_F_len {E : Bool → Nat → Nat → Prop} {lb : Nat → Nat → Prop} {A : Nat → Prop} {h g : List Bool} {w : Nat} (x : zr_F E lb A h w) (y : zr_F E lb A g w) : h.length = g.length := by
  obtain ⟨_, _, x⟩ := x
  obtain ⟨_, _, y⟩ := y
  exact zr_len_eq x y
theorem zr_F_1 {E : Bool → Nat → Nat → Prop} {lb : Nat → Nat → Prop} {A : Nat → Prop} {h : List Bool} {w : Nat} (x : zr_F E lb A h w) (hw : 2 ≤ w) : 1 ≤ h.length := by
  obtain ⟨q, _, x⟩ := x
  rcases Nat.eq_zero_or_pos h.length with z | z
  · have := (zr_len x).2
    rw [z] at this
    simp at this
    omega
  · exact z
/-- the joined automaton's language: some history -/
theorem zr_LF {G' G K : Nat → Nat → Prop} {lb : Nat → Nat → Prop} {A : Nat → Prop} {nu : Prop} (hl : ∀ q c, lb q c → q < 16) (hg : ∀ p q, G' p q ↔ G p q ∨ K p q) {w : Nat} (hw : 2 ≤ w) :
    zr_L G' lb (zr_D nu A) w ↔ ∃ h, zr_F (zr_E G K) lb A h w := by
  have h16 : ∀ (E : Bool → Nat → Nat → Prop) (h : List Bool) (p : Nat), zr_S E lb h w p → p ≠ 16 := by
    intro E h p z
    apply zr_ne2 hl z
    intro e
    subst e
    have := z.1
    omega
  constructor
  · rintro ⟨n, p, hp, d⟩
    obtain ⟨h, _, z⟩ := (zr_any hg).mp hp
    rcases d with d | d
    · exact absurd d.1 (h16 _ _ _ z)
    · exact ⟨h, p, d.2, z⟩
  · rintro ⟨h, q, a, z⟩
    exact ⟨h.length, q, (zr_any hg).mpr ⟨h, rfl, z⟩, Or.inr ⟨h16 _ _ _ z, a⟩⟩
/-! a language depends on its own positions alone -/
theorem zr_cg {E E' : Bool → Nat → Nat → Prop} {lb lb' : Nat → Nat → Prop} {P : Nat → Prop} (h0 : ∀ b q, E b 16 q → P q) (hs : ∀ b p q, P p → E b p q → P q)
    (e0 : ∀ b q, E b 16 q → E' b 16 q) (e1 : ∀ b p q, P p → E b p q → E' b p q) (e2 : ∀ q c, P q → lb q c → lb' q c) :
    ∀ {h : List Bool} {w q : Nat}, zr_S E lb h w q → zr_S E' lb' h w q
  | [], _, _, z => z
  | [b], w, q, ⟨l, p, hp, e⟩ => by
    have hp' : w / 2 = 1 ∧ p = 16 := hp
    obtain ⟨hw, rfl⟩ := hp'
    exact ⟨e2 q _ (h0 b q e) l, 16, ⟨hw, rfl⟩, e0 b q e⟩
  | b :: c :: h, w, q, ⟨l, p, hp, e⟩ => by
    have pp := zr_pos (P := P) h0 hs hp
    exact ⟨e2 q _ (hs b p q pp e) l, p, zr_cg h0 hs e0 e1 e2 hp, e1 b p q pp e⟩
/-! pairs of runs on one word -/
def zr_P (E : Bool → Nat → Nat → Prop) (lb : Nat → Nat → Prop) (f : Bool) (w p q : Nat) : Prop :=
  ∃ h g, zr_S E lb h w p ∧ zr_S E lb g w q ∧ (f = true ↔ h ≠ g)
theorem zr_P0 {E : Bool → Nat → Nat → Prop} {lb : Nat → Nat → Prop} {f : Bool} {w p q : Nat} (hw : w = 1) : zr_P E lb f w p q ↔ f = false ∧ p = 16 ∧ q = 16 := by
  subst hw
  have n0 : ∀ (h : List Bool) (r : Nat), zr_S E lb h 1 r → h = [] := by
    intro h r z
    cases h with
    | nil => rfl
    | cons b h =>
      have := (zr_len z).1
      rw [List.length_cons, Nat.pow_succ] at this
      have := zc_pp h.length
      omega
  constructor
  · rintro ⟨h, g, a, b, c⟩
    have e1 := n0 h p a
    have e2 := n0 g q b
    subst e1 e2
    refine ⟨?_, a.2, b.2⟩
    cases f with
    | false => rfl
    | true => exact absurd rfl (c.mp rfl)
  · rintro ⟨rfl, rfl, rfl⟩
    exact ⟨[], [], ⟨rfl, rfl⟩, ⟨rfl, rfl⟩, by simp⟩
theorem zr_PS {E : Bool → Nat → Nat → Prop} {lb : Nat → Nat → Prop} {f : Bool} {w p q : Nat} (hw : 2 ≤ w) :
    zr_P E lb f w p q ↔ lb p (w % 2) ∧ lb q (w % 2) ∧ ∃ f' p' q' b c, zr_P E lb f' (w / 2) p' q' ∧ E b p' p ∧ E c q' q ∧ f = (f' || (b != c)) := by
  constructor
  · rintro ⟨h, g, x, y, z⟩
    cases h with
    | nil => have := x.1; omega
    | cons b h =>
      cases g with
      | nil => have := y.1; omega
      | cons c g =>
        obtain ⟨l1, p', x', e1⟩ := x
        obtain ⟨l2, q', y', e2⟩ := y
        by_cases hg : h = g
        · refine ⟨l1, l2, false, p', q', b, c, ⟨h, g, x', y', by simp [hg]⟩, e1, e2, ?_⟩
          subst hg
          cases b <;> cases c <;> cases f <;> simp_all
        · refine ⟨l1, l2, true, p', q', b, c, ⟨h, g, x', y', by simp [hg]⟩, e1, e2, ?_⟩
          have : f = true := z.mpr (by intro e; injection e with _ e; exact hg e)
          rw [this]
          rfl
  · rintro ⟨l1, l2, f', p', q', b, c, ⟨h, g, x, y, z⟩, e1, e2, ef⟩
    refine ⟨b :: h, c :: g, ⟨l1, p', x, e1⟩, ⟨l2, q', y, e2⟩, ?_⟩
    subst ef
    by_cases hg : h = g
    · have : f' = false := by
        cases f' with
        | false => rfl
        | true => exact absurd hg (z.mp rfl)
      subst this hg
      cases b <;> cases c <;> simp
    · have : f' = true := z.mpr hg
      subst this
      simp [hg]
theorem zr_PF {E : Bool → Nat → Nat → Prop} {lb : Nat → Nat → Prop} {A : Nat → Prop} {w : Nat} :
    (∃ p q, A p ∧ A q ∧ zr_P E lb true w p q) ↔ ∃ h g, h ≠ g ∧ zr_F E lb A h w ∧ zr_F E lb A g w := by
  constructor
  · rintro ⟨p, q, ap, aq, h, g, x, y, z⟩
    exact ⟨h, g, z.mp rfl, ⟨p, ap, x⟩, ⟨q, aq, y⟩⟩
  · rintro ⟨h, g, hn, ⟨p, ap, x⟩, ⟨q, aq, y⟩⟩
    exact ⟨p, q, ap, aq, h, g, x, y, by simp [hn]⟩
end
section
/-! the three ways to make a language, and their counts of ways -/
theorem zw_G16 {I : Nat → Prop} {fo : Nat → Nat → Prop} (q : Nat) : zr_G I fo 16 q ↔ I q := by
  constructor
  · rintro (h | h)
    · exact h.2
    · exact absurd rfl h.1
  · intro h
    exact Or.inl ⟨rfl, h⟩
theorem zw_Gn {I : Nat → Prop} {fo : Nat → Nat → Prop} {p : Nat} (hp : p ≠ 16) (q : Nat) : zr_G I fo p q ↔ fo p q := by
  constructor
  · rintro (h | h)
    · exact absurd h.1 hp
    · exact h.2
  · intro h
    exact Or.inr ⟨hp, h⟩
theorem zw_Dn {nu : Prop} {la : Nat → Prop} {p : Nat} (hp : p ≠ 16) : zr_D nu la p ↔ la p := by
  constructor
  · rintro (h | h)
    · exact absurd h.1 hp
    · exact h.2
  · intro h
    exact Or.inr ⟨hp, h⟩
theorem zw_D16 {nu : Prop} {la : Nat → Prop} : zr_D nu la 16 ↔ nu := by
  constructor
  · rintro (h | h)
    · exact h.2
    · exact absurd rfl h.1
  · intro h
    exact Or.inl ⟨rfl, h⟩
/-- the positions of a part: closed, and not the start -/
def zw_Cl (I : Nat → Prop) (fo : Nat → Nat → Prop) (la : Nat → Prop) (P : Nat → Prop) : Prop :=
  (∀ q, I q → P q) ∧ (∀ p q, P p → fo p q → P q) ∧ (∀ q, la q → P q) ∧ (∀ q, P q → q < 16)
theorem zw_Cl0 {I : Nat → Prop} {fo : Nat → Nat → Prop} {la P : Nat → Prop} (c : zw_Cl I fo la P) (q : Nat) (h : zr_G I fo 16 q) : P q := c.1 q ((zw_G16 q).mp h)
theorem zw_Cl1 {I : Nat → Prop} {fo : Nat → Nat → Prop} {la P : Nat → Prop} (c : zw_Cl I fo la P) (p q : Nat) (hp : P p) (h : zr_G I fo p q) : P q := by
  have := c.2.2.2 p hp
  exact c.2.1 p q hp ((zw_Gn (by omega) q).mp h)
theorem zw_pos {I : Nat → Prop} {fo lb : Nat → Nat → Prop} {la P : Nat → Prop} (c : zw_Cl I fo la P) {n w q : Nat} (z : zr_S (fun _ => zr_G I fo) lb (zr_f (n + 1)) w q) : P q :=
  zr_pos (P := P) (fun _ q h => zw_Cl0 c q h) (fun _ p q hp h => zw_Cl1 c p q hp h) (h := zr_f n) (b := false) z
theorem zw_n1 {E : Bool → Nat → Nat → Prop} {lb : Nat → Nat → Prop} {n w q : Nat} (hw : 2 ≤ w) (z : zr_S E lb (zr_f n) w q) : ∃ m, n = m + 1 := by
  cases n with
  | zero => have := z.1; omega
  | succ m => exact ⟨m, rfl⟩
theorem zw_k9 {G : Nat → Nat → Prop} {lb : Nat → Nat → Prop} {D : Nat → Prop} {w k : Nat} (hw : w < 512) (h : zr_L G lb D (w / 2 ^ k)) : k < 9 := by
  rcases Nat.lt_or_ge k 9 with z | z
  · exact z
  · have e : w / 2 ^ k = 0 := Nat.div_eq_of_lt (Nat.lt_of_lt_of_le hw (za_p2 z))
    rw [e] at h
    exact absurd h zr_L0
theorem zw_len {E : Bool → Nat → Nat → Prop} {lb : Nat → Nat → Prop} {w k q : Nat} {h : List Bool} (z : zr_S E lb h (zc_tl w k) q) : h.length = k :=
  zc_len_u (zr_len z).1 (zr_len z).2 (zc_tl_ge w k) (zc_tl_lt w k)
def zw_H (k : Nat) (h : List Bool) : Prop := (k = 0 ∧ h = zr_f h.length) ∨ (1 ≤ k ∧ ∃ j, h = zr_f (k - 1) ++ true :: zr_f j)
theorem zw_H3 (k l : Nat) (h : List Bool) (x : zw_H k h) (y : zw_H l h) : k = l := by
  rcases x with ⟨x0, x1⟩ | ⟨x0, j, x1⟩
  · rcases y with ⟨y0, y1⟩ | ⟨y0, i, y1⟩
    · omega
    · exact absurd (x1.symm.trans y1) (zr_nf _ _ _)
  · rcases y with ⟨y0, y1⟩ | ⟨y0, i, y1⟩
    · exact absurd (y1.symm.trans x1) (zr_nf _ _ _)
    · have e := (zr_uq _ _ _ _ (x1.symm.trans y1)).1
      have := congrArg List.length e
      rw [zr_fl, zr_fl] at this
      omega
theorem zw_H4 (k : Nat) (h g : List Bool) (hl : h.length = g.length) (x : zw_H k h) (y : zw_H k g) : h = g := by
  rcases x with ⟨x0, x1⟩ | ⟨x0, j, x1⟩
  · rcases y with ⟨y0, y1⟩ | ⟨y0, i, y1⟩
    · rw [x1, y1, hl]
    · omega
  · rcases y with ⟨y0, y1⟩ | ⟨y0, i, y1⟩
    · omega
    · have : j = i := by
        rw [x1, y1, List.length_append, List.length_append, List.length_cons, List.length_cons, zr_fl, zr_fl, zr_fl] at hl
        omega
      rw [x1, y1, this]
theorem zw_cat {Ia Ib laA laB A PA PB : Nat → Prop} {fo lb K : Nat → Nat → Prop} {nuA nuB : Prop} (hl : ∀ q c, lb q c → q < 16)
    (cA : zw_Cl Ia fo laA PA) (cB : zw_Cl Ib fo laB PB) (dj : ∀ q, PA q → PB q → False)
    (hK : ∀ p q, K p q ↔ zr_D nuA laA p ∧ Ib q) (hA : ∀ q, A q ↔ laB q ∨ (nuB ∧ laA q)) {w : Nat} (h2 : 2 ≤ w) (h9 : w < 512) {b : Nat → Nat}
    (hb : ∀ k, k < 9 → (b k = 1 ∧ (zr_L (zr_G Ia fo) lb (zr_D nuA laA) (w / 2 ^ k) ∧ zr_L (zr_G Ib fo) lb (zr_D nuB laB) (zc_tl w k))) ∨ (b k = 0 ∧ ¬ (zr_L (zr_G Ia fo) lb (zr_D nuA laA) (w / 2 ^ k) ∧ zr_L (zr_G Ib fo) lb (zr_D nuB laB) (zc_tl w k)))) :
    zm_C (zm_sum b 9) (fun h => zr_F (zr_E (zr_G Ia fo) K) lb A h w) := by
  have cr := fun g j w q => zr_cross (G := zr_G Ia fo) (K := K) (G2 := zr_G Ib fo) (X := Ib) hl hK (fun p q hp => by rw [zw_Gn hp, zw_Gn hp]) (fun q => zw_G16 q) j g w q
  have notD : ∀ p, PB p → ¬ zr_D nuA laA p := by
    intro p hp d
    have := cB.2.2.2 p hp
    exact dj p (cA.2.2.1 p ((zw_Dn (by omega)).mp d)) hp
  refine zm_Ctr zw_H (zm_Csum 9 b _ hb (fun k hk => zw_k9 h9 hk.1)) ?_ ?_ zw_H3 (fun k h g x y => zw_H4 k h g (zr_F_len x y))
  · rintro h ⟨q, a, z⟩
    rcases zr_dich h with e | ⟨g, j, e⟩
    · rw [e] at z
      have z' := zr_fr.mp z
      obtain ⟨m, em⟩ := zw_n1 h2 z'
      rw [em] at z'
      have pq := zw_pos cA z'
      have hq := cA.2.2.2 q pq
      refine ⟨0, ⟨?_, ?_⟩, Or.inl ⟨rfl, e⟩⟩
      · rw [Nat.pow_zero, Nat.div_one]
        rcases (hA q).mp a with y | y
        · exact absurd (cB.2.2.1 q y) (dj q pq)
        · exact ⟨m + 1, q, z', (zw_Dn (by omega)).mpr y.2⟩
      · rw [zc_tl0]
        rcases (hA q).mp a with y | y
        · exact absurd (cB.2.2.1 q y) (dj q pq)
        · exact zr_L1.mpr y.1
    · rw [e] at z
      obtain ⟨⟨p, hp, d⟩, z2⟩ := (cr g j w q).mp z
      obtain ⟨e1, z3, pq⟩ := zr_after (X := Ib) (P := PB) (D := zr_D nuA laA) (fun p q x => ((hK p q).mp x).1) notD (zw_Cl0 cB) (zw_Cl1 cB) g _ q z2
      have hq := cB.2.2.2 q pq
      refine ⟨g.length + 1, ⟨⟨j, p, hp, d⟩, ⟨g.length + 1, q, z3, (zw_Dn (by omega)).mpr ?_⟩⟩, Or.inr ⟨by omega, j, ?_⟩⟩
      · rcases (hA q).mp a with y | y
        · exact y
        · exact absurd pq (dj q (cA.2.2.1 q y.2))
      · rw [Nat.add_sub_cancel, ← e1]
        exact e
  · rintro k ⟨x, y⟩
    rcases Nat.eq_zero_or_pos k with k0 | k0
    · subst k0
      rw [Nat.pow_zero, Nat.div_one] at x
      rw [zc_tl0] at y
      obtain ⟨n, p, z, d⟩ := x
      obtain ⟨m, em⟩ := zw_n1 h2 z
      rw [em] at z
      have pq := zw_pos cA z
      have hq := cA.2.2.2 p pq
      refine ⟨zr_f (m + 1), ⟨p, (hA p).mpr (Or.inr ⟨zr_L1.mp y, (zw_Dn (by omega)).mp d⟩), zr_fr.mpr z⟩, Or.inl ⟨rfl, by rw [zr_fl]⟩⟩
    · obtain ⟨j, p, z, d⟩ := x
      obtain ⟨m, q, z2, d2⟩ := y
      have em : m = k := by
        have := zw_len z2
        rw [zr_fl] at this
        exact this
      subst em
      obtain ⟨m', rfl⟩ : ∃ m', m = m' + 1 := ⟨m - 1, by omega⟩
      have pq := zw_pos cB z2
      have hq := cB.2.2.2 q pq
      have z3 := zr_into (K := K) z2
      refine ⟨zr_f m' ++ true :: zr_f j, ⟨q, (hA q).mpr (Or.inl ((zw_Dn (by omega)).mp d2)), (cr (zr_f m') j w q).mpr ?_⟩, Or.inr ⟨by omega, j, by rw [Nat.add_sub_cancel]⟩⟩
      rw [zr_fl]
      exact ⟨⟨p, z, d⟩, z3⟩
theorem zw_uni {Ia Ib laA laB A PA PB : Nat → Prop} {fo lb K : Nat → Nat → Prop} {nuA nuB : Prop} (hl : ∀ q c, lb q c → q < 16)
    (cA : zw_Cl Ia fo laA PA) (cB : zw_Cl Ib fo laB PB) (dj : ∀ q, PA q → PB q → False)
    (hK : ∀ p q, K p q ↔ p = 16 ∧ Ib q) (hA : ∀ q, A q ↔ laA q ∨ laB q) {w : Nat} (h2 : 2 ≤ w) {b : Nat → Nat}
    (hb : ∀ k, k < 2 → (b k = 1 ∧ ((k = 0 ∧ zr_L (zr_G Ia fo) lb (zr_D nuA laA) w) ∨ (k = 1 ∧ zr_L (zr_G Ib fo) lb (zr_D nuB laB) w))) ∨ (b k = 0 ∧ ¬ ((k = 0 ∧ zr_L (zr_G Ia fo) lb (zr_D nuA laA) w) ∨ (k = 1 ∧ zr_L (zr_G Ib fo) lb (zr_D nuB laB) w)))) :
    zm_C (zm_sum b 2) (fun h => zr_F (zr_E (zr_G Ia fo) K) lb A h w) := by
  have cr := fun g j w q => zr_cross (G := zr_G Ia fo) (K := K) (G2 := zr_G Ib fo) (D := fun p => p = 16) (X := Ib) hl hK (fun p q hp => by rw [zw_Gn hp, zw_Gn hp]) (fun q => zw_G16 q) j g w q
  have notD : ∀ p, PB p → ¬ p = 16 := by
    intro p hp d
    have := cB.2.2.2 p hp
    omega
  refine zm_Ctr (fun k h => (k = 0 ∧ h = zr_f h.length) ∨ (k = 1 ∧ h = zr_f (h.length - 1) ++ true :: zr_f 0)) (zm_Csum 2 b _ hb (fun k hk => by omega)) ?_ ?_ ?_ ?_
  · rintro h ⟨q, a, z⟩
    rcases zr_dich h with e | ⟨g, j, e⟩
    · rw [e] at z
      have z' := zr_fr.mp z
      obtain ⟨m, em⟩ := zw_n1 h2 z'
      rw [em] at z'
      have pq := zw_pos cA z'
      have hq := cA.2.2.2 q pq
      refine ⟨0, Or.inl ⟨rfl, m + 1, q, z', (zw_Dn (by omega)).mpr ?_⟩, Or.inl ⟨rfl, e⟩⟩
      rcases (hA q).mp a with y | y
      · exact y
      · exact absurd (cB.2.2.1 q y) (dj q pq)
    · rw [e] at z
      obtain ⟨⟨p, hp, d⟩, z2⟩ := (cr g j w q).mp z
      obtain ⟨e1, z3, pq⟩ := zr_after (X := Ib) (P := PB) (D := fun p => p = 16) (fun p q x => ((hK p q).mp x).1) notD (zw_Cl0 cB) (zw_Cl1 cB) g _ q z2
      have hq := cB.2.2.2 q pq
      have j0 : j = 0 := by
        cases j with
        | zero => rfl
        | succ j => exact absurd d (zr_ne hl (h := zr_f j) (b := false) hp)
      subst j0
      have hw : w / 2 ^ (g.length + 1) = 1 := hp.1
      rw [zc_tl_eq_w hw] at z3
      refine ⟨1, Or.inr ⟨rfl, g.length + 1, q, z3, (zw_Dn (by omega)).mpr ?_⟩, Or.inr ⟨rfl, ?_⟩⟩
      · rcases (hA q).mp a with y | y
        · exact absurd pq (dj q (cA.2.2.1 q y))
        · exact y
      · have el : h.length - 1 = g.length := by rw [e, List.length_append, List.length_cons, zr_fl]; omega
        rw [el, ← e1]
        exact e
  · rintro k (⟨k0, n, p, z, d⟩ | ⟨k0, n, p, z, d⟩)
    · obtain ⟨m, em⟩ := zw_n1 h2 z
      rw [em] at z
      have pq := zw_pos cA z
      have hq := cA.2.2.2 p pq
      exact ⟨zr_f (m + 1), ⟨p, (hA p).mpr (Or.inl ((zw_Dn (by omega)).mp d)), zr_fr.mpr z⟩, Or.inl ⟨k0, by rw [zr_fl]⟩⟩
    · obtain ⟨m, em⟩ := zw_n1 h2 z
      rw [em] at z
      have pq := zw_pos cB z
      have hq := cB.2.2.2 p pq
      have z3 := zr_into (K := K) z
      have x := zr_len z
      rw [zr_fl] at x
      have hw : w / 2 ^ (m + 1) = 1 := by
        apply Nat.le_antisymm
        · have h3 := x.2
          rw [Nat.pow_succ] at h3
          have : w / 2 ^ (m + 1) < 2 := Nat.div_lt_of_lt_mul (by omega)
          omega
        · exact zc_div_pos x.1 (Nat.le_refl _)
      refine ⟨zr_f m ++ true :: zr_f 0, ⟨p, (hA p).mpr (Or.inr ((zw_Dn (by omega)).mp d)), (cr (zr_f m) 0 w p).mpr ?_⟩, Or.inr ⟨k0, ?_⟩⟩
      · rw [zr_fl, zc_tl_eq_w hw]
        exact ⟨⟨16, ⟨hw, rfl⟩, rfl⟩, z3⟩
      · rw [List.length_append, List.length_cons, zr_fl, zr_fl]
        rfl
  · intro k l h x y
    rcases x with ⟨x0, x1⟩ | ⟨x0, x1⟩
    · rcases y with ⟨y0, y1⟩ | ⟨y0, y1⟩
      · omega
      · exact absurd (x1.symm.trans y1) (zr_nf _ _ _)
    · rcases y with ⟨y0, y1⟩ | ⟨y0, y1⟩
      · exact absurd (y1.symm.trans x1) (zr_nf _ _ _)
      · omega
  · intro k h g ph pg x y
    have hlen := zr_F_len ph pg
    rcases x with ⟨x0, x1⟩ | ⟨x0, x1⟩
    · rcases y with ⟨y0, y1⟩ | ⟨y0, y1⟩
      · rw [x1, y1, hlen]
      · omega
    · rcases y with ⟨y0, y1⟩ | ⟨y0, y1⟩
      · omega
      · rw [x1, y1, hlen]
theorem zm_CsumD {β : Type} (n : Nat) (b : Nat → Nat) (P : Nat → β → Prop) (h : ∀ k, k < n → zm_C (b k) (P k)) : zm_C (zm_sum b n) (fun x : Nat × β => x.1 < n ∧ P x.1 x.2) := by
  constructor
  · rw [zm_sum1]
    constructor
    · rintro ⟨k, hk, hb⟩
      obtain ⟨y, hy⟩ := (h k hk).1.mp hb
      exact ⟨(k, y), hk, hy⟩
    · rintro ⟨⟨k, y⟩, hk, hy⟩
      exact ⟨k, hk, (h k hk).1.mpr ⟨y, hy⟩⟩
  · rw [zm_sum2]
    constructor
    · rintro (⟨k, hk, hb⟩ | ⟨k, l, hk, hl, hn, h1, h2⟩)
      · obtain ⟨y, z, hn, hy, hz⟩ := (h k hk).2.mp hb
        exact ⟨(k, y), (k, z), fun e => hn (congrArg Prod.snd e), ⟨hk, hy⟩, ⟨hk, hz⟩⟩
      · obtain ⟨y, hy⟩ := (h k hk).1.mp h1
        obtain ⟨z, hz⟩ := (h l hl).1.mp h2
        exact ⟨(k, y), (l, z), fun e => hn (congrArg Prod.fst e), ⟨hk, hy⟩, ⟨hl, hz⟩⟩
    · rintro ⟨⟨k, y⟩, ⟨l, z⟩, hn, ⟨hk, hy⟩, ⟨hl, hz⟩⟩
      by_cases e : k = l
      · subst e
        exact Or.inl ⟨k, hk, (h k hk).2.mpr ⟨y, z, fun e => hn (by rw [e]), hy, hz⟩⟩
      · exact Or.inr ⟨k, l, hk, hl, e, (h k hk).1.mpr ⟨y, hy⟩, (h l hl).1.mpr ⟨z, hz⟩⟩
theorem zw_sta {I la P : Nat → Prop} {fo lb K : Nat → Nat → Prop} (hl : ∀ q c, lb q c → q < 16)
    (cA : zw_Cl I fo la P) (hK : ∀ p q, K p q ↔ zr_D False la p ∧ I q) {N : Nat} (hN : N ≤ 512) {ways : Nat → Nat} (h1 : ways 1 = 1)
    (hw : ∀ w, 2 ≤ w → w < N → ∃ b, ways w = zm_sum b 9 ∧ ∀ k, k < 9 → (zr_L (zr_G I fo) lb (zr_D False la) (w / 2 ^ k) → b k = ways (zc_tl w k)) ∧ (¬ zr_L (zr_G I fo) lb (zr_D False la) (w / 2 ^ k) → b k = 0)) :
    ∀ w, 2 ≤ w → w < N → zm_C (ways w) (fun h => zr_F (zr_E (zr_G I fo) K) lb la h w) := by
  have cr := fun g j w q => zr_cross (G := zr_G I fo) (K := K) (G2 := zr_G I fo) (X := I) hl hK (fun p q hp => Iff.rfl) (fun q => zw_G16 q) j g w q
  intro w
  induction w using Nat.strongRecOn with
  | ind w ih =>
    intro hw2 hwN
    obtain ⟨b, eb, hb⟩ := hw w hw2 hwN
    rw [eb]
    let PP : Nat → List Bool → Prop := fun k h' => zr_L (zr_G I fo) lb (zr_D False la) (w / 2 ^ k) ∧ ((k = 0 ∧ h' = []) ∨ (1 ≤ k ∧ zr_F (zr_E (zr_G I fo) K) lb la h' (zc_tl w k)))
    have hP : ∀ k, k < 9 → zm_C (b k) (PP k) := by
      intro k hk
      by_cases hL : zr_L (zr_G I fo) lb (zr_D False la) (w / 2 ^ k)
      · rw [(hb k hk).1 hL]
        rcases Nat.eq_zero_or_pos k with k0 | k0
        · subst k0
          rw [zc_tl0, h1]
          constructor
          · exact ⟨fun _ => ⟨[], hL, Or.inl ⟨rfl, rfl⟩⟩, fun _ => Nat.le_refl 1⟩
          · constructor
            · intro z; omega
            · rintro ⟨x, y, hn, ⟨_, hx⟩, ⟨_, hy⟩⟩
              rcases hx with hx | hx
              · rcases hy with hy | hy
                · exact absurd (hx.2.trans hy.2.symm) hn
                · omega
              · omega
        · have q2 : 2 ≤ w / 2 ^ k := by
            rcases Nat.lt_or_ge (w / 2 ^ k) 2 with z | z
            · rcases Nat.eq_zero_or_pos (w / 2 ^ k) with y | y
              · rw [y] at hL
                exact absurd hL zr_L0
              · have : w / 2 ^ k = 1 := by omega
                rw [this] at hL
                exact absurd (zr_L1.mp hL) id
            · exact z
          have t2 : 2 ≤ zc_tl w k := by
            have := zc_tl_ge w k
            have : 2 ^ 1 ≤ 2 ^ k := za_p2 k0
            omega
          have lt := zc_tl_lt_w q2
          have c := ih (zc_tl w k) lt t2 (by omega)
          constructor
          · rw [c.1]
            constructor
            · rintro ⟨h, z⟩
              exact ⟨h, hL, Or.inr ⟨k0, z⟩⟩
            · rintro ⟨h, _, z⟩
              rcases z with z | z
              · omega
              · exact ⟨h, z.2⟩
          · rw [c.2]
            constructor
            · rintro ⟨h, g, hn, z1, z2⟩
              exact ⟨h, g, hn, ⟨hL, Or.inr ⟨k0, z1⟩⟩, ⟨hL, Or.inr ⟨k0, z2⟩⟩⟩
            · rintro ⟨h, g, hn, ⟨_, z1⟩, ⟨_, z2⟩⟩
              rcases z1 with z1 | z1
              · omega
              · rcases z2 with z2 | z2
                · omega
                · exact ⟨h, g, hn, z1.2, z2.2⟩
      · rw [(hb k hk).2 hL]
        constructor
        · exact ⟨fun z => absurd z (by decide), fun ⟨_, z⟩ => absurd z.1 hL⟩
        · exact ⟨fun z => absurd z (by decide), fun ⟨_, _, _, z, _⟩ => absurd z.1 hL⟩
    refine zm_Ctr (fun (x : Nat × List Bool) (h : List Bool) => (x.1 = 0 ∧ x.2 = [] ∧ h = zr_f h.length) ∨ (1 ≤ x.1 ∧ ∃ g j, x.2 = g ++ [false] ∧ h = g ++ true :: zr_f j ∧ g.length + 1 = x.1)) (zm_CsumD 9 b PP hP) ?_ ?_ ?_ ?_
    · rintro h ⟨q, a, z⟩
      rcases zr_dich h with e | ⟨g, j, e⟩
      · rw [e] at z
        have z' := zr_fr.mp z
        obtain ⟨m, em⟩ := zw_n1 hw2 z'
        rw [em] at z'
        have pq := zw_pos cA z'
        have hq := cA.2.2.2 q pq
        refine ⟨(0, []), ⟨by decide, ?_, Or.inl ⟨rfl, rfl⟩⟩, Or.inl ⟨rfl, rfl, e⟩⟩
        show zr_L (zr_G I fo) lb (zr_D False la) (w / 2 ^ 0)
        rw [Nat.pow_zero, Nat.div_one]
        exact ⟨m + 1, q, z', (zw_Dn (by omega)).mpr a⟩
      · rw [e] at z
        obtain ⟨⟨p, hp, d⟩, z2⟩ := (cr g j w q).mp z
        have hL : zr_L (zr_G I fo) lb (zr_D False la) (w / 2 ^ (g.length + 1)) := ⟨j, p, hp, d⟩
        exact ⟨(g.length + 1, g ++ [false]), ⟨zw_k9 (by omega) hL, hL, Or.inr ⟨by show 1 ≤ g.length + 1; omega, q, a, z2⟩⟩, Or.inr ⟨by show 1 ≤ g.length + 1; omega, g, j, rfl, e, rfl⟩⟩
    · rintro ⟨k, h'⟩ ⟨hk, hL, hz⟩
      have hL' : zr_L (zr_G I fo) lb (zr_D False la) (w / 2 ^ k) := hL
      have hz' : (k = 0 ∧ h' = []) ∨ (1 ≤ k ∧ zr_F (zr_E (zr_G I fo) K) lb la h' (zc_tl w k)) := hz
      obtain ⟨n, p, z, d⟩ := hL'
      rcases hz' with ⟨k0, e0⟩ | ⟨k0, q, a, z2⟩
      · subst k0 e0
        rw [Nat.pow_zero, Nat.div_one] at z
        obtain ⟨m, em⟩ := zw_n1 hw2 z
        rw [em] at z
        have pq := zw_pos cA z
        have hq := cA.2.2.2 p pq
        exact ⟨zr_f (m + 1), ⟨p, (zw_Dn (by omega)).mp d, zr_fr.mpr z⟩, Or.inl ⟨rfl, rfl, by rw [zr_fl]⟩⟩
      · have hlen := zw_len z2
        have hg : ∃ g, h' = g ++ [false] := by
          rcases zr_dich h' with e | ⟨g, j, e⟩
          · rw [hlen] at e
            obtain ⟨k', rfl⟩ : ∃ k', k = k' + 1 := ⟨k - 1, by omega⟩
            exact ⟨zr_f k', by rw [zr_fA]; exact e⟩
          · cases j with
            | zero =>
              rw [e] at z2
              obtain ⟨⟨r, hr, d2⟩, _⟩ := (cr g 0 _ q).mp z2
              have er : r = 16 := hr.2
              rw [er] at d2
              exact absurd (zw_D16.mp d2) id
            | succ j => exact ⟨g ++ true :: zr_f j, by rw [e, ← zr_fA]; simp⟩
        obtain ⟨g, eg⟩ := hg
        subst eg
        have gl : g.length + 1 = k := by
          rw [List.length_append] at hlen
          exact hlen
        subst gl
        exact ⟨g ++ true :: zr_f n, ⟨q, a, (cr g n w q).mpr ⟨⟨p, z, d⟩, z2⟩⟩, Or.inr ⟨k0, g, n, rfl, rfl, rfl⟩⟩
    · rintro ⟨k, h1⟩ ⟨l, h2⟩ h x y
      rcases x with ⟨x0, x1, x2⟩ | ⟨x0, g, j, x1, x2, x3⟩
      · rcases y with ⟨y0, y1, y2⟩ | ⟨y0, g', j', y1, y2, y3⟩
        · have a1 : k = 0 := x0
          have a2 : l = 0 := y0
          have a3 : h1 = [] := x1
          have a4 : h2 = [] := y1
          rw [a1, a2, a3, a4]
        · exact absurd (x2.symm.trans y2) (zr_nf _ _ _)
      · rcases y with ⟨y0, y1, y2⟩ | ⟨y0, g', j', y1, y2, y3⟩
        · exact absurd (y2.symm.trans x2) (zr_nf _ _ _)
        · have e := (zr_uq _ _ _ _ (x2.symm.trans y2)).1
          subst e
          have a1 : g.length + 1 = k := x3
          have a2 : g.length + 1 = l := y3
          have a3 : h1 = g ++ [false] := x1
          have a4 : h2 = g ++ [false] := y1
          rw [a3, a4, ← a1, ← a2]
    · rintro ⟨k, h1⟩ h g ph pg x y
      have hlen := zr_F_len ph pg
      rcases x with ⟨x0, x1, x2⟩ | ⟨x0, a, j, x1, x2, x3⟩
      · rcases y with ⟨y0, y1, y2⟩ | ⟨y0, a', j', y1, y2, y3⟩
        · rw [x2, y2, hlen]
        · omega
      · rcases y with ⟨y0, y1, y2⟩ | ⟨y0, a', j', y1, y2, y3⟩
        · omega
        · have e : a = a' := List.append_cancel_right (x1.symm.trans y1)
          subst e
          have : j = j' := by
            rw [x2, y2, List.length_append, List.length_append, List.length_cons, List.length_cons, zr_fl, zr_fl] at hlen
            omega
          rw [x2, y2, this]
end
section
/-! the pair search as sets: levels, offers -/
def zx_b (m q : Nat) : Prop := q < 16 ∧ m.testBit q = true
def zx_lb (LB : Nat → Nat) (s q c : Nat) : Prop := q < 16 ∧ c < 2 ∧ (LB (s * 16 + q)).testBit c = true
def zx_in (I : Nat) (FO : Nat → Nat) (s p : Nat) : Nat := if p = 16 then I else if p < 16 then FO (s * 16 + p) else 0
def zx_cr (C F T p : Nat) : Nat := if p = 16 then C else if p < 16 ∧ F.testBit p = true then T else 0
def zx_E (I C F T : Nat) (FO : Nat → Nat) (s : Nat) : Bool → Nat → Nat → Prop :=
  zr_E (fun p q => zx_b (zx_in I FO s p) q) (fun p q => zx_b (zx_cr C F T p) q)
def zx_m (pI pC : Nat) (b : Bool) : Nat := if b then pC else pI
theorem zx_Em {I C F T : Nat} {FO : Nat → Nat} {s : Nat} {b : Bool} {p q : Nat} : zx_E I C F T FO s b p q ↔ zx_b (zx_m (zx_in I FO s p) (zx_cr C F T p) b) q := by
  cases b <;> exact Iff.rfl
def zx_st (f : Bool) (p q : Nat) : Nat := f.toNat * 256 + p * 16 + q
theorem zx_st_lt {f : Bool} {p q : Nat} (hp : p < 16) (hq : q < 16) : zx_st f p q < 512 := by
  unfold zx_st
  cases f
  · show 0 * 256 + p * 16 + q < 512
    omega
  · show 1 * 256 + p * 16 + q < 512
    omega
theorem zx_st_inj {f g : Bool} {p q r t : Nat} (hp : p < 16) (hq : q < 16) (hr : r < 16) (ht : t < 16) (e : zx_st f p q = zx_st g r t) : f = g ∧ p = r ∧ q = t := by
  unfold zx_st at e
  cases f <;> cases g <;> simp only [Bool.toNat_false, Bool.toNat_true] at e
  · exact ⟨rfl, by omega, by omega⟩
  · omega
  · omega
  · exact ⟨rfl, by omega, by omega⟩
theorem zx_st_of {k : Nat} (h : k < 512) : ∃ f p q, p < 16 ∧ q < 16 ∧ k = zx_st f p q := by
  rcases Nat.lt_or_ge k 256 with z | z
  · refine ⟨false, k / 16, k % 16, by omega, by omega, ?_⟩
    show k = 0 * 256 + k / 16 * 16 + k % 16
    omega
  · refine ⟨true, (k - 256) / 16, (k - 256) % 16, by omega, by omega, ?_⟩
    show k = 1 * 256 + (k - 256) / 16 * 16 + (k - 256) % 16
    omega
/-- what one spread offers to a state -/
def zx_O (LB : Nat → Nat) (s ps qs : Nat) (f : Bool) (code : Nat) (k v : Nat) : Prop :=
  ∃ p q c, zx_b ps p ∧ zx_b qs q ∧ zx_lb LB s p c ∧ zx_lb LB s q c ∧ k = zx_st f p q ∧ v = 2 * code + c
/-- what the four spreads of a pair offer -/
def zx_Ad (LB : Nat → Nat) (s pI pC qI qC : Nat) (f : Bool) (code : Nat) (k v : Nat) : Prop :=
  zx_O LB s pI qI f code k v ∨ zx_O LB s pC qC f code k v ∨ zx_O LB s pI qC true code k v ∨ zx_O LB s pC qI true code k v
theorem zx_Ad_iff {LB : Nat → Nat} {s pI pC qI qC : Nat} {f : Bool} {code k v : Nat} : zx_Ad LB s pI pC qI qC f code k v ↔
    ∃ p q c a b, zx_b (zx_m pI pC a) p ∧ zx_b (zx_m qI qC b) q ∧ zx_lb LB s p c ∧ zx_lb LB s q c ∧ k = zx_st (f || (a != b)) p q ∧ v = 2 * code + c := by
  constructor
  · rintro (⟨p, q, c, h1, h2, h3, h4, h5, h6⟩ | ⟨p, q, c, h1, h2, h3, h4, h5, h6⟩ | ⟨p, q, c, h1, h2, h3, h4, h5, h6⟩ | ⟨p, q, c, h1, h2, h3, h4, h5, h6⟩)
    · exact ⟨p, q, c, false, false, h1, h2, h3, h4, by simpa using h5, h6⟩
    · exact ⟨p, q, c, true, true, h1, h2, h3, h4, by simpa using h5, h6⟩
    · exact ⟨p, q, c, false, true, h1, h2, h3, h4, by simpa using h5, h6⟩
    · exact ⟨p, q, c, true, false, h1, h2, h3, h4, by simpa using h5, h6⟩
  · rintro ⟨p, q, c, a, b, h1, h2, h3, h4, h5, h6⟩
    cases a <;> cases b
    · exact Or.inl ⟨p, q, c, h1, h2, h3, h4, by simpa using h5, h6⟩
    · exact Or.inr (Or.inr (Or.inl ⟨p, q, c, h1, h2, h3, h4, by simpa using h5, h6⟩))
    · exact Or.inr (Or.inr (Or.inr ⟨p, q, c, h1, h2, h3, h4, by simpa using h5, h6⟩))
    · exact Or.inr (Or.inl ⟨p, q, c, h1, h2, h3, h4, by simpa using h5, h6⟩)
def zx_MA (NE : Nat → Nat) (S : Nat → Nat → Prop) : Prop := ∀ k, k < 512 → zm_M (NE k) (S k)
/-- the words of n letters that lead a pair to a state -/
def zx_S (E : Bool → Nat → Nat → Prop) (lb : Nat → Nat → Prop) (n k w : Nat) : Prop :=
  2 ^ n ≤ w ∧ w < 2 ^ (n + 1) ∧ ∃ f p q, p < 16 ∧ q < 16 ∧ k = zx_st f p q ∧ zr_P E lb f w p q
theorem zx_lb16 {LB : Nat → Nat} {s : Nat} (q c : Nat) (h : zx_lb LB s q c) : q < 16 := h.1
theorem zx_P16 {E : Bool → Nat → Nat → Prop} {LB : Nat → Nat} {s : Nat} {f : Bool} {w p q : Nat} (hw : 2 ≤ w) (h : zr_P E (zx_lb LB s) f w p q) : p < 16 ∧ q < 16 := by
  have := (zr_PS hw).mp h
  exact ⟨this.1.1, this.2.1.1⟩
theorem zx_lvl1 {I C F T : Nat} {FO LB : Nat → Nat} {s : Nat} {NE : Nat → Nat} (h : zx_MA NE (zx_Ad LB s I C I C false 1)) : zx_MA NE (zx_S (zx_E I C F T FO s) (zx_lb LB s) 1) := by
  intro k hk
  refine zm_cg (h k hk) fun w => ?_
  rw [zx_Ad_iff]
  constructor
  · rintro ⟨p, q, c, a, b, h1, h2, h3, h4, h5, h6⟩
    have hc := h3.2.1
    have e2 : w % 2 = c := by omega
    have e3 : w / 2 = 1 := by omega
    refine ⟨by omega, by omega, _, p, q, h1.1, h2.1, h5, (zr_PS (by omega)).mpr ⟨by rw [e2]; exact h3, by rw [e2]; exact h4, false, 16, 16, a, b, ?_, zx_Em.mpr h1, zx_Em.mpr h2, rfl⟩⟩
    exact (zr_P0 e3).mpr ⟨rfl, rfl, rfl⟩
  · rintro ⟨h1, h2, f, p, q, hp, hq, e, z⟩
    have hw : 2 ≤ w := by omega
    have e3 : w / 2 = 1 := by omega
    obtain ⟨l1, l2, f', p', q', b, c, z', e1, e2, ef⟩ := (zr_PS hw).mp z
    obtain ⟨rfl, rfl, rfl⟩ := (zr_P0 e3).mp z'
    exact ⟨p, q, w % 2, b, c, zx_Em.mp e1, zx_Em.mp e2, l1, l2, by rw [e, ef], by omega⟩
/-- what a whole level offers -/
def zx_OL (BE : Nat → Nat) (LB FO : Nat → Nat) (s F T : Nat) (m k v : Nat) : Prop :=
  ∃ f p q, p < 16 ∧ q < 16 ∧ zx_st f p q < m ∧ BE (zx_st f p q) ≠ 0 ∧ zx_Ad LB s (FO (s * 16 + p)) (zx_cr 0 F T p) (FO (s * 16 + q)) (zx_cr 0 F T q) f (BE (zx_st f p q)) k v
theorem zx_cr16 {C F T p : Nat} (h : p < 16) : zx_cr C F T p = zx_cr 0 F T p := by
  unfold zx_cr
  have h' : ¬ p = 16 := by omega
  rw [if_neg h', if_neg h']
theorem zx_in16 {I : Nat} {FO : Nat → Nat} {s p : Nat} (h : p < 16) : zx_in I FO s p = FO (s * 16 + p) := by
  unfold zx_in
  rw [if_neg (by omega), if_pos h]
theorem zx_lvl {I C F T : Nat} {FO LB : Nat → Nat} {s n : Nat} {BE NE : Nat → Nat} (hn : 1 ≤ n) (hB : zx_MA BE (zx_S (zx_E I C F T FO s) (zx_lb LB s) n))
    (hN : zx_MA NE (zx_OL BE LB FO s F T 512)) : zx_MA NE (zx_S (zx_E I C F T FO s) (zx_lb LB s) (n + 1)) := by
  have p2 : 2 ^ 1 ≤ 2 ^ n := za_p2 hn
  intro k hk
  refine zm_dn (hN k hk) ?_ ?_
  · rintro w ⟨f, p, q, hp, hq, hs, h0, ha⟩
    obtain ⟨p', q', c, a, b, h1, h2, h3, h4, h5, h6⟩ := zx_Ad_iff.mp ha
    have hc := h3.2.1
    obtain ⟨l1, l2, f0, p0, q0, hp0, hq0, e0, z0⟩ := (hB (zx_st f p q) hs).2 h0
    obtain ⟨rfl, rfl, rfl⟩ := zx_st_inj hp hq hp0 hq0 e0
    have e2 : w % 2 = c := by omega
    have e3 : w / 2 = BE (zx_st f p q) := by omega
    rw [← zx_in16 (I := I) (FO := FO) hp, ← zx_cr16 (C := C) hp] at h1
    rw [← zx_in16 (I := I) (FO := FO) hq, ← zx_cr16 (C := C) hq] at h2
    refine ⟨by rw [Nat.pow_succ]; omega, by rw [Nat.pow_succ]; omega, _, p', q', h1.1, h2.1, h5, (zr_PS (by omega)).mpr ⟨by rw [e2]; exact h3, by rw [e2]; exact h4, f, p, q, a, b, ?_, zx_Em.mpr h1, zx_Em.mpr h2, rfl⟩⟩
    rw [e3]
    exact z0
  · rintro w ⟨h1, h2, f, p, q, hp, hq, e, z⟩
    rw [Nat.pow_succ] at h1 h2
    obtain ⟨l1, l2, f', p', q', b, c, z', e1, e2, ef⟩ := (zr_PS (by omega)).mp z
    obtain ⟨hp', hq'⟩ := zx_P16 (by omega) z'
    have hs := zx_st_lt (f := f') hp' hq'
    have y := (hB _ hs).1 (w / 2) ⟨by omega, by omega, f', p', q', hp', hq', rfl, z'⟩
    refine ⟨2 * BE (zx_st f' p' q') + w % 2, ⟨f', p', q', hp', hq', hs, y.1, zx_Ad_iff.mpr ⟨p, q, w % 2, b, c, ?_, ?_, l1, l2, by rw [e, ef], rfl⟩⟩, by omega⟩
    · have := zx_Em.mp e1
      rw [zx_in16 hp', zx_cr16 hp'] at this
      exact this
    · have := zx_Em.mp e2
      rw [zx_in16 hq', zx_cr16 hq'] at this
      exact this
/-- the least accepted word of a level -/
def zx_Ac (NE : Nat → Nat) (acc m w : Nat) : Prop := ∃ p q, p < 16 ∧ q < 16 ∧ p * 16 + q < m ∧ acc.testBit p = true ∧ acc.testBit q = true ∧ NE (256 + (p * 16 + q)) = w ∧ w ≠ 0
theorem zx_found {E : Bool → Nat → Nat → Prop} {LB : Nat → Nat} {s n : Nat} {NE : Nat → Nat} {acc r : Nat} (hn : 1 ≤ n) (hN : zx_MA NE (zx_S E (zx_lb LB s) n)) (h : zm_M r (zx_Ac NE acc 256)) :
    zm_M r (fun w => 2 ^ n ≤ w ∧ w < 2 ^ (n + 1) ∧ ∃ p q, zx_b acc p ∧ zx_b acc q ∧ zr_P E (zx_lb LB s) true w p q) := by
  have p2 : 2 ^ 1 ≤ 2 ^ n := za_p2 hn
  have ei : ∀ p q, 256 + (p * 16 + q) = zx_st true p q := by
    intro p q
    show 256 + (p * 16 + q) = 1 * 256 + p * 16 + q
    omega
  refine zm_dn h ?_ ?_
  · rintro w ⟨p, q, hp, hq, _, ap, aq, e, h0⟩
    rw [ei] at e
    have y := (hN _ (zx_st_lt (f := true) hp hq)).2 (by rw [e]; exact h0)
    rw [e] at y
    obtain ⟨y1, y2, f, p', q', hp', hq', es, z⟩ := y
    obtain ⟨rfl, rfl, rfl⟩ := zx_st_inj hp hq hp' hq' es
    exact ⟨y1, y2, p, q, ⟨hp, ap⟩, ⟨hq, aq⟩, z⟩
  · rintro w ⟨h1, h2, p, q, ⟨hp, ap⟩, ⟨hq, aq⟩, z⟩
    have y := (hN _ (zx_st_lt hp hq)).1 w ⟨h1, h2, true, p, q, hp, hq, rfl, z⟩
    exact ⟨NE (zx_st true p q), ⟨p, q, hp, hq, by omega, ap, aq, by rw [ei], y.1⟩, y.2⟩
/-- the least clash of all -/
def zx_Cl (E : Bool → Nat → Nat → Prop) (lb : Nat → Nat → Prop) (acc N w : Nat) : Prop := 2 ≤ w ∧ w < N ∧ ∃ p q, zx_b acc p ∧ zx_b acc q ∧ zr_P E lb true w p q
theorem zx_clash {E : Bool → Nat → Nat → Prop} {lb : Nat → Nat → Prop} {acc L n r : Nat} (hn : 1 ≤ n) (hL : n ≤ L)
    (h0 : ∀ w, 2 ≤ w → w < 2 ^ n → ¬ ∃ p q, zx_b acc p ∧ zx_b acc q ∧ zr_P E lb true w p q)
    (h : zm_M r (fun w => 2 ^ n ≤ w ∧ w < 2 ^ (n + 1) ∧ ∃ p q, zx_b acc p ∧ zx_b acc q ∧ zr_P E lb true w p q)) (hr : r ≠ 0 ∨ n = L) : zm_M r (zx_Cl E lb acc (2 ^ (L + 1))) := by
  have p2 : 2 ^ 1 ≤ 2 ^ n := za_p2 hn
  have p3 : 2 ^ (n + 1) ≤ 2 ^ (L + 1) := za_p2 (by omega)
  constructor
  · rintro w ⟨h1, h2, z⟩
    rcases Nat.lt_or_ge w (2 ^ n) with y | y
    · exact absurd z (h0 w h1 y)
    · rcases Nat.lt_or_ge w (2 ^ (n + 1)) with y2 | y2
      · exact h.1 w ⟨y, y2, z⟩
      · rcases hr with hr | hr
        · have := (h.2 hr).2.1
          exact ⟨hr, by omega⟩
        · subst hr
          omega
  · intro hz
    have y := h.2 hz
    exact ⟨by omega, by omega, y.2.2⟩
end
section
/-! the automata of the nodes, out of the arrays; index s * 16 + node -/
def zl_fo (FO : Nat → Nat) (s p q : Nat) : Prop := p < 16 ∧ zx_b (FO (s * 16 + p)) q
def zl_G (FI FO : Nat → Nat) (s r : Nat) : Nat → Nat → Prop := zr_G (zx_b (FI (s * 16 + r))) (zl_fo FO s)
def zl_D (NU LA : Nat → Nat) (s r : Nat) : Nat → Prop := zr_D (NU (s * 16 + r) ≠ 0) (zx_b (LA (s * 16 + r)))
def zl_L (NU FI LA FO LB : Nat → Nat) (s r w : Nat) : Prop := zr_L (zl_G FI FO s r) (zx_lb LB s) (zl_D NU LA s r) w
def zl_P (SZ : Nat → Nat) (r q : Nat) : Prop := r + 1 ≤ q + SZ r ∧ q ≤ r ∧ q < 16
def zl_C (SZ FI LA FO : Nat → Nat) (s r : Nat) : Prop := zw_Cl (zx_b (FI (s * 16 + r))) (zl_fo FO s) (zx_b (LA (s * 16 + r))) (zl_P SZ r)
/-- is the word in the list that the reference keeps -/
def zy_h (LG : Nat → Nat) (n s w : Nat) : Bool := decide (1 ≤ w ∧ w < 512 ∧ LG (n * 1024 + s * 512 + w) ≠ 0)
theorem zy_h0 (LG : Nat → Nat) (n s : Nat) : zy_h LG n s 0 = false := by
  unfold zy_h
  exact decide_eq_false (fun z => absurd z.1 (by decide))
theorem zy_h_iff {LG : Nat → Nat} {n s w : Nat} (h1 : 1 ≤ w) (h2 : w < 512) : zy_h LG n s w = true ↔ LG (n * 1024 + s * 512 + w) ≠ 0 := by
  unfold zy_h
  rw [decide_eq_true_iff]
  exact ⟨fun z => z.2.2, fun z => ⟨h1, h2, z⟩⟩
def zl_A (N : Nat) (LG SZ NU FI LA FO LB : Nat → Nat) (s r : Nat) : Prop :=
  zl_C SZ FI LA FO s r ∧ ∀ w, 1 ≤ w → w < N → (zl_L NU FI LA FO LB s r w ↔ zy_h LG r s w = true)
theorem zl_A0 {N : Nat} {LG SZ NU FI LA FO LB : Nat → Nat} {s r : Nat} (h : zl_A N LG SZ NU FI LA FO LB s r) {w : Nat} (hw : w < N) : zl_L NU FI LA FO LB s r w ↔ zy_h LG r s w = true := by
  rcases Nat.eq_zero_or_pos w with z | z
  · subst z
    rw [zy_h0]
    exact ⟨fun y => absurd y zr_L0, fun y => by cases y⟩
  · exact h.2 w z hw
theorem zl_cgL {SZ NU FI LA FO LB NU' FI' LA' FO' LB' : Nat → Nat} {s r : Nat} (c : zl_C SZ FI LA FO s r)
    (e1 : FI' (s * 16 + r) = FI (s * 16 + r)) (e2 : LA' (s * 16 + r) = LA (s * 16 + r)) (e3 : NU' (s * 16 + r) = NU (s * 16 + r))
    (e4 : ∀ p, zl_P SZ r p → FO' (s * 16 + p) = FO (s * 16 + p)) (e5 : ∀ p, zl_P SZ r p → LB' (s * 16 + p) = LB (s * 16 + p)) (w : Nat) (h : zl_L NU FI LA FO LB s r w) : zl_L NU' FI' LA' FO' LB' s r w := by
  obtain ⟨n, p, z, d⟩ := h
  refine ⟨n, p, ?_, ?_⟩
  · refine zr_cg (P := zl_P SZ r) (fun _ q h => zw_Cl0 c q h) (fun _ p q hp h => zw_Cl1 c p q hp h) ?_ ?_ ?_ z
    · intro _ q h
      show zr_G _ _ 16 q
      rw [zw_G16, e1]
      exact (zw_G16 q).mp h
    · intro _ p q hp h
      have hp' : p ≠ 16 := by have := hp.2.2; omega
      show zr_G _ _ p q
      rw [zw_Gn hp']
      have h' := (zw_Gn hp' q).mp h
      exact ⟨h'.1, by rw [e4 p hp]; exact h'.2⟩
    · intro q c hq h
      exact ⟨h.1, h.2.1, by rw [e5 q hq]; exact h.2.2⟩
  · unfold zl_D at d ⊢
    rw [e2, e3]
    exact d
theorem zl_cgC {SZ SZ' FI LA FO FI' LA' FO' : Nat → Nat} {s r : Nat} (c : zl_C SZ FI LA FO s r) (e0 : SZ' r = SZ r)
    (e1 : FI' (s * 16 + r) = FI (s * 16 + r)) (e2 : LA' (s * 16 + r) = LA (s * 16 + r))
    (e4 : ∀ p, zl_P SZ r p → FO' (s * 16 + p) = FO (s * 16 + p)) : zl_C SZ' FI' LA' FO' s r := by
  have eP : ∀ p, zl_P SZ' r p ↔ zl_P SZ r p := by
    intro p
    unfold zl_P
    rw [e0]
  refine ⟨?_, ?_, ?_, ?_⟩
  · intro q h
    rw [e1] at h
    exact (eP q).mpr (c.1 q h)
  · intro p q hp h
    have hp' := (eP p).mp hp
    have h2 := h.2
    rw [e4 p hp'] at h2
    exact (eP q).mpr (c.2.1 p q hp' ⟨h.1, h2⟩)
  · intro q h
    rw [e2] at h
    exact (eP q).mpr (c.2.2.1 q h)
  · intro q h
    exact h.2.2
theorem zl_cgA {N : Nat} {LG LG' SZ SZ' NU FI LA FO LB NU' FI' LA' FO' LB' : Nat → Nat} {s r : Nat} (h : zl_A N LG SZ NU FI LA FO LB s r) (e0 : SZ' r = SZ r)
    (e1 : FI' (s * 16 + r) = FI (s * 16 + r)) (e2 : LA' (s * 16 + r) = LA (s * 16 + r)) (e3 : NU' (s * 16 + r) = NU (s * 16 + r))
    (e4 : ∀ p, zl_P SZ r p → FO' (s * 16 + p) = FO (s * 16 + p)) (e5 : ∀ p, zl_P SZ r p → LB' (s * 16 + p) = LB (s * 16 + p))
    (e6 : ∀ w, zy_h LG' r s w = zy_h LG r s w) : zl_A N LG' SZ' NU' FI' LA' FO' LB' s r := by
  have c' := zl_cgC (LA' := LA') (FI' := FI') (FO' := FO') h.1 e0 e1 e2 e4
  refine ⟨c', fun w h1 h2 => ?_⟩
  rw [e6, ← h.2 w h1 h2]
  constructor
  · refine zl_cgL c' e1.symm e2.symm e3.symm ?_ ?_ w
    · intro p hp
      exact (e4 p (by unfold zl_P at hp ⊢; rw [e0] at hp; exact hp)).symm
    · intro p hp
      exact (e5 p (by unfold zl_P at hp ⊢; rw [e0] at hp; exact hp)).symm
  · exact zl_cgL h.1 e1 e2 e3 e4 e5 w
/-! bits -/
theorem zl_b0 (q : Nat) : ¬ zx_b 0 q := by
  rintro ⟨_, h⟩
  rw [Nat.zero_testBit] at h
  cases h
theorem zl_bor (a b q : Nat) : zx_b (a ||| b) q ↔ zx_b a q ∨ zx_b b q := by
  unfold zx_b
  rw [Nat.testBit_or, Bool.or_eq_true]
  constructor
  · rintro ⟨h, x | x⟩
    · exact Or.inl ⟨h, x⟩
    · exact Or.inr ⟨h, x⟩
  · rintro (⟨h, x⟩ | ⟨h, x⟩)
    · exact ⟨h, Or.inl x⟩
    · exact ⟨h, Or.inr x⟩
theorem zl_bp {r : Nat} (hr : r < 16) (q : Nat) : zx_b (2 ^ r) q ↔ q = r := by
  unfold zx_b
  rw [Nat.testBit_two_pow, decide_eq_true_iff]
  omega
/-! one leaf -/
theorem zl_leaf {N : Nat} {LG SZ NU FI LA FO LB : Nat → Nat} {s r m : Nat} (hr : r < 16) (hsz : SZ r = 1) (hm : LB (s * 16 + r) = m) (hm4 : m < 4)
    (hf : FI (s * 16 + r) = if m = 0 then 0 else 2 ^ r) (hla : LA (s * 16 + r) = if m = 0 then 0 else 2 ^ r) (hn : NU (s * 16 + r) ≠ 0 ↔ m = 0) (hfo : FO (s * 16 + r) = 0)
    (hg : ∀ w, 1 ≤ w → w < N → (zy_h LG r s w = true ↔ (m = 0 ∧ w = 1) ∨ (m.testBit 0 = true ∧ w = 2) ∨ (m.testBit 1 = true ∧ w = 3))) : zl_A N LG SZ NU FI LA FO LB s r := by
  have eP : ∀ q, zl_P SZ r q ↔ q = r := by
    intro q
    unfold zl_P
    rw [hsz]
    omega
  have eI : ∀ q, zx_b (FI (s * 16 + r)) q ↔ m ≠ 0 ∧ q = r := by
    intro q
    rw [hf]
    by_cases z : m = 0
    · rw [if_pos z]
      exact ⟨fun y => absurd y (zl_b0 q), fun y => absurd z y.1⟩
    · rw [if_neg z, zl_bp hr]
      exact ⟨fun y => ⟨z, y⟩, fun y => y.2⟩
  have eL : ∀ q, zx_b (LA (s * 16 + r)) q ↔ m ≠ 0 ∧ q = r := by
    intro q
    rw [hla, ← hf]
    exact eI q
  have nofo : ∀ p q, p = r → ¬ zl_fo FO s p q := by
    rintro p q rfl ⟨_, h⟩
    rw [hfo] at h
    exact zl_b0 q h
  refine ⟨⟨fun q h => (eP q).mpr ((eI q).mp h).2, fun p q hp h => absurd h (nofo p q ((eP p).mp hp)), fun q h => (eP q).mpr ((eL q).mp h).2, fun q h => h.2.2⟩, fun w h1 h2 => ?_⟩
  rw [hg w h1 h2]
  have t01 : m ≠ 0 → m.testBit 0 = true ∨ m.testBit 1 = true := by
    intro z
    have : ∀ m, m < 4 → m ≠ 0 → m.testBit 0 = true ∨ m.testBit 1 = true := by decide
    exact this m hm4 z
  constructor
  · rintro ⟨n, p, z, d⟩
    match n, z with
    | 0, z =>
      have e1 : w = 1 := z.1
      have e2 : p = 16 := z.2
      subst e2
      exact Or.inl ⟨hn.mp (zw_D16.mp d), e1⟩
    | 1, z =>
      obtain ⟨l, p', hp', e⟩ := z
      have hp2 : w / 2 = 1 ∧ p' = 16 := hp'
      obtain ⟨hw, rfl⟩ := hp2
      obtain ⟨m0, rfl⟩ := (eI p).mp ((zw_G16 p).mp e)
      have l2 := l.2.2
      rw [hm] at l2
      rcases Nat.mod_two_eq_zero_or_one w with y | y
      · rw [y] at l2
        exact Or.inr (Or.inl ⟨l2, by omega⟩)
      · rw [y] at l2
        exact Or.inr (Or.inr ⟨l2, by omega⟩)
    | n + 2, z =>
      obtain ⟨l, p', ⟨l', p2, hp2, e2⟩, e⟩ := z
      have h16 : p' ≠ 16 := by have := l'.1; omega
      have e' := (zw_Gn h16 p).mp e
      have hp'r : p' = r := by
        have := zr_pos (E := fun _ => zl_G FI FO s r) (lb := zx_lb LB s) (P := fun q => q = r) (fun _ q h => ((eI q).mp ((zw_G16 q).mp h)).2) (fun _ a b ha h => by
          have h16 : a ≠ 16 := by omega
          exact absurd ((zw_Gn h16 b).mp h) (nofo a b ha)) (h := zr_f n) (b := false) ⟨l', p2, hp2, e2⟩
        exact this
      exact absurd e' (nofo p' p hp'r)
  · have one : ∀ c, c < 2 → m.testBit c = true → zl_L NU FI LA FO LB s r (2 + c) := by
      intro c hc ht
      have m0 : m ≠ 0 := by
        rintro rfl
        rw [Nat.zero_testBit] at ht
        cases ht
      have e1 : (2 + c) % 2 = c := by omega
      have e2 : (2 + c) / 2 = 1 := by omega
      refine ⟨1, r, ⟨⟨hr, by omega, ?_⟩, 16, ⟨e2, rfl⟩, (zw_G16 r).mpr ((eI r).mpr ⟨m0, rfl⟩)⟩, (zw_Dn (by omega)).mpr ((eL r).mpr ⟨m0, rfl⟩)⟩
      rw [e1, hm]
      exact ht
    rintro (⟨a, rfl⟩ | ⟨a, rfl⟩ | ⟨a, rfl⟩)
    · exact zr_L1.mpr (hn.mpr a)
    · exact one 0 (by omega) a
    · exact one 1 (by omega) a
/-! only the empty word -/
theorem zl_eps {N : Nat} {LG SZ NU FI LA FO LB : Nat → Nat} {s r : Nat}
    (hf : FI (s * 16 + r) = 0) (hla : LA (s * 16 + r) = 0) (hn : NU (s * 16 + r) ≠ 0) (hfo : ∀ p q, zl_P SZ r p → zl_fo FO s p q → zl_P SZ r q)
    (hg : ∀ w, 1 ≤ w → w < N → (zy_h LG r s w = true ↔ w = 1)) : zl_A N LG SZ NU FI LA FO LB s r := by
  refine ⟨⟨fun q h => absurd (hf ▸ h) (zl_b0 q), hfo, fun q h => absurd (hla ▸ h) (zl_b0 q), fun q h => h.2.2⟩, fun w h1 h2 => ?_⟩
  rw [hg w h1 h2]
  constructor
  · rintro ⟨n, p, z, d⟩
    match n, z with
    | 0, z => exact z.1
    | n + 1, z =>
      have hne := zr_ne (fun q c h => zx_lb16 q c h) (h := zr_f n) (b := false) z
      have := (zw_Dn hne).mp d
      rw [hla] at this
      exact absurd this (zl_b0 p)
  · rintro rfl
    exact zr_L1.mpr hn
/-! the search's edges against the nodes' edges -/
theorem zl_inG (I : Nat) (FO : Nat → Nat) (s : Nat) : (fun p q => zx_b (zx_in I FO s p) q) = zr_G (zx_b I) (zl_fo FO s) := by
  funext p q
  apply propext
  unfold zx_in
  by_cases h : p = 16
  · subst h
    rw [if_pos rfl, zw_G16]
  · rw [if_neg h, zw_Gn h]
    by_cases h2 : p < 16
    · rw [if_pos h2]
      exact ⟨fun z => ⟨h2, z⟩, fun z => z.2⟩
    · rw [if_neg h2]
      exact ⟨fun z => absurd z (zl_b0 q), fun z => absurd z.1 h2⟩
theorem zl_crK (C F T : Nat) (p q : Nat) : zx_b (zx_cr C F T p) q ↔ (p = 16 ∧ zx_b C q) ∨ (zx_b F p ∧ zx_b T q) := by
  unfold zx_cr
  by_cases h : p = 16
  · subst h
    rw [if_pos rfl]
    constructor
    · intro z
      exact Or.inl ⟨rfl, z⟩
    · rintro (z | z)
      · exact z.2
      · exact absurd z.1.1 (by decide)
  · rw [if_neg h]
    by_cases h2 : p < 16 ∧ F.testBit p = true
    · rw [if_pos h2]
      constructor
      · intro z
        exact Or.inr ⟨h2, z⟩
      · rintro (z | z)
        · exact absurd z.1 h
        · exact z.2
    · rw [if_neg h2]
      constructor
      · intro z
        exact absurd z (zl_b0 q)
      · rintro (z | z)
        · exact absurd z.1 h
        · exact absurd z.1 h2
end
section
/-! a new node's automaton: its ways, its clash, its language -/
def zy_cw (LG : Nat → Nat) (x y s w k : Nat) : Nat := (zy_h LG x s (w / 2 ^ k) && zy_h LG y s (zc_tl w k)).toNat
def zy_cat (LG : Nat → Nat) (x y s w : Nat) : Nat := zm_sum (zy_cw LG x y s w) 9
def zy_uw (LG : Nat → Nat) (x y s w k : Nat) : Nat := if k = 0 then (zy_h LG x s w).toNat else (zy_h LG y s w).toNat
def zy_uni (LG : Nat → Nat) (x y s w : Nat) : Nat := zm_sum (zy_uw LG x y s w) 2
def zy_sw (LG W : Nat → Nat) (x s w k : Nat) : Nat := if zy_h LG x s (w / 2 ^ k) = true then W (zc_tl w k) else 0
theorem zl_lt_div {w k N : Nat} (h : w < N) : w / 2 ^ k < N := Nat.lt_of_le_of_lt (Nat.div_le_self _ _) h
theorem zl_catC {N : Nat} {LG SZ NU FI LA FO LB : Nat → Nat} {s x y C acc : Nat} (hN : N ≤ 512) (hx : zl_A N LG SZ NU FI LA FO LB s x) (hy : zl_A N LG SZ NU FI LA FO LB s y)
    (dj : ∀ q, zl_P SZ x q → zl_P SZ y q → False) (eC : C = if NU (s * 16 + x) = 0 then 0 else FI (s * 16 + y))
    (eA : acc = if NU (s * 16 + y) = 0 then LA (s * 16 + y) else LA (s * 16 + x) ||| LA (s * 16 + y)) {w : Nat} (h2 : 2 ≤ w) (hw : w < N) :
    zm_C (zy_cat LG x y s w) (fun h => zr_F (zx_E (FI (s * 16 + x)) C (LA (s * 16 + x)) (FI (s * 16 + y)) FO s) (zx_lb LB s) (zx_b acc) h w) := by
  unfold zx_E
  rw [zl_inG]
  refine zw_cat (nuA := NU (s * 16 + x) ≠ 0) (nuB := NU (s * 16 + y) ≠ 0) (fun q c h => zx_lb16 q c h) hx.1 hy.1 dj ?_ ?_ h2 (by omega) ?_
  · intro p q
    rw [zl_crK, eC]
    by_cases z : NU (s * 16 + x) = 0
    · rw [if_pos z]
      constructor
      · rintro (e | e)
        · exact absurd e.2 (zl_b0 q)
        · exact ⟨(zw_Dn (by have := e.1.1; omega)).mpr e.1, e.2⟩
      · rintro ⟨(e | e), e2⟩
        · exact absurd z e.2
        · exact Or.inr ⟨e.2, e2⟩
    · rw [if_neg z]
      constructor
      · rintro (e | e)
        · exact ⟨Or.inl ⟨e.1, z⟩, e.2⟩
        · exact ⟨(zw_Dn (by have := e.1.1; omega)).mpr e.1, e.2⟩
      · rintro ⟨(e | e), e2⟩
        · exact Or.inl ⟨e.1, e2⟩
        · exact Or.inr ⟨e.2, e2⟩
  · intro q
    rw [eA]
    by_cases z : NU (s * 16 + y) = 0
    · rw [if_pos z]
      exact ⟨fun e => Or.inl e, fun e => e.elim id (fun e => absurd z e.1)⟩
    · rw [if_neg z, zl_bor]
      exact ⟨fun e => e.elim (fun e => Or.inr ⟨z, e⟩) Or.inl, fun e => e.elim Or.inr (fun e => Or.inl e.2)⟩
  · intro k hk
    have e1 : zr_L (zr_G (zx_b (FI (s * 16 + x))) (zl_fo FO s)) (zx_lb LB s) (zr_D (NU (s * 16 + x) ≠ 0) (zx_b (LA (s * 16 + x)))) (w / 2 ^ k) ↔ zy_h LG x s (w / 2 ^ k) = true := zl_A0 hx (zl_lt_div hw)
    rw [e1]
    by_cases c1 : zy_h LG x s (w / 2 ^ k) = true
    · have hp : 1 ≤ w / 2 ^ k := by
        rcases Nat.eq_zero_or_pos (w / 2 ^ k) with z | z
        · rw [z, zy_h0] at c1
          cases c1
        · exact z
      have ht : zc_tl w k < N := Nat.lt_of_le_of_lt (zc_tl_le_w hp) hw
      have e2 : zr_L (zr_G (zx_b (FI (s * 16 + y))) (zl_fo FO s)) (zx_lb LB s) (zr_D (NU (s * 16 + y) ≠ 0) (zx_b (LA (s * 16 + y)))) (zc_tl w k) ↔ zy_h LG y s (zc_tl w k) = true := zl_A0 hy ht
      rw [e2]
      unfold zy_cw
      rw [c1]
      cases c2 : zy_h LG y s (zc_tl w k)
      · exact Or.inr ⟨rfl, fun z => by cases z.2⟩
      · exact Or.inl ⟨rfl, rfl, rfl⟩
    · refine Or.inr ⟨?_, fun z => c1 z.1⟩
      unfold zy_cw
      rw [Bool.not_eq_true] at c1
      rw [c1]
      rfl
theorem zl_uniC {N : Nat} {LG SZ NU FI LA FO LB : Nat → Nat} {s x y : Nat} (hx : zl_A N LG SZ NU FI LA FO LB s x) (hy : zl_A N LG SZ NU FI LA FO LB s y)
    (dj : ∀ q, zl_P SZ x q → zl_P SZ y q → False) {w : Nat} (h2 : 2 ≤ w) (hw : w < N) :
    zm_C (zy_uni LG x y s w) (fun h => zr_F (zx_E (FI (s * 16 + x)) (FI (s * 16 + y)) 0 0 FO s) (zx_lb LB s) (zx_b (LA (s * 16 + x) ||| LA (s * 16 + y))) h w) := by
  unfold zx_E
  rw [zl_inG]
  refine zw_uni (nuA := NU (s * 16 + x) ≠ 0) (nuB := NU (s * 16 + y) ≠ 0) (fun q c h => zx_lb16 q c h) hx.1 hy.1 dj ?_ ?_ h2 ?_
  · intro p q
    rw [zl_crK]
    constructor
    · rintro (e | e)
      · exact e
      · exact absurd e.1 (zl_b0 p)
    · intro e
      exact Or.inl e
  · intro q
    exact zl_bor _ _ q
  · intro k hk
    have e1 : zr_L (zr_G (zx_b (FI (s * 16 + x))) (zl_fo FO s)) (zx_lb LB s) (zr_D (NU (s * 16 + x) ≠ 0) (zx_b (LA (s * 16 + x)))) w ↔ zy_h LG x s w = true := zl_A0 hx hw
    have e2 : zr_L (zr_G (zx_b (FI (s * 16 + y))) (zl_fo FO s)) (zx_lb LB s) (zr_D (NU (s * 16 + y) ≠ 0) (zx_b (LA (s * 16 + y)))) w ↔ zy_h LG y s w = true := zl_A0 hy hw
    rw [e1, e2]
    rcases (show k = 0 ∨ k = 1 by omega) with rfl | rfl
    · show ((zy_h LG x s w).toNat = 1 ∧ _) ∨ ((zy_h LG x s w).toNat = 0 ∧ _)
      cases c : zy_h LG x s w
      · refine Or.inr ⟨rfl, ?_⟩
        rintro (z | z)
        · cases z.2
        · exact absurd z.1 (by decide)
      · exact Or.inl ⟨rfl, Or.inl ⟨rfl, rfl⟩⟩
    · show ((zy_h LG y s w).toNat = 1 ∧ _) ∨ ((zy_h LG y s w).toNat = 0 ∧ _)
      cases c : zy_h LG y s w
      · refine Or.inr ⟨rfl, ?_⟩
        rintro (z | z)
        · exact absurd z.1 (by decide)
        · cases z.2
      · exact Or.inl ⟨rfl, Or.inr ⟨rfl, rfl⟩⟩
theorem zl_staC {N : Nat} {LG SZ NU FI LA FO LB W : Nat → Nat} {s x : Nat} (hN : N ≤ 512) (hx : zl_A N LG SZ NU FI LA FO LB s x) (hnu : NU (s * 16 + x) = 0)
    (h1 : W 1 = 1) (hW : ∀ w, 2 ≤ w → w < N → W w = zm_sum (zy_sw LG W x s w) 9) (w : Nat) (h2 : 2 ≤ w) (hw : w < N) :
    zm_C (W w) (fun h => zr_F (zx_E (FI (s * 16 + x)) 0 (LA (s * 16 + x)) (FI (s * 16 + x)) FO s) (zx_lb LB s) (zx_b (LA (s * 16 + x))) h w) := by
  unfold zx_E
  rw [zl_inG]
  have eD : zl_D NU LA s x = zr_D False (zx_b (LA (s * 16 + x))) := by
    unfold zl_D
    rw [hnu]
    have : ((0 : Nat) ≠ 0) = False := by simp
    rw [this]
  refine zw_sta (fun q c h => zx_lb16 q c h) hx.1 ?_ hN h1 ?_ w h2 hw
  · intro p q
    rw [zl_crK]
    constructor
    · rintro (e | e)
      · exact absurd e.2 (zl_b0 q)
      · exact ⟨(zw_Dn (by have := e.1.1; omega)).mpr e.1, e.2⟩
    · rintro ⟨(e | e), e2⟩
      · exact absurd e.2 id
      · exact Or.inr ⟨e.2, e2⟩
  · intro w h2 hw
    refine ⟨zy_sw LG W x s w, hW w h2 hw, fun k hk => ?_⟩
    have e1 : zr_L (zr_G (zx_b (FI (s * 16 + x))) (zl_fo FO s)) (zx_lb LB s) (zr_D False (zx_b (LA (s * 16 + x)))) (w / 2 ^ k) ↔ zy_h LG x s (w / 2 ^ k) = true := by
      rw [← eD]
      exact zl_A0 hx (zl_lt_div hw)
    rw [e1]
    unfold zy_sw
    exact ⟨fun z => by rw [if_pos z], fun z => by rw [if_neg z]⟩
/-- both sides name the same clash -/
theorem zl_clash {E : Bool → Nat → Nat → Prop} {lb : Nat → Nat → Prop} {acc N r r' : Nat} {W : Nat → Nat} (hC : ∀ w, 2 ≤ w → w < N → zm_C (W w) (fun h => zr_F E lb (zx_b acc) h w))
    (hr : zm_M r (zx_Cl E lb acc N)) (h1 : W 1 ≤ 1) (hr' : zm_M r' (fun w => 1 ≤ w ∧ w < N ∧ 2 ≤ W w)) : r' = r := by
  refine zm_uniq hr' (zm_cg hr fun w => ?_)
  unfold zx_Cl
  constructor
  · rintro ⟨h2, hw, z⟩
    exact ⟨by omega, hw, (hC w h2 hw).2.mpr (zr_PF.mp z)⟩
  · rintro ⟨a1, hw, z⟩
    have h2 : 2 ≤ w := by
      rcases Nat.lt_or_ge w 2 with y | y
      · have e : w = 1 := by omega
        subst e
        omega
      · exact y
    exact ⟨h2, hw, zr_PF.mpr ((hC w h2 hw).2.mp z)⟩
theorem zl_new {N I C F T acc r s : Nat} {LG' SZ' NU' FI' LA' FO FO' LB W : Nat → Nat}
    (hFI : ∀ q, zx_b (FI' (s * 16 + r)) q ↔ zx_b I q ∨ zx_b C q) (hLA : LA' (s * 16 + r) = acc)
    (hFO : ∀ p q, p < 16 → (zx_b (FO' (s * 16 + p)) q ↔ zx_b (FO (s * 16 + p)) q ∨ (zx_b F p ∧ zx_b T q)))
    (hC : ∀ w, 2 ≤ w → w < N → zm_C (W w) (fun h => zr_F (zx_E I C F T FO s) (zx_lb LB s) (zx_b acc) h w))
    (h1 : NU' (s * 16 + r) ≠ 0 ↔ 1 ≤ W 1) (hG : ∀ w, 1 ≤ w → w < N → (zy_h LG' r s w = true ↔ 1 ≤ W w))
    (cl : zl_C SZ' FI' LA' FO' s r) : zl_A N LG' SZ' NU' FI' LA' FO' LB s r := by
  refine ⟨cl, fun w w1 wN => ?_⟩
  rw [hG w w1 wN]
  rcases Nat.lt_or_ge w 2 with y | y
  · have e : w = 1 := by omega
    subst e
    rw [← h1]
    exact zr_L1
  · rw [(hC w y wN).1]
    unfold zl_L zl_D
    rw [hLA]
    refine zr_LF (fun q c h => zx_lb16 q c h) ?_ y
    intro p q
    unfold zl_G
    rw [zl_crK]
    by_cases h16 : p = 16
    · subst h16
      rw [zw_G16, hFI]
      unfold zx_in
      rw [if_pos rfl]
      constructor
      · rintro (e | e)
        · exact Or.inl e
        · exact Or.inr (Or.inl ⟨rfl, e⟩)
      · rintro (e | e | e)
        · exact Or.inl e
        · exact Or.inr e.2
        · exact absurd e.1.1 (by decide)
    · rw [zw_Gn h16]
      unfold zx_in zl_fo
      rw [if_neg h16]
      by_cases hp : p < 16
      · rw [if_pos hp, hFO p q hp]
        constructor
        · rintro ⟨_, e | e⟩
          · exact Or.inl e
          · exact Or.inr (Or.inr e)
        · rintro (e | e | e)
          · exact ⟨hp, Or.inl e⟩
          · exact absurd e.1 h16
          · exact ⟨hp, Or.inr e⟩
      · rw [if_neg hp]
        constructor
        · rintro ⟨e, _⟩
          exact absurd e hp
        · rintro (e | e | e)
          · exact absurd e (zl_b0 q)
          · exact absurd e.1 h16
          · exact absurd e.1.1 hp
end
section
/-! the nodes: kinds, children, languages by the word lists; the span tables -/
def zt_leaf (LB LG : Nat → Nat) (s n m : Nat) : Prop :=
  LB (s * 16 + n) = m ∧ ∀ w, 1 ≤ w → w < 512 → (zy_h LG n s w = true ↔ (m = 0 ∧ w = 1) ∨ (m.testBit 0 = true ∧ w = 2) ∨ (m.testBit 1 = true ∧ w = 3))
def zt_one (LF SZ SC : Nat → Nat) (n : Nat) : Prop := 1 ≤ n ∧ LF n = n - 1 ∧ SC n = n - 1 ∧ SZ n = 1 + SZ (n - 1) ∧ 1 ≤ SZ (n - 1) ∧ SZ (n - 1) ≤ n
def zt_two (LF SZ SC : Nat → Nat) (n : Nat) : Prop := 1 ≤ n ∧ SC n = n - 1 ∧ LF n + SZ (n - 1) + 1 = n ∧ SZ n = 1 + SZ (LF n) + SZ (n - 1) ∧ 1 ≤ SZ (n - 1) ∧ 1 ≤ SZ (LF n) ∧ SZ (LF n) ≤ LF n + 1
def zt_cat (N : Nat) (LG : Nat → Nat) (s n x y : Nat) : Prop := ∀ w, 1 ≤ w → w < N → (zy_h LG n s w = true ↔ ∃ k, zy_h LG x s (w / 2 ^ k) = true ∧ zy_h LG y s (zc_tl w k) = true)
def zt_uni (N : Nat) (LG : Nat → Nat) (s n x y : Nat) : Prop := ∀ w, 1 ≤ w → w < N → (zy_h LG n s w = true ↔ zy_h LG x s w = true ∨ zy_h LG y s w = true)
def zt_sta (N : Nat) (LG : Nat → Nat) (s n : Nat) : Prop := zy_h LG (n - 1) s 1 = false ∧ ∀ w, 1 ≤ w → w < N → (zy_h LG n s w = true ↔ w = 1 ∨ ∃ k, zy_h LG (n - 1) s (w / 2 ^ k) = true ∧ zy_h LG n s (zc_tl w k) = true)
def zt_era (N : Nat) (LG : Nat → Nat) (n : Nat) : Prop := (∀ w, 1 ≤ w → w < N → zy_h LG n 0 w = zy_h LG (n - 1) 0 w) ∧ ∀ w, 1 ≤ w → w < N → (zy_h LG n 1 w = true ↔ w = 1)
def zt_N (N : Nat) (KD AG LF SZ SC LB LG : Nat → Nat) (n : Nat) : Prop :=
  (KD n = 0 ∧ SZ n = 1 ∧ AG n < 4 ∧ zt_leaf LB LG 0 n (AG n) ∧ zt_leaf LB LG 1 n (AG n) ∧ LF n = 0 ∧ SC n = 0) ∨
  (KD n = 1 ∧ SZ n = 1 ∧ AG n < 2 ∧ zt_leaf LB LG 0 n 0 ∧ zt_leaf LB LG 1 n (2 ^ AG n) ∧ LF n = 0 ∧ SC n = 0) ∨
  (KD n = 2 ∧ zt_one LF SZ SC n ∧ 1 ≤ AG n ∧ AG n < N ∧ zt_era N LG n) ∨
  (KD n = 3 ∧ zt_two LF SZ SC n ∧ zt_cat N LG 0 n (LF n) (n - 1) ∧ zt_cat N LG 1 n (LF n) (n - 1)) ∨
  (KD n = 4 ∧ zt_two LF SZ SC n ∧ zt_cat N LG 0 n (LF n) (n - 1) ∧ zt_cat N LG 1 n (n - 1) (LF n)) ∨
  (KD n = 5 ∧ zt_two LF SZ SC n ∧ zt_uni N LG 0 n (LF n) (n - 1) ∧ zt_uni N LG 1 n (LF n) (n - 1)) ∨
  (KD n = 6 ∧ zt_one LF SZ SC n ∧ zt_sta N LG 0 n ∧ zt_sta N LG 1 n)
theorem zt_K6 {N : Nat} {KD AG LF SZ SC LB LG : Nat → Nat} {n : Nat} (h : zt_N N KD AG LF SZ SC LB LG n) : KD n < 7 := by
  rcases h with h | h | h | h | h | h | h <;> (have := h.1; omega)
theorem zt_sz {N : Nat} {KD AG LF SZ SC LB LG : Nat → Nat} {n : Nat} (h : zt_N N KD AG LF SZ SC LB LG n) : 1 ≤ SZ n ∧ SZ n ≤ n + 1 := by
  rcases h with h | h | h | h | h | h | h
  · have := h.2.1; omega
  · have := h.2.1; omega
  · obtain ⟨_, ⟨h1, h2, h3, h4, h5, h6⟩, _⟩ := h; omega
  · obtain ⟨_, ⟨h1, h2, h3, h4, h5, h6, h7⟩, _⟩ := h; omega
  · obtain ⟨_, ⟨h1, h2, h3, h4, h5, h6, h7⟩, _⟩ := h; omega
  · obtain ⟨_, ⟨h1, h2, h3, h4, h5, h6, h7⟩, _⟩ := h; omega
  · obtain ⟨_, ⟨h1, h2, h3, h4, h5, h6⟩, _⟩ := h; omega
/-- a node has no child, one, or two -/
theorem zt_ar {N : Nat} {KD AG LF SZ SC LB LG : Nat → Nat} {n : Nat} (h : zt_N N KD AG LF SZ SC LB LG n) : (KD n < 2 ∧ SZ n = 1) ∨ zt_one LF SZ SC n ∨ zt_two LF SZ SC n := by
  rcases h with h | h | h | h | h | h | h
  · exact Or.inl ⟨by omega, h.2.1⟩
  · exact Or.inl ⟨by omega, h.2.1⟩
  · exact Or.inr (Or.inl h.2.1)
  · exact Or.inr (Or.inr h.2.1)
  · exact Or.inr (Or.inr h.2.1)
  · exact Or.inr (Or.inr h.2.1)
  · exact Or.inr (Or.inl h.2.1)
/-- subtrees are nested -/
theorem zt_nest {N us : Nat} {KD AG LF SZ SC LB LG : Nat → Nat} (h : ∀ n, n < us → zt_N N KD AG LF SZ SC LB LG n) : ∀ r, r < us → ∀ n, r + 1 ≤ n + SZ r → n ≤ r → r + SZ n ≤ n + SZ r := by
  intro r
  induction r using Nat.strongRecOn with
  | ind r ih =>
    intro hr n h1 h2
    by_cases e : n = r
    · subst e; omega
    · rcases zt_ar (h r hr) with z | ⟨z1, z2, z3, z4, z5, z6⟩ | ⟨z1, z2, z3, z4, z5, z6, z7⟩
      · omega
      · have := ih (r - 1) (by omega) (by omega) n (by omega) (by omega)
        omega
      · rcases Nat.lt_or_ge n (r - SZ (r - 1)) with y | y
        · have := ih (LF r) (by omega) (by omega) n (by omega) (by omega)
          omega
        · have := ih (r - 1) (by omega) (by omega) n (by omega) (by omega)
          omega
/-- one entry of a span table is right -/
def zt_e (LG : Nat → Nat) (W len s n i m : Nat) : Prop := m < 65536 ∧ ∀ j, j ≤ len → m.testBit j = (decide (i ≤ j) && zy_h LG n s (zc_sub W len i j))
def zt_ix (s n i : Nat) : Nat := (s * 16 + n) * 9 + i
def zt_T (LG EN : Nat → Nat) (W len s lo hi : Nat) : Prop := ∀ n, lo ≤ n → n ≤ hi → ∀ i, i ≤ len → zt_e LG W len s n i (EN (zt_ix s n i))
/-- the ends of x followed by y -/
def zt_th (EN : Nat → Nat) (s x y i : Nat) : Nat → Nat
  | 0 => 0
  | c + 1 => if (EN (zt_ix s x i)).testBit (i + c) = true then zt_th EN s x y i c ||| EN (zt_ix s y (i + c)) else zt_th EN s x y i c
theorem zt_th_t {EN : Nat → Nat} {s x y i t : Nat} : ∀ c, (zt_th EN s x y i c).testBit t = true ↔ ∃ j, i ≤ j ∧ j < i + c ∧ (EN (zt_ix s x i)).testBit j = true ∧ (EN (zt_ix s y j)).testBit t = true
  | 0 => by
    constructor
    · intro h
      rw [show zt_th EN s x y i 0 = 0 from rfl, Nat.zero_testBit] at h
      cases h
    · rintro ⟨j, h1, h2, _⟩
      omega
  | c + 1 => by
    have ih := zt_th_t (EN := EN) (s := s) (x := x) (y := y) (i := i) (t := t) c
    unfold zt_th
    by_cases z : (EN (zt_ix s x i)).testBit (i + c) = true
    · rw [if_pos z, Nat.testBit_or, Bool.or_eq_true, ih]
      constructor
      · rintro (⟨j, h1, h2, h3, h4⟩ | h)
        · exact ⟨j, h1, by omega, h3, h4⟩
        · exact ⟨i + c, by omega, by omega, z, h⟩
      · rintro ⟨j, h1, h2, h3, h4⟩
        by_cases e : j = i + c
        · subst e
          exact Or.inr h4
        · exact Or.inl ⟨j, h1, by omega, h3, h4⟩
    · rw [if_neg z, ih]
      constructor
      · rintro ⟨j, h1, h2, h3, h4⟩
        exact ⟨j, h1, by omega, h3, h4⟩
      · rintro ⟨j, h1, h2, h3, h4⟩
        by_cases e : j = i + c
        · subst e
          exact absurd h3 z
        · exact ⟨j, h1, by omega, h3, h4⟩
theorem zt_th_b {EN : Nat → Nat} {s x y i : Nat} : ∀ c, (∀ j, i ≤ j → j < i + c → (EN (zt_ix s x i)).testBit j = true → EN (zt_ix s y j) < 65536) → zt_th EN s x y i c < 65536
  | 0, _ => by show 0 < 65536; omega
  | c + 1, h => by
    have ih := zt_th_b (EN := EN) (s := s) (x := x) (y := y) (i := i) c (fun j h1 h2 h3 => h j h1 (by omega) h3)
    unfold zt_th
    split
    · rename_i z
      exact za_or16 ih (h (i + c) (by omega) (by omega) z)
    · exact ih
theorem zt_bool {a b : Bool} (h : a = true ↔ b = true) : a = b := by
  cases a <;> cases b <;> simp_all
/-- the middle of a cut -/
theorem zt_cut {LG : Nat → Nat} {W len s x y i t : Nat} (h1 : i ≤ t) (h2 : t ≤ len) : (∃ k, zy_h LG x s (zc_sub W len i t / 2 ^ k) = true ∧ zy_h LG y s (zc_tl (zc_sub W len i t) k) = true) ↔ ∃ j, i ≤ j ∧ j ≤ t ∧ zy_h LG x s (zc_sub W len i j) = true ∧ zy_h LG y s (zc_sub W len j t) = true := by
  constructor
  · rintro ⟨k, a, b⟩
    rcases Nat.lt_or_ge (t - i) k with z | z
    · rw [zc_sub_big z, zy_h0] at a
      cases a
    · have e : k = t - (t - k) := by omega
      rw [e, zc_sub_div (by omega) (by omega) h2] at a
      rw [e, zc_sub_tl (by omega) (by omega)] at b
      exact ⟨t - k, by omega, by omega, a, b⟩
  · rintro ⟨j, j1, j2, a, b⟩
    refine ⟨t - j, ?_, ?_⟩
    · rw [zc_sub_div j1 j2 h2]
      exact a
    · rw [zc_sub_tl j1 j2]
      exact b
theorem zt_e_thr {LG EN : Nat → Nat} {W len s x y i N : Nat} (hN : ∀ j, j ≤ len → zc_sub W len i j < N) (hi : i ≤ len) (hx : zt_e LG W len s x i (EN (zt_ix s x i)))
    (hy : ∀ j, i ≤ j → j ≤ len → zy_h LG x s (zc_sub W len i j) = true → zt_e LG W len s y j (EN (zt_ix s y j))) :
    zt_th EN s x y i (len + 1 - i) < 65536 ∧ ∀ t, t ≤ len → ((zt_th EN s x y i (len + 1 - i)).testBit t = true ↔ i ≤ t ∧ ∃ k, zy_h LG x s (zc_sub W len i t / 2 ^ k) = true ∧ zy_h LG y s (zc_tl (zc_sub W len i t) k) = true) := by
  have bx : ∀ j, i ≤ j → j ≤ len → (EN (zt_ix s x i)).testBit j = zy_h LG x s (zc_sub W len i j) := by
    intro j h1 h2
    rw [hx.2 j h2, decide_eq_true h1, Bool.true_and]
  constructor
  · apply zt_th_b
    intro j h1 h2 h3
    rw [bx j h1 (by omega)] at h3
    exact (hy j h1 (by omega) h3).1
  · intro t ht
    rw [zt_th_t]
    constructor
    · rintro ⟨j, h1, h2, h3, h4⟩
      rw [bx j h1 (by omega)] at h3
      rw [(hy j h1 (by omega) h3).2 t ht, Bool.and_eq_true, decide_eq_true_iff] at h4
      exact ⟨by omega, (zt_cut (by omega) ht).mpr ⟨j, h1, h4.1, h3, h4.2⟩⟩
    · rintro ⟨h0, hk⟩
      obtain ⟨j, h1, h2, h3, h4⟩ := (zt_cut h0 ht).mp hk
      refine ⟨j, h1, by omega, by rw [bx j h1 (by omega)]; exact h3, ?_⟩
      rw [(hy j h1 (by omega) h3).2 t ht, Bool.and_eq_true, decide_eq_true_iff]
      exact ⟨h2, h4⟩
theorem zt_p2b {i j : Nat} : (2 ^ i).testBit j = decide (i = j) := Nat.testBit_two_pow
theorem zt_p2l {i : Nat} (h : i ≤ 10) : 2 ^ i < 65536 := by
  have : 2 ^ i ≤ 2 ^ 10 := za_p2 h
  omega
/-- a single end at the start -/
theorem zt_e_one {LG : Nat → Nat} {W len s n i : Nat} (hl : len ≤ 8) (hi : i ≤ len) (h : ∀ j, i ≤ j → j ≤ len → (zy_h LG n s (zc_sub W len i j) = true ↔ i = j)) : zt_e LG W len s n i (2 ^ i) := by
  refine ⟨zt_p2l (by omega), fun j hj => ?_⟩
  rw [zt_p2b]
  apply zt_bool
  rw [decide_eq_true_iff, Bool.and_eq_true, decide_eq_true_iff]
  constructor
  · intro e
    exact ⟨by omega, (h j (by omega) hj).mpr e⟩
  · rintro ⟨a, b⟩
    exact (h j a hj).mp b
theorem zt_sub1 {W len i : Nat} (h : i < len) : zc_sub W len i (i + 1) = 2 + W / 2 ^ (len - 1 - i) % 2 := by
  unfold zc_sub
  rw [Nat.add_sub_cancel_left, show len - (i + 1) = len - 1 - i by omega]
  unfold zc_tl
  rw [Nat.pow_one]
theorem zt_sub2 {W len i j : Nat} (h : i + 2 ≤ j) : 4 ≤ zc_sub W len i j := by
  have := zc_sub_ge W len i j
  have : 2 ^ 2 ≤ 2 ^ (j - i) := za_p2 (by omega)
  omega
theorem zt_e_leaf {LB LG : Nat → Nat} {W len s n i m : Nat} (hl : len ≤ 8) (hi : i ≤ len) (h : zt_leaf LB LG s n m) (hm : m < 4) :
    zt_e LG W len s n i (if m = 0 then 2 ^ i else if i < len then (if m.testBit (W / 2 ^ (len - 1 - i) % 2) = true then 2 ^ (i + 1) else 0) else 0) := by
  have hb : ∀ j, j ≤ len → zc_sub W len i j < 512 := fun j hj => zc_sub_le (L := 8) (by omega)
  by_cases z : m = 0
  · rw [if_pos z]
    apply zt_e_one hl hi
    intro j h1 h2
    rw [h.2 _ (zc_sub_pos _ _ _ _) (hb j h2), zc_sub_one h1, z]
    simp
  · rw [if_neg z]
    by_cases y : i < len
    · rw [if_pos y]
      have key : ∀ j, i ≤ j → j ≤ len → (zy_h LG n s (zc_sub W len i j) = true ↔ i + 1 = j ∧ m.testBit (W / 2 ^ (len - 1 - i) % 2) = true) := by
        intro j h1 h2
        rw [h.2 _ (zc_sub_pos _ _ _ _) (hb j h2)]
        rcases (show j = i ∨ j = i + 1 ∨ i + 2 ≤ j by omega) with e | e | e
        · subst e
          rw [zc_sub_ii]
          constructor
          · rintro (q | q | q)
            · exact absurd q.1 z
            · omega
            · omega
          · intro q; omega
        · subst e
          rw [zt_sub1 y]
          rcases Nat.mod_two_eq_zero_or_one (W / 2 ^ (len - 1 - i)) with e0 | e0
          · rw [e0]
            constructor
            · rintro (q | q | q)
              · omega
              · exact ⟨rfl, q.1⟩
              · omega
            · intro q
              exact Or.inr (Or.inl ⟨q.2, rfl⟩)
          · rw [e0]
            constructor
            · rintro (q | q | q)
              · omega
              · omega
              · exact ⟨rfl, q.1⟩
            · intro q
              exact Or.inr (Or.inr ⟨q.2, rfl⟩)
        · have := zt_sub2 (W := W) (len := len) e
          constructor
          · rintro (q | q | q) <;> omega
          · intro q; omega
      by_cases x : m.testBit (W / 2 ^ (len - 1 - i) % 2) = true
      · rw [if_pos x]
        refine ⟨zt_p2l (by omega), fun j hj => ?_⟩
        rw [zt_p2b]
        apply zt_bool
        rw [decide_eq_true_iff, Bool.and_eq_true, decide_eq_true_iff]
        constructor
        · intro e
          exact ⟨by omega, (key j (by omega) hj).mpr ⟨e, x⟩⟩
        · rintro ⟨a, b⟩
          exact ((key j a hj).mp b).1
      · rw [if_neg x]
        refine ⟨by omega, fun j hj => ?_⟩
        rw [Nat.zero_testBit]
        apply zt_bool
        rw [Bool.and_eq_true, decide_eq_true_iff]
        constructor
        · intro e; cases e
        · rintro ⟨a, b⟩
          exact absurd ((key j a hj).mp b).2 x
    · rw [if_neg y]
      refine ⟨by omega, fun j hj => ?_⟩
      rw [Nat.zero_testBit]
      apply zt_bool
      rw [Bool.and_eq_true, decide_eq_true_iff]
      constructor
      · intro e; cases e
      · rintro ⟨a, b⟩
        have e : j = i := by omega
        subst e
        rw [h.2 _ (zc_sub_pos _ _ _ _) (hb j hj), zc_sub_ii] at b
        rcases b with q | q | q
        · exact absurd q.1 z
        · omega
        · omega
end
section
/-! X: the pair search, walked -/
theorem za_e0 {x : Nat} (h : x < 2147483648) : nI x = 0 ↔ x = 0 := za_eq (b := 0) h (by omega)
theorem za_le0 {x : Nat} (h : x < 2147483648) : nI x ≤ 0 ↔ x = 0 := by
  have := za_le (a := x) (b := 0) h (by omega)
  rw [show (0 : Int32) = nI 0 from rfl, this]
  omega
theorem za_ix (a b : Nat) : nI a * 16 + nI b = nI (a * 16 + b) := by
  show nI a * nI 16 + nI b = _
  rw [za_mul, za_add]
theorem za_i1 (a : Nat) : nI a + 1 = nI (a + 1) := nI_1 a
section
variable {kC kI kE kN kS kU kT nl ll us dp tk ot : Int32} {rt kd ag lf sz lb nu fi la fo be ne en wd ln tn tv te ts tz : Nat → Int32}
theorem zx_clear_l {post : SX → Prop} (hp : ∀ NE', (∀ j, j < 512 → NE' j = 0) → post (kC, kI, kE, kN, kS, kU, kT, nl, ll, us, dp, tk, ot, rt, kd, ag, lf, sz, lb, nu, fi, la, fo, be, za_n NE', en, wd, ln, tn, tv, te, ts, tz)) :
    ∀ n i NE, i ≤ 512 → 512 - i < n → (∀ j, j < i → NE j = 0) → wX_clearNext_2 post kC kI kE kN kS kU kT nl ll us dp tk ot n (nI i) rt kd ag lf sz lb nu fi la fo be (za_n NE) en wd ln tn tv te ts tz := by
  intro n
  induction n with
  | zero => intro i NE h1 h2; omega
  | succ n ih =>
    intro i NE h1 h2 h3
    simp only [wX_clearNext_2]
    refine za_br (za_le (a := 512) (b := i) (by omega) (by omega)) (fun h => hp NE (fun j hj => h3 j (by omega))) (fun h => ?_)
    refine ⟨vp_in_nI (by omega) (by omega), ?_⟩
    refine nm_r (e' := za_n (za_u NE i 0)) (by rw [za_cl (by omega)]; exact za_upd NE i 0) ?_
    refine nm_r (nI_1 i) ?_
    refine ih (i + 1) (za_u NE i 0) (by omega) (by omega) ?_
    intro j hj
    by_cases e : j = i
    · rw [e, za_us]
    · rw [za_un e]
      exact h3 j (by omega)
theorem zx_clear {post : SX → Prop} {NE : Nat → Nat} (hp : ∀ NE', (∀ j, j < 512 → NE' j = 0) → post (kC, kI, kE, kN, kS, kU, kT, nl, ll, us, dp, tk, ot, rt, kd, ag, lf, sz, lb, nu, fi, la, fo, be, za_n NE', en, wd, ln, tn, tv, te, ts, tz)) : wpX_clearNext post (kC, kI, kE, kN, kS, kU, kT, nl, ll, us, dp, tk, ot, rt, kd, ag, lf, sz, lb, nu, fi, la, fo, be, za_n NE, en, wd, ln, tn, tv, te, ts, tz) :=
  Exists.intro 513 (zx_clear_l hp 513 0 NE (by omega) (by omega) (fun j hj => absurd hj (Nat.not_lt_zero j)))
def zx_of (NE : Nat → Nat) (k v : Nat) : Nat → Nat := if NE k = 0 ∨ v < NE k then za_u NE k v else NE
theorem zx_of_v (NE : Nat → Nat) (k v j : Nat) : zx_of NE k v j = if j = k then (if NE k = 0 ∨ v < NE k then v else NE k) else NE j := by
  unfold zx_of
  by_cases c : NE k = 0 ∨ v < NE k
  · rw [if_pos c, if_pos c]
    rfl
  · rw [if_neg c, if_neg c]
    by_cases e : j = k
    · rw [if_pos e, e]
    · rw [if_neg e]
theorem zx_of_M {NE : Nat → Nat} {S : Nat → Nat → Prop} {R : Nat → Prop} {k v : Nat} (h : zx_MA NE S) (hv : zm_M v R) (h0 : v ≠ 0) : zx_MA (zx_of NE k v) (fun j w => S j w ∨ (j = k ∧ R w)) := by
  intro j hj
  rw [zx_of_v]
  by_cases e : j = k
  · subst e
    rw [if_pos rfl]
    exact zm_cg (zm_add (h j hj) hv h0) (fun w => ⟨fun z => z.elim Or.inl (fun z => Or.inr ⟨rfl, z⟩), fun z => z.elim Or.inl (fun z => Or.inr z.2)⟩)
  · rw [if_neg e]
    exact zm_cg (h j hj) (fun w => ⟨Or.inl, fun z => z.elim id (fun z => absurd z.1 e)⟩)
theorem zx_sf82 {post : SX → Prop} {J : Int32 → (Nat → Int32) → (Nat → Int32) → (Nat → Int32) → (Nat → Int32) → (Nat → Int32) → (Nat → Int32) → (Nat → Int32) → (Nat → Int32) → (Nat → Int32) → (Nat → Int32) → (Nat → Int32) → (Nat → Int32) → (Nat → Int32) → (Nat → Int32) → (Nat → Int32) → (Nat → Int32) → (Nat → Int32) → (Nat → Int32) → (Nat → Int32) → (Nat → Int32) → Prop}
    {x1 x2 x3 x4 x5 : Int32} {q k z0 z1 : Nat} {NE : Nat → Nat} (hk : k < 512) (hv : z1 + z0 < 2147483648) (hN : NE k < 2147483648) (h : J (nI (q + 1)) rt kd ag lf sz lb nu fi la fo be (za_n (zx_of NE k (z1 + z0))) en wd ln tn tv te ts tz) :
    wX_spreadFrom_82 post J x1 x2 x3 x4 x5 (nI q) (nI k) (nI z0) (nI z1) kC kI kE kN kS kU kT nl ll us dp tk ot rt kd ag lf sz lb nu fi la fo be (za_n NE) en wd ln tn tv te ts tz := by
  unfold wX_spreadFrom_82
  refine nm_r (za_add z1 z0) ?_
  rw [za_cl (show k < 2147483648 by omega)]
  have hi : vp_in (nI k) 512 := vp_in_nI hk (by omega)
  have e1 : zx_of NE k (z1 + z0) = if NE k = 0 ∨ z1 + z0 < NE k then za_u NE k (z1 + z0) else NE := rfl
  refine ⟨hi, za_br (za_e0 hN) (fun c => ⟨hi, nm_r (za_upd NE k (z1 + z0)) (nm_r (nI_1 q) ?_)⟩) (fun c => ⟨hi, za_br (za_le hN hv) (fun c2 => nm_r (nI_1 q) ?_) (fun c2 => ⟨hi, nm_r (za_upd NE k (z1 + z0)) (nm_r (nI_1 q) ?_)⟩)⟩)⟩
  · rw [e1, if_pos (Or.inl c)] at h
    exact h
  · rw [e1, if_neg (by omega)] at h
    exact h
  · rw [e1, if_pos (by omega)] at h
    exact h
/-- offers of one p up to q0 -/
def zx_O1 (LB : Nat → Nat) (s p qs : Nat) (f : Bool) (code q0 k v : Nat) : Prop :=
  ∃ q c, q < q0 ∧ zx_b qs q ∧ zx_lb LB s p c ∧ zx_lb LB s q c ∧ k = zx_st f p q ∧ v = 2 * code + c
theorem zx_sf_l {post : SX → Prop} {LB : Nat → Nat} {S : Nat → Nat → Prop} {s p qs code : Nat} {f : Bool} (hs : s < 2) (hp : p < 16) (hq : qs < 65536) (hc0 : 1 ≤ code) (hc : code < 16384) (hLB : ∀ i, LB i < 4)
    (hpost : ∀ NE', zx_MA NE' (fun k v => S k v ∨ zx_O1 LB s p qs f code 16 k v) → (∀ k, k < 512 → NE' k < 65536) → post (kC, kI, kE, kN, kS, kU, kT, nl, ll, us, dp, tk, ot, rt, kd, ag, lf, sz, za_n LB, nu, fi, la, fo, be, za_n NE', en, wd, ln, tn, tv, te, ts, tz)) :
    ∀ n q NE, q ≤ 16 → 16 - q < n → zx_MA NE (fun k v => S k v ∨ zx_O1 LB s p qs f code q k v) → (∀ k, k < 512 → NE k < 65536) →
      wX_spreadFrom_3 post (nI s) (nI p) (nI qs) (nI f.toNat) (nI code) kC kI kE kN kS kU kT nl ll us dp tk ot n (nI q) rt kd ag lf sz (za_n LB) nu fi la fo be (za_n NE) en wd ln tn tv te ts tz := by
  have hf : f.toNat < 2 := Bool.toNat_lt f
  intro n
  induction n with
  | zero => intro q NE h1 h2; omega
  | succ n ih =>
    intro q NE h1 h2 h3 h4
    simp only [wX_spreadFrom_3]
    refine za_br (za_le (a := 16) (b := q) (by omega) (by omega)) (fun h => ?_) (fun h => ?_)
    · have e : q = 16 := by omega
      subst e
      exact hpost NE h3 h4
    have hq16 : q < 16 := by omega
    rw [za_ix, za_ix, za_cl (show s * 16 + p < 2147483648 by omega), za_cl (show s * 16 + q < 2147483648 by omega)]
    refine ⟨vp_in_nI (by omega) (by omega), vp_in_nI (by omega) (by omega), nm_r (nx_and _ _) ?_⟩
    have skip : (∀ c, ¬ (zx_b qs q ∧ zx_lb LB s p c ∧ zx_lb LB s q c)) → wX_spreadFrom_3 post (nI s) (nI p) (nI qs) (nI f.toNat) (nI code) kC kI kE kN kS kU kT nl ll us dp tk ot n (nI (q + 1)) rt kd ag lf sz (za_n LB) nu fi la fo be (za_n NE) en wd ln tn tv te ts tz := by
      intro hn
      refine ih (q + 1) NE (by omega) (by omega) (fun k hk => zm_cg (h3 k hk) fun v => ?_) h4
      constructor
      · rintro (z | ⟨q', c, z, z2⟩)
        · exact Or.inl z
        · exact Or.inr ⟨q', c, by omega, z2⟩
      · rintro (z | ⟨q', c, z, z2, z3, z4, z5⟩)
        · exact Or.inl z
        · by_cases e : q' = q
          · subst e
            exact absurd ⟨z2, z3, z4⟩ (hn c)
          · exact Or.inr ⟨q', c, by omega, z2, z3, z4, z5⟩
    refine za_br0 (za_bit (by omega) (by omega)) (fun hb => nm_r (nI_1 q) (skip fun c z => ?_)) (fun hb => ?_)
    · have := z.1.2
      rw [hb] at this
      cases this
    have hm4 : LB (s * 16 + p) &&& LB (s * 16 + q) < 4 := Nat.lt_of_le_of_lt Nat.and_le_left (hLB _)
    have hm : ∀ c, (LB (s * 16 + p) &&& LB (s * 16 + q)).testBit c = true ↔ (LB (s * 16 + p)).testBit c = true ∧ (LB (s * 16 + q)).testBit c = true := by
      intro c
      rw [Nat.testBit_and, Bool.and_eq_true]
    generalize LB (s * 16 + p) &&& LB (s * 16 + q) = m at hm4 hm
    refine za_br (za_e0 (by omega)) (fun h0 => nm_r (nI_1 q) (skip fun c z => ?_)) (fun h0 => ?_)
    · have := (hm c).mpr ⟨z.2.1.2.2, z.2.2.2.2⟩
      rw [h0, Nat.zero_testBit] at this
      cases this
    have ek : nI f.toNat * 256 + nI p * 16 + nI q = nI (zx_st f p q) := by
      show nI f.toNat * nI 256 + nI p * nI 16 + nI q = _
      rw [za_mul, za_mul, za_add, za_add]
      rfl
    refine nm_r ek ?_
    have hk := zx_st_lt (f := f) hp hq16
    have e2 : (2 : Int32) * nI code = nI (2 * code) := za_mul 2 code
    rw [e2]
    have fin : ∀ z0, (z0 = 0 ↔ m.testBit 0 = true) → z0 < 2 → zx_MA (zx_of NE (zx_st f p q) (2 * code + z0)) (fun k v => S k v ∨ zx_O1 LB s p qs f code (q + 1) k v) := by
      intro z0 hz hz2
      have t1 : m.testBit 0 = true ∨ m.testBit 1 = true := by
        have : ∀ m, m < 4 → m ≠ 0 → m.testBit 0 = true ∨ m.testBit 1 = true := by decide
        exact this m hm4 h0
      have hz1 : m.testBit z0 = true := by
        rcases (show z0 = 0 ∨ z0 = 1 by omega) with e | e
        · rw [e]
          exact hz.mp e
        · rw [e]
          rcases t1 with t | t
          · have := hz.mpr t
            omega
          · exact t
      have hM : zm_M (2 * code + z0) (fun v => ∃ c, zx_lb LB s p c ∧ zx_lb LB s q c ∧ v = 2 * code + c) := by
        constructor
        · rintro v ⟨c, l1, l2, rfl⟩
          refine ⟨by omega, ?_⟩
          rcases (show c = 0 ∨ c = 1 by have := l1.2.1; omega) with e | e
          · subst e
            have := hz.mpr ((hm 0).mpr ⟨l1.2.2, l2.2.2⟩)
            omega
          · omega
        · intro _
          have := (hm z0).mp hz1
          exact ⟨z0, ⟨hp, hz2, this.1⟩, ⟨hq16, hz2, this.2⟩, rfl⟩
      intro k hk
      refine zm_cg (zx_of_M h3 hM (by omega) k hk) fun v => ?_
      constructor
      · rintro ((z | ⟨q', c, z, z2⟩) | ⟨e, c, l1, l2, ev⟩)
        · exact Or.inl z
        · exact Or.inr ⟨q', c, by omega, z2⟩
        · exact Or.inr ⟨q, c, by omega, ⟨hq16, hb⟩, l1, l2, e, ev⟩
      · rintro (z | ⟨q', c, z, z2, z3, z4, z5, z6⟩)
        · exact Or.inl (Or.inl z)
        · by_cases e : q' = q
          · subst e
            exact Or.inr ⟨z5, c, z3, z4, z6⟩
          · exact Or.inl (Or.inr ⟨q', c, by omega, z2, z3, z4, z5, z6⟩)
    have bnd : ∀ z0, z0 < 2 → ∀ k, k < 512 → zx_of NE (zx_st f p q) (2 * code + z0) k < 65536 := by
      intro z0 hz k hk
      rw [zx_of_v]
      have := h4 k hk
      have := h4 _ (zx_st_lt (f := f) hp hq16)
      split
      · split <;> omega
      · omega
    have hN := h4 _ hk
    refine za_br (d := m % 2 = 0) (by rw [show (1 : Int32) = nI 1 from rfl, za_1 (by omega)]; exact za_e0 (by omega)) (fun hb0 => ?_) (fun hb0 => ?_)
    · exact zx_sf82 hk (z0 := 1) (by omega) (by omega) (ih (q + 1) _ (by omega) (by omega) (fin 1 (by
        have : m.testBit 0 = false := by rw [Nat.testBit_zero]; exact decide_eq_false (by omega)
        rw [this]
        exact ⟨fun z => by omega, fun z => by cases z⟩) (by omega)) (bnd 1 (by omega)))
    · exact zx_sf82 hk (z0 := 0) (by omega) (by omega) (ih (q + 1) _ (by omega) (by omega) (fin 0 (by
        have : m.testBit 0 = true := by rw [Nat.testBit_zero]; exact decide_eq_true (by omega)
        rw [this]
        exact ⟨fun _ => rfl, fun _ => rfl⟩) (by omega)) (bnd 0 (by omega)))
theorem zx_sf {post : SX → Prop} {LB NE : Nat → Nat} {S : Nat → Nat → Prop} {s p qs code : Nat} {f : Bool} (hs : s < 2) (hp : p < 16) (hq : qs < 65536) (hc0 : 1 ≤ code) (hc : code < 16384) (hLB : ∀ i, LB i < 4)
    (h3 : zx_MA NE S) (h4 : ∀ k, k < 512 → NE k < 65536)
    (hpost : ∀ NE', zx_MA NE' (fun k v => S k v ∨ zx_O1 LB s p qs f code 16 k v) → (∀ k, k < 512 → NE' k < 65536) → post (kC, kI, kE, kN, kS, kU, kT, nl, ll, us, dp, tk, ot, rt, kd, ag, lf, sz, za_n LB, nu, fi, la, fo, be, za_n NE', en, wd, ln, tn, tv, te, ts, tz)) :
    wpX_spreadFrom post (kC, kI, kE, kN, kS, kU, kT, nl, ll, us, dp, tk, ot, rt, kd, ag, lf, sz, za_n LB, nu, fi, la, fo, be, za_n NE, en, wd, ln, tn, tv, te, ts, tz) (nI s) (nI p) (nI qs) (nI f.toNat) (nI code) :=
  Exists.intro 17 (zx_sf_l hs hp hq hc0 hc hLB hpost 17 0 NE (by omega) (by omega) (fun k hk => zm_cg (h3 k hk) fun v => ⟨Or.inl, fun z => z.elim id (fun ⟨_, _, z, _⟩ => absurd z (Nat.not_lt_zero _))⟩) h4)
end
end
section
/-! X: the pair search, walked: spread, advance, one level, the whole -/
section
variable {kC kI kE kN kS kU kT nl ll us dp tk ot : Int32} {rt kd ag lf sz lb nu fi la fo be ne en wd ln tn tv te ts tz : Nat → Int32}
def zx_O2 (LB : Nat → Nat) (s ps qs : Nat) (f : Bool) (code p0 k v : Nat) : Prop :=
  ∃ p, p < p0 ∧ zx_b ps p ∧ zx_O1 LB s p qs f code 16 k v
theorem zx_O2_O {LB : Nat → Nat} {s ps qs : Nat} {f : Bool} {code k v : Nat} : zx_O2 LB s ps qs f code 16 k v ↔ zx_O LB s ps qs f code k v := by
  constructor
  · rintro ⟨p, _, h1, q, c, _, h2, h3, h4, h5, h6⟩
    exact ⟨p, q, c, h1, h2, h3, h4, h5, h6⟩
  · rintro ⟨p, q, c, h1, h2, h3, h4, h5, h6⟩
    exact ⟨p, h1.1, h1, q, c, h2.1, h2, h3, h4, h5, h6⟩
theorem zx_sp_l {post : SX → Prop} {LB : Nat → Nat} {S : Nat → Nat → Prop} {s ps qs code : Nat} {f : Bool} (hs : s < 2) (hps : ps < 65536) (hq : qs < 65536) (hc0 : 1 ≤ code) (hc : code < 16384) (hLB : ∀ i, LB i < 4)
    (hpost : ∀ NE', zx_MA NE' (fun k v => S k v ∨ zx_O2 LB s ps qs f code 16 k v) → (∀ k, k < 512 → NE' k < 65536) → post (kC, kI, kE, kN, kS, kU, kT, nl, ll, us, dp, tk, ot, rt, kd, ag, lf, sz, za_n LB, nu, fi, la, fo, be, za_n NE', en, wd, ln, tn, tv, te, ts, tz)) :
    ∀ n p NE, p ≤ 16 → 16 - p < n → zx_MA NE (fun k v => S k v ∨ zx_O2 LB s ps qs f code p k v) → (∀ k, k < 512 → NE k < 65536) →
      wX_spread_12 post (nI s) (nI ps) (nI qs) (nI f.toNat) (nI code) n (nI p) kC kI kE kN kS kU kT nl ll us dp tk ot rt kd ag lf sz (za_n LB) nu fi la fo be (za_n NE) en wd ln tn tv te ts tz := by
  intro n
  induction n with
  | zero => intro p NE h1 h2; omega
  | succ n ih =>
    intro p NE h1 h2 h3 h4
    simp only [wX_spread_12]
    refine za_br (za_le (a := 16) (b := p) (by omega) (by omega)) (fun h => ?_) (fun h => ?_)
    · have e : p = 16 := by omega
      subst e
      exact hpost NE h3 h4
    have hp16 : p < 16 := by omega
    refine za_br0 (za_bit (by omega) (by omega)) (fun hb => nm_r (nI_1 p) ?_) (fun hb => ?_)
    · refine ih (p + 1) NE (by omega) (by omega) (fun k hk => zm_cg (h3 k hk) fun v => ?_) h4
      constructor
      · rintro (z | ⟨p', z, z2⟩)
        · exact Or.inl z
        · exact Or.inr ⟨p', by omega, z2⟩
      · rintro (z | ⟨p', z, z2, z3⟩)
        · exact Or.inl z
        · by_cases e : p' = p
          · subst e
            have := z2.2
            rw [hb] at this
            cases this
          · exact Or.inr ⟨p', by omega, z2, z3⟩
    · refine zx_sf (f := f) hs hp16 hq hc0 hc hLB h3 h4 (fun NE' hM hB => ?_)
      refine nm_r (nI_1 p) ?_
      refine ih (p + 1) NE' (by omega) (by omega) (fun k hk => zm_cg (hM k hk) fun v => ?_) hB
      constructor
      · rintro ((z | ⟨p', z, z2⟩) | z)
        · exact Or.inl z
        · exact Or.inr ⟨p', by omega, z2⟩
        · exact Or.inr ⟨p, by omega, ⟨hp16, hb⟩, z⟩
      · rintro (z | ⟨p', z, z2, z3⟩)
        · exact Or.inl (Or.inl z)
        · by_cases e : p' = p
          · subst e
            exact Or.inr z3
          · exact Or.inl (Or.inr ⟨p', by omega, z2, z3⟩)
theorem zx_sp {post : SX → Prop} {LB NE : Nat → Nat} {S : Nat → Nat → Prop} {s ps qs code : Nat} (f : Bool) (hs : s < 2) (hps : ps < 65536) (hq : qs < 65536) (hc0 : 1 ≤ code) (hc : code < 16384) (hLB : ∀ i, LB i < 4)
    (h3 : zx_MA NE S) (h4 : ∀ k, k < 512 → NE k < 65536)
    (hpost : ∀ NE', zx_MA NE' (fun k v => S k v ∨ zx_O LB s ps qs f code k v) → (∀ k, k < 512 → NE' k < 65536) → post (kC, kI, kE, kN, kS, kU, kT, nl, ll, us, dp, tk, ot, rt, kd, ag, lf, sz, za_n LB, nu, fi, la, fo, be, za_n NE', en, wd, ln, tn, tv, te, ts, tz)) :
    wpX_spread post (kC, kI, kE, kN, kS, kU, kT, nl, ll, us, dp, tk, ot, rt, kd, ag, lf, sz, za_n LB, nu, fi, la, fo, be, za_n NE, en, wd, ln, tn, tv, te, ts, tz) (nI s) (nI ps) (nI qs) (nI f.toNat) (nI code) := by
  refine za_br (za_e0 (x := ps) (by omega)) (fun h => ?_) (fun h => za_br (za_e0 (x := qs) (by omega)) (fun h' => ?_) (fun h' => ?_))
  · refine hpost NE (fun k hk => zm_cg (h3 k hk) fun v => ⟨Or.inl, ?_⟩) h4
    rintro (z | ⟨p, q, c, h1, _⟩)
    · exact z
    · subst h
      exact absurd h1 (zl_b0 p)
  · refine hpost NE (fun k hk => zm_cg (h3 k hk) fun v => ⟨Or.inl, ?_⟩) h4
    rintro (z | ⟨p, q, c, _, h1, _⟩)
    · exact z
    · subst h'
      exact absurd h1 (zl_b0 q)
  · refine Exists.intro 17 (zx_sp_l hs hps hq hc0 hc hLB (fun NE' hM hB => hpost NE' (fun k hk => zm_cg (hM k hk) fun v => ?_) hB) 17 0 NE (by omega) (by omega) (fun k hk => zm_cg (h3 k hk) fun v => ⟨Or.inl, fun z => z.elim id (fun ⟨_, z, _⟩ => absurd z (Nat.not_lt_zero _))⟩) h4)
    exact ⟨fun z => z.imp id zx_O2_O.mp, fun z => z.imp id zx_O2_O.mpr⟩
theorem zx_adv {post : SX → Prop} {LB NE : Nat → Nat} {S : Nat → Nat → Prop} {s pI pC qI qC code : Nat} (f : Bool) (hs : s < 2) (h1 : pI < 65536) (h2 : pC < 65536) (h5 : qI < 65536) (h6 : qC < 65536) (hc0 : 1 ≤ code) (hc : code < 16384) (hLB : ∀ i, LB i < 4)
    (h3 : zx_MA NE S) (h4 : ∀ k, k < 512 → NE k < 65536)
    (hpost : ∀ NE', zx_MA NE' (fun k v => S k v ∨ zx_Ad LB s pI pC qI qC f code k v) → (∀ k, k < 512 → NE' k < 65536) → post (kC, kI, kE, kN, kS, kU, kT, nl, ll, us, dp, tk, ot, rt, kd, ag, lf, sz, za_n LB, nu, fi, la, fo, be, za_n NE', en, wd, ln, tn, tv, te, ts, tz)) :
    wpX_advance post (kC, kI, kE, kN, kS, kU, kT, nl, ll, us, dp, tk, ot, rt, kd, ag, lf, sz, za_n LB, nu, fi, la, fo, be, za_n NE, en, wd, ln, tn, tv, te, ts, tz) (nI s) (nI pI) (nI pC) (nI qI) (nI qC) (nI f.toNat) (nI code) := by
  unfold wpX_advance
  refine zx_sp f hs h1 h5 hc0 hc hLB h3 h4 (fun NE1 m1 b1 => ?_)
  refine zx_sp f hs h2 h6 hc0 hc hLB m1 b1 (fun NE2 m2 b2 => ?_)
  refine zx_sp true hs h1 h6 hc0 hc hLB m2 b2 (fun NE3 m3 b3 => ?_)
  refine zx_sp true hs h2 h5 hc0 hc hLB m3 b3 (fun NE4 m4 b4 => ?_)
  refine hpost NE4 (fun k hk => zm_cg (m4 k hk) fun v => ?_) b4
  unfold zx_Ad
  constructor
  · rintro ((((z | z) | z) | z) | z)
    · exact Or.inl z
    · exact Or.inr (Or.inl z)
    · exact Or.inr (Or.inr (Or.inl z))
    · exact Or.inr (Or.inr (Or.inr (Or.inl z)))
    · exact Or.inr (Or.inr (Or.inr (Or.inr z)))
  · rintro (z | z | z | z | z)
    · exact Or.inl (Or.inl (Or.inl (Or.inl z)))
    · exact Or.inl (Or.inl (Or.inl (Or.inr z)))
    · exact Or.inl (Or.inl (Or.inr z))
    · exact Or.inl (Or.inr z)
    · exact Or.inr z
theorem za_acc {acc p q : Nat} (h : acc < 65536) (hp : p < 32) (hq : q < 32) : (((nI acc >>> (nI p &&& 31)) &&& (nI acc >>> (nI q &&& 31))) &&& 1 = 0) ↔ (acc.testBit p && acc.testBit q) = false := by
  have e : ((nI acc >>> (nI p &&& 31)) &&& (nI acc >>> (nI q &&& 31))) &&& 1 = nI ((acc / 2 ^ p &&& acc / 2 ^ q) % 2) := by
    show ((nI acc >>> (nI p &&& nI 31)) &&& (nI acc >>> (nI q &&& nI 31))) &&& nI 1 = _
    rw [za_31 hp, za_31 hq, za_shr (by omega) hp, za_shr (by omega) hq, nx_and, za_1]
    exact Nat.lt_of_le_of_lt Nat.and_le_left (za_dl _ _ (by omega))
  have t : (acc / 2 ^ p &&& acc / 2 ^ q).testBit 0 = (acc.testBit p && acc.testBit q) := by
    rw [Nat.testBit_and, Nat.testBit_div_two_pow, Nat.testBit_div_two_pow, Nat.zero_add, Nat.zero_add]
  rw [e, ← t, Nat.testBit_zero, za_e0 (by omega), decide_eq_false_iff_not]
  omega
theorem zx_la_l {post : Int32 → Prop} {NE : Nat → Nat} {acc : Nat} (ha : acc < 65536) (hB : ∀ k, k < 512 → NE k < 65536) (hpost : ∀ r, r < 65536 → zm_M r (zx_Ac NE acc 256) → post (nI r)) :
    ∀ n m r, m ≤ 256 → 256 - m < n → r < 65536 → zm_M r (zx_Ac NE acc m) → wX_leastAccepted_4 post (nI acc) kC kI kE kN kS kU kT nl ll us dp tk ot rt kd ag lf sz lb nu fi la fo be (za_n NE) en wd ln tn tv te ts tz n (nI r) (nI m) := by
  intro n
  induction n with
  | zero => intro m r h1 h2; omega
  | succ n ih =>
    intro m r h1 h2 hr h3
    simp only [wX_leastAccepted_4]
    refine za_br (za_le (a := 256) (b := m) (by omega) (by omega)) (fun h => ?_) (fun h => ?_)
    · have e : m = 256 := by omega
      subst e
      exact hpost r hr h3
    have ei : (256 : Int32) + nI m = nI (256 + m) := za_add 256 m
    rw [ei, za_cl (show 256 + m < 2147483648 by omega)]
    refine ⟨vp_in_nI (by omega) (by omega), nm_e ?_⟩
    have e4 : nI m >>> ((4 : Int32) &&& 31) = nI (m / 16) := by
      show nI m >>> (nI 4 &&& nI 31) = _
      rw [za_31 (by omega), za_shr (by omega) (by omega)]
    have e15 : nI m &&& 15 = nI (m % 16) := za_15 (by omega)
    rw [e4, e15]
    have hv := hB (256 + m) (by omega)
    have same : (∀ w, ¬ ((acc.testBit (m / 16) = true ∧ acc.testBit (m % 16) = true) ∧ NE (256 + m) = w ∧ w ≠ 0)) → wX_leastAccepted_4 post (nI acc) kC kI kE kN kS kU kT nl ll us dp tk ot rt kd ag lf sz lb nu fi la fo be (za_n NE) en wd ln tn tv te ts tz n (nI r) (nI (m + 1)) := by
      intro hn
      refine ih (m + 1) r (by omega) (by omega) hr (zm_cg h3 fun w => ?_)
      constructor
      · rintro ⟨p, q, hp, hq, z, z2⟩
        exact ⟨p, q, hp, hq, by omega, z2⟩
      · rintro ⟨p, q, hp, hq, z, z2, z3, z4, z5⟩
        by_cases e : p * 16 + q = m
        · have e1 : m / 16 = p := by omega
          have e2 : m % 16 = q := by omega
          rw [e] at z4
          exact absurd ⟨⟨by rw [e1]; exact z2, by rw [e2]; exact z3⟩, z4, z5⟩ (hn w)
        · exact ⟨p, q, hp, hq, by omega, z2, z3, z4, z5⟩
    refine za_br0 (za_acc ha (by omega) (by omega)) (fun hb => ?_) (fun hb => ?_)
    · unfold wX_leastAccepted_45
      refine br_t rfl (nm_r (nI_1 m) (same fun w z => ?_))
      rw [z.1.1, z.1.2] at hb
      cases hb
    · rw [Bool.and_eq_true] at hb
      unfold wX_leastAccepted_45
      refine br_f (by decide) (za_br (za_le0 (x := NE (256 + m)) (by omega)) (fun h0 => nm_r (nI_1 m) (same fun w z => ?_)) (fun h0 => ?_))
      · omega
      have up : zm_M (if r = 0 ∨ NE (256 + m) < r then NE (256 + m) else r) (zx_Ac NE acc (m + 1)) := by
        have hR : zm_M (NE (256 + m)) (fun w => NE (256 + m) = w ∧ w ≠ 0) := ⟨fun w hw => by omega, fun z => ⟨rfl, z⟩⟩
        refine zm_cg (zm_add h3 hR h0) fun w => ?_
        constructor
        · rintro (⟨p, q, hp, hq, z, z2⟩ | ⟨z, z2⟩)
          · exact ⟨p, q, hp, hq, by omega, z2⟩
          · exact ⟨m / 16, m % 16, by omega, by omega, by omega, hb.1, hb.2, by rw [show m / 16 * 16 + m % 16 = m by omega]; exact z, z2⟩
        · rintro ⟨p, q, hp, hq, z, z2, z3, z4, z5⟩
          by_cases e : p * 16 + q = m
          · rw [e] at z4
            exact Or.inr ⟨z4, z5⟩
          · exact Or.inl ⟨p, q, hp, hq, by omega, z2, z3, z4, z5⟩
      refine za_br (za_e0 (by omega)) (fun hr0 => nm_r (nI_1 m) ?_) (fun hr0 => za_br (za_le (b := NE (256 + m)) (by omega) (by omega)) (fun hle => nm_r (nI_1 m) ?_) (fun hle => nm_r (nI_1 m) ?_))
      · rw [if_pos (Or.inl hr0)] at up
        exact ih (m + 1) _ (by omega) (by omega) hv up
      · rw [if_neg (by omega)] at up
        exact ih (m + 1) _ (by omega) (by omega) hr up
      · rw [if_pos (by omega)] at up
        exact ih (m + 1) _ (by omega) (by omega) hv up
theorem zx_la {post : Int32 → Prop} {NE : Nat → Nat} {acc : Nat} (ha : acc < 65536) (hB : ∀ k, k < 512 → NE k < 65536) (hpost : ∀ r, r < 65536 → zm_M r (zx_Ac NE acc 256) → post (nI r)) :
    wpX_leastAccepted post (kC, kI, kE, kN, kS, kU, kT, nl, ll, us, dp, tk, ot, rt, kd, ag, lf, sz, lb, nu, fi, la, fo, be, za_n NE, en, wd, ln, tn, tv, te, ts, tz) (nI acc) :=
  Exists.intro 257 (zx_la_l ha hB hpost 257 0 0 (by omega) (by omega) (by omega) (zm_0 fun w ⟨_, _, _, _, z, _⟩ => absurd z (Nat.not_lt_zero _)))
theorem zx_ex67 {post : SX → Prop} {J : Int32 → Int32 → Int32 → Int32 → Int32 → Int32 → Int32 → Int32 → Int32 → Int32 → Int32 → Int32 → Int32 → Int32 → (Nat → Int32) → (Nat → Int32) → (Nat → Int32) → (Nat → Int32) → (Nat → Int32) → (Nat → Int32) → (Nat → Int32) → (Nat → Int32) → (Nat → Int32) → (Nat → Int32) → (Nat → Int32) → (Nat → Int32) → (Nat → Int32) → (Nat → Int32) → (Nat → Int32) → (Nat → Int32) → (Nat → Int32) → (Nat → Int32) → (Nat → Int32) → (Nat → Int32) → Prop} {LB FO BE NE : Nat → Nat} {S : Nat → Nat → Prop} {s p q pC qC : Nat} {f : Bool} {x2 x3 : Int32} (hs : s < 2) (hp : p < 16) (hq : q < 16) (hFO : ∀ i, FO i < 65536) (hpC : pC < 65536) (hqC : qC < 65536) (hLB : ∀ i, LB i < 4)
    (h0 : BE (zx_st f p q) ≠ 0) (hBE : BE (zx_st f p q) < 16384) (h3 : zx_MA NE S) (h4 : ∀ k, k < 512 → NE k < 65536)
    (hJ : ∀ NE', zx_MA NE' (fun k v => S k v ∨ zx_Ad LB s (FO (s * 16 + p)) pC (FO (s * 16 + q)) qC f (BE (zx_st f p q)) k v) → (∀ k, k < 512 → NE' k < 65536) → J (nI (zx_st f p q + 1)) kC kI kE kN kS kU kT nl ll us dp tk ot rt kd ag lf sz (za_n LB) nu fi la (za_n FO) (za_n BE) (za_n NE') en wd ln tn tv te ts tz) :
    wX_expandLevel_67 post J (nI s) x2 x3 (nI (zx_st f p q)) (nI p) (nI q) (nI pC) (nI qC) kC kI kE kN kS kU kT nl ll us dp tk ot rt kd ag lf sz (za_n LB) nu fi la (za_n FO) (za_n BE) (za_n NE) en wd ln tn tv te ts tz := by
  have hk := zx_st_lt (f := f) hp hq
  unfold wX_expandLevel_67
  refine nm_r (e' := nI (s * 16)) (za_mul s 16) ?_
  rw [za_add, za_add, za_cl (show s * 16 + p < 2147483648 by omega), za_cl (show s * 16 + q < 2147483648 by omega), za_cl (show zx_st f p q < 2147483648 by omega)]
  have e8 : nI (zx_st f p q) >>> ((8 : Int32) &&& 31) = nI f.toNat := by
    show nI (zx_st f p q) >>> (nI 8 &&& nI 31) = _
    rw [za_31 (by omega), za_shr (by omega) (by omega)]
    apply congrArg nI
    unfold zx_st
    have := Bool.toNat_lt f
    omega
  rw [e8]
  refine ⟨vp_in_nI (by omega) (by omega), vp_in_nI (by omega) (by omega), vp_in_nI (by omega) (by omega), ?_⟩
  refine zx_adv f hs (hFO _) hpC (hFO _) hqC (by omega) hBE hLB h3 h4 (fun NE' hM hB => ?_)
  exact nm_r (nI_1 _) (hJ NE' hM hB)
theorem zx_ex_l {post : SX → Prop} {LB FO BE : Nat → Nat} {s F T : Nat} (hs : s < 2) (hF : F < 65536) (hT : T < 65536) (hFO : ∀ i, FO i < 65536) (hLB : ∀ i, LB i < 4) (hBE : ∀ k, k < 512 → BE k < 16384)
    (hpost : ∀ NE', zx_MA NE' (zx_OL BE LB FO s F T 512) → (∀ k, k < 512 → NE' k < 65536) → post (kC, kI, kE, kN, kS, kU, kT, nl, ll, us, dp, tk, ot, rt, kd, ag, lf, sz, za_n LB, nu, fi, la, za_n FO, za_n BE, za_n NE', en, wd, ln, tn, tv, te, ts, tz)) :
    ∀ n k NE, k ≤ 512 → 512 - k < n → zx_MA NE (zx_OL BE LB FO s F T k) → (∀ k, k < 512 → NE k < 65536) →
      wX_expandLevel_3 post (nI s) (nI F) (nI T) n (nI k) kC kI kE kN kS kU kT nl ll us dp tk ot rt kd ag lf sz (za_n LB) nu fi la (za_n FO) (za_n BE) (za_n NE) en wd ln tn tv te ts tz := by
  intro n
  induction n with
  | zero => intro p NE h1 h2; omega
  | succ n ih =>
    intro k NE h1 h2 h3 h4
    simp only [wX_expandLevel_3]
    refine za_br (za_le (a := 512) (b := k) (by omega) (by omega)) (fun h => ?_) (fun h => ?_)
    · have e : k = 512 := by omega
      subst e
      exact hpost NE h3 h4
    have hk : k < 512 := by omega
    rw [za_cl (show k < 2147483648 by omega)]
    have hb := hBE k hk
    refine ⟨vp_in_nI hk (by omega), za_br (za_le0 (x := BE k) (by omega)) (fun h0 => nm_r (nI_1 k) ?_) (fun h0 => ?_)⟩
    · refine ih (k + 1) NE (by omega) (by omega) (fun j hj => zm_cg (h3 j hj) fun v => ?_) h4
      constructor
      · rintro ⟨f, p, q, hp, hq, z, z2⟩
        exact ⟨f, p, q, hp, hq, by omega, z2⟩
      · rintro ⟨f, p, q, hp, hq, z, z2, z3⟩
        by_cases e : zx_st f p q = k
        · rw [e] at z2
          exact absurd h0 z2
        · exact ⟨f, p, q, hp, hq, by omega, z2, z3⟩
    · obtain ⟨f, p, q, hp, hq, rfl⟩ := zx_st_of hk
      have hf := Bool.toNat_lt f
      have e4 : (nI (zx_st f p q) >>> ((4 : Int32) &&& 31)) &&& 15 = nI p := by
        show (nI (zx_st f p q) >>> (nI 4 &&& nI 31)) &&& nI 15 = _
        rw [za_31 (by omega), za_shr (by omega) (by omega), za_15 (za_dl _ _ (by omega))]
        apply congrArg nI
        unfold zx_st
        omega
      have e15 : nI (zx_st f p q) &&& 15 = nI q := by
        show nI (zx_st f p q) &&& nI 15 = _
        rw [za_15 (by omega)]
        apply congrArg nI
        unfold zx_st
        omega
      refine nm_r e4 (nm_r e15 ?_)
      have go : ∀ NE', zx_MA NE' (fun j v => zx_OL BE LB FO s F T (zx_st f p q) j v ∨ zx_Ad LB s (FO (s * 16 + p)) (zx_cr 0 F T p) (FO (s * 16 + q)) (zx_cr 0 F T q) f (BE (zx_st f p q)) j v) → (∀ k, k < 512 → NE' k < 65536) →
          wX_expandLevel_3 post (nI s) (nI F) (nI T) n (nI (zx_st f p q + 1)) kC kI kE kN kS kU kT nl ll us dp tk ot rt kd ag lf sz (za_n LB) nu fi la (za_n FO) (za_n BE) (za_n NE') en wd ln tn tv te ts tz := by
        intro NE' hM hB
        refine ih (zx_st f p q + 1) NE' (by omega) (by omega) (fun j hj => zm_cg (hM j hj) fun v => ?_) hB
        constructor
        · rintro (⟨f', p', q', hp', hq', z, z2⟩ | z)
          · exact ⟨f', p', q', hp', hq', by omega, z2⟩
          · exact ⟨f, p, q, hp, hq, by omega, h0, z⟩
        · rintro ⟨f', p', q', hp', hq', z, z2, z3⟩
          by_cases e : zx_st f' p' q' = zx_st f p q
          · obtain ⟨rfl, rfl, rfl⟩ := zx_st_inj hp' hq' hp hq e
            exact Or.inr z3
          · exact Or.inl ⟨f', p', q', hp', hq', by omega, z2, z3⟩
      have c0 : ∀ r, r < 16 → F.testBit r = false → zx_cr 0 F T r = 0 := by
        intro r hr hb
        unfold zx_cr
        rw [if_neg (by omega), if_neg (by rw [hb]; intro z; cases z.2)]
      have c1 : ∀ r, r < 16 → F.testBit r = true → zx_cr 0 F T r = T := by
        intro r hr hb
        unfold zx_cr
        rw [if_neg (by omega), if_pos ⟨hr, hb⟩]
      refine za_br0 (za_bit (by omega) (by omega)) (fun b1 => ?_) (fun b1 => ?_)
      · unfold wX_expandLevel_51
        refine za_br0 (za_bit (by omega) (by omega)) (fun b2 => ?_) (fun b2 => ?_)
        · rw [c0 p hp b1, c0 q hq b2] at go
          exact zx_ex67 (pC := 0) (qC := 0) hs hp hq hFO (by omega) (by omega) hLB h0 hb h3 h4 go
        · rw [c0 p hp b1, c1 q hq b2] at go
          exact zx_ex67 (pC := 0) (qC := T) hs hp hq hFO (by omega) (by omega) hLB h0 hb h3 h4 go
      · unfold wX_expandLevel_51
        refine za_br0 (za_bit (by omega) (by omega)) (fun b2 => ?_) (fun b2 => ?_)
        · rw [c1 p hp b1, c0 q hq b2] at go
          exact zx_ex67 (pC := T) (qC := 0) hs hp hq hFO (by omega) (by omega) hLB h0 hb h3 h4 go
        · rw [c1 p hp b1, c1 q hq b2] at go
          exact zx_ex67 (pC := T) (qC := T) hs hp hq hFO (by omega) (by omega) hLB h0 hb h3 h4 go
theorem zx_ex {post : SX → Prop} {LB FO BE NE : Nat → Nat} {s F T : Nat} (hs : s < 2) (hF : F < 65536) (hT : T < 65536) (hFO : ∀ i, FO i < 65536) (hLB : ∀ i, LB i < 4) (hBE : ∀ k, k < 512 → BE k < 16384) (hN : ∀ k, k < 512 → NE k = 0)
    (hpost : ∀ NE', zx_MA NE' (zx_OL BE LB FO s F T 512) → (∀ k, k < 512 → NE' k < 65536) → post (kC, kI, kE, kN, kS, kU, kT, nl, ll, us, dp, tk, ot, rt, kd, ag, lf, sz, za_n LB, nu, fi, la, za_n FO, za_n BE, za_n NE', en, wd, ln, tn, tv, te, ts, tz)) :
    wpX_expandLevel post (kC, kI, kE, kN, kS, kU, kT, nl, ll, us, dp, tk, ot, rt, kd, ag, lf, sz, za_n LB, nu, fi, la, za_n FO, za_n BE, za_n NE, en, wd, ln, tn, tv, te, ts, tz) (nI s) (nI F) (nI T) :=
  Exists.intro 513 (zx_ex_l hs hF hT hFO hLB hBE hpost 513 0 NE (by omega) (by omega) (fun k hk => by rw [hN k hk]; exact zm_0 fun w ⟨_, _, _, _, _, z, _⟩ => absurd z (Nat.not_lt_zero _)) (fun k hk => by rw [hN k hk]; omega))
end
end
section
/-! X: the least clash -/
section
variable {kC kI kE kN kS kU kT nl ll us dp tk ot : Int32} {rt kd ag lf sz lb nu fi la fo be ne en wd ln tn tv te ts tz : Nat → Int32}
theorem zx_43_l {post : Int32 → SX → Prop} {J : Int32 → Int32 → Int32 → Int32 → Int32 → Int32 → Int32 → Int32 → Int32 → Int32 → Int32 → Int32 → Int32 → Int32 → Int32 → (Nat → Int32) → (Nat → Int32) → (Nat → Int32) → (Nat → Int32) → (Nat → Int32) → (Nat → Int32) → (Nat → Int32) → (Nat → Int32) → (Nat → Int32) → (Nat → Int32) → (Nat → Int32) → (Nat → Int32) → (Nat → Int32) → (Nat → Int32) → (Nat → Int32) → (Nat → Int32) → (Nat → Int32) → (Nat → Int32) → (Nat → Int32) → (Nat → Int32) → Prop} {LB FO NE : Nat → Nat} {s F T acc m : Nat} (hs : s < 2) (hF : F < 65536) (hT : T < 65536) (ha : acc < 65536) (hFO : ∀ i, FO i < 65536) (hLB : ∀ i, LB i < 4) (hNE : ∀ k, k < 512 → NE k < 16384)
    (hJ : ∀ r BE NE', (∀ k, k < 512 → BE k = NE k) → zx_MA NE' (zx_OL BE LB FO s F T 512) → (∀ k, k < 512 → NE' k < 65536) → r < 65536 → zm_M r (zx_Ac NE' acc 256) → J (nI r) (nI (m + 1)) kC kI kE kN kS kU kT nl ll us dp tk ot rt kd ag lf sz (za_n LB) nu fi la (za_n FO) (za_n BE) (za_n NE') en wd ln tn tv te ts tz) :
    ∀ n i BE, i ≤ 512 → 512 - i < n → (∀ k, k < i → BE k = NE k) → wX_leastClash_43 post J (nI s) (nI F) (nI T) (nI acc) (nI m) kC kI kE kN kS kU kT nl ll us dp tk ot n (nI i) rt kd ag lf sz (za_n LB) nu fi la (za_n FO) (za_n BE) (za_n NE) en wd ln tn tv te ts tz := by
  intro n
  induction n with
  | zero => intro i BE h1 h2; omega
  | succ n ih =>
    intro i BE h1 h2 h3
    simp only [wX_leastClash_43]
    refine za_br (za_le (a := 512) (b := i) (by omega) (by omega)) (fun h => ?_) (fun h => ?_)
    · have h3' : ∀ k, k < 512 → BE k = NE k := fun k hk => h3 k (by omega)
      refine zx_clear (fun NE1 h0 => ?_)
      refine zx_ex hs hF hT hFO hLB (fun k hk => by rw [h3' k hk]; exact hNE k hk) h0 (fun NE2 hM hB => ?_)
      refine zx_la ha hB (fun r hr hrM => ?_)
      exact nm_r (nI_1 m) (hJ r BE NE2 h3' hM hB hr hrM)
    · rw [za_cl (show i < 2147483648 by omega)]
      refine ⟨vp_in_nI (by omega) (by omega), vp_in_nI (by omega) (by omega), nm_r (za_upd BE i (NE i)) (nm_r (nI_1 i) (ih (i + 1) _ (by omega) (by omega) ?_))⟩
      intro k hk
      by_cases e : k = i
      · rw [e, za_us]
      · rw [za_un e]
        exact h3 k (by omega)
theorem zx_26_l {post : Int32 → SX → Prop} {LB FO : Nat → Nat} {s I C F T acc L : Nat} (hs : s < 2) (hF : F < 65536) (hT : T < 65536) (ha : acc < 65536) (hFO : ∀ i, FO i < 65536) (hLB : ∀ i, LB i < 4) (hL : L ≤ 8)
    (hpost : ∀ r BE NE, r < 65536 → zm_M r (zx_Cl (zx_E I C F T FO s) (zx_lb LB s) acc (2 ^ (L + 1))) → post (nI r) (kC, kI, kE, kN, kS, kU, kT, nl, nI L, us, dp, tk, ot, rt, kd, ag, lf, sz, za_n LB, nu, fi, la, za_n FO, za_n BE, za_n NE, en, wd, ln, tn, tv, te, ts, tz)) :
    ∀ n m r BE NE, 1 ≤ m → m ≤ L → L - m < n → r < 65536 → zx_MA NE (zx_S (zx_E I C F T FO s) (zx_lb LB s) m) →
      (∀ w, 2 ≤ w → w < 2 ^ m → ¬ ∃ p q, zx_b acc p ∧ zx_b acc q ∧ zr_P (zx_E I C F T FO s) (zx_lb LB s) true w p q) → (∀ k, k < 512 → NE k < 65536) →
      zm_M r (fun w => 2 ^ m ≤ w ∧ w < 2 ^ (m + 1) ∧ ∃ p q, zx_b acc p ∧ zx_b acc q ∧ zr_P (zx_E I C F T FO s) (zx_lb LB s) true w p q) →
      wX_leastClash_26 post (nI s) (nI F) (nI T) (nI acc) n (nI r) (nI (m + 1)) kC kI kE kN kS kU kT nl (nI L) us dp tk ot rt kd ag lf sz (za_n LB) nu fi la (za_n FO) (za_n BE) (za_n NE) en wd ln tn tv te ts tz := by
  intro n
  induction n with
  | zero => intro m r BE NE h1 h2; omega
  | succ n ih =>
    intro m r BE NE h1 h2 h3 hr hM h0 hB hrM
    simp only [wX_leastClash_26]
    refine za_br (za_lt (a := L) (b := m + 1) (by omega) (by omega)) (fun h => ?_) (fun h => ?_)
    · exact hpost r BE NE hr (zx_clash h1 h2 h0 hrM (Or.inr (by omega)))
    refine za_br (za_e0 (by omega)) (fun hr0 => ?_) (fun hr0 => ?_)
    · have p9 : 2 ^ (m + 1) ≤ 2 ^ 9 := za_p2 (by omega)
      have hNE : ∀ k, k < 512 → NE k < 16384 := by
        intro k hk
        by_cases z : NE k = 0
        · omega
        · have := ((hM k hk).2 z).2.1
          omega
      refine Exists.intro 513 (zx_43_l hs hF hT ha hFO hLB hNE (fun r' BE' NE' eB hM' hB' hr' hrM' => ?_) 513 0 BE (by omega) (by omega) (fun k hk => absurd hk (Nat.not_lt_zero k)))
      have hMB : zx_MA BE' (zx_S (zx_E I C F T FO s) (zx_lb LB s) m) := fun k hk => by rw [eB k hk]; exact hM k hk
      have hM2 := zx_lvl h1 hMB hM'
      refine ih (m + 1) r' BE' NE' (by omega) (by omega) (by omega) hr' hM2 ?_ hB' (zx_found (by omega) hM2 hrM')
      intro w w1 w2 z
      rcases Nat.lt_or_ge w (2 ^ m) with y | y
      · exact h0 w w1 y z
      · have := (hrM.1 w ⟨y, w2, z⟩).1
        exact this hr0
    · exact hpost r BE NE hr (zx_clash h1 h2 h0 hrM (Or.inl hr0))
theorem zx_lc {post : Int32 → SX → Prop} {LB FO BE NE : Nat → Nat} {s I C F T acc L : Nat} (hs : s < 2) (hI : I < 65536) (hC : C < 65536) (hF : F < 65536) (hT : T < 65536) (ha : acc < 65536) (hFO : ∀ i, FO i < 65536) (hLB : ∀ i, LB i < 4) (hL1 : 1 ≤ L) (hL : L ≤ 8)
    (hpost : ∀ r BE NE, r < 65536 → zm_M r (zx_Cl (zx_E I C F T FO s) (zx_lb LB s) acc (2 ^ (L + 1))) → post (nI r) (kC, kI, kE, kN, kS, kU, kT, nl, nI L, us, dp, tk, ot, rt, kd, ag, lf, sz, za_n LB, nu, fi, la, za_n FO, za_n BE, za_n NE, en, wd, ln, tn, tv, te, ts, tz)) :
    wpX_leastClash post (kC, kI, kE, kN, kS, kU, kT, nl, nI L, us, dp, tk, ot, rt, kd, ag, lf, sz, za_n LB, nu, fi, la, za_n FO, za_n BE, za_n NE, en, wd, ln, tn, tv, te, ts, tz) (nI s) (nI I) (nI C) (nI F) (nI T) (nI acc) := by
  unfold wpX_leastClash
  refine zx_clear (fun NE1 h0 => ?_)
  refine zx_adv (f := false) (code := 1) (S := fun _ _ => False) hs hI hC hI hC (by omega) (by omega) hLB (fun k hk => by rw [h0 k hk]; exact zm_0 fun w z => z) (fun k hk => by rw [h0 k hk]; omega) (fun NE2 hM hB => ?_)
  refine zx_la ha hB (fun r hr hrM => ?_)
  have hM2 : zx_MA NE2 (zx_S (zx_E I C F T FO s) (zx_lb LB s) 1) := zx_lvl1 (fun k hk => zm_cg (hM k hk) fun w => ⟨fun z => z.elim (fun z => absurd z id) id, Or.inr⟩)
  exact Exists.intro (L + 1) (zx_26_l hs hF hT ha hFO hLB hL hpost (L + 1) 1 r BE NE2 (by omega) hL1 (by omega) hr hM2 (fun w w1 w2 => by omega) hB (zx_found (by omega) hM2 hrM))
end
end
section
/-! X: span tables, walked -/
theorem za_i9 (s n i : Nat) : (nI s * 16 + nI n) * 9 + nI i = nI (zt_ix s n i) := by
  show (nI s * nI 16 + nI n) * nI 9 + nI i = _
  rw [za_mul, za_add, za_mul, za_add]
  rfl
theorem zt_ix_lt {s n i : Nat} (hs : s < 2) (hn : n < 16) (hi : i < 9) : zt_ix s n i < 288 := by unfold zt_ix; omega
theorem zt_ix_ne {s n i n' i' : Nat} (hi : i < 9) (hi' : i' < 9) (h : n' ≠ n ∨ i' ≠ i) : zt_ix s n' i' ≠ zt_ix s n i := by unfold zt_ix; omega
theorem za_sh1 {k : Nat} (hk : k < 31) : (1 : Int32) <<< (nI k &&& 31) = nI (2 ^ k) := by
  show nI 1 <<< (nI k &&& nI 31) = _
  rw [za_31 (by omega), za_shl1 hk]
section
variable {kC kI kE kN kS kU kT nl ll us dp tk ot : Int32} {rt kd ag lf sz lb nu fi la fo be ne en wd ln tn tv te ts tz : Nat → Int32}
theorem zx_spans {post : Int32 → Prop} {EN : Nat → Nat} {s n i j : Nat} (hs : s < 2) (hn : n < 16) (hi : i < 9) (hj : j < 32) (hE : EN (zt_ix s n i) < 65536) (h : post (za_b ((EN (zt_ix s n i)).testBit j))) :
    wpX_spans post (kC, kI, kE, kN, kS, kU, kT, nl, ll, us, dp, tk, ot, rt, kd, ag, lf, sz, lb, nu, fi, la, fo, be, ne, za_n EN, wd, ln, tn, tv, te, ts, tz) (nI s) (nI n) (nI i) (nI j) := by
  have hx := zt_ix_lt hs hn hi
  unfold wpX_spans
  rw [za_i9, za_cl (show zt_ix s n i < 2147483648 by omega)]
  refine ⟨vp_in_nI hx (by omega), za_br0 (za_bit (m := EN (zt_ix s n i)) (by omega) hj) (fun e => ?_) (fun e => ?_)⟩
  · rw [e] at h; exact h
  · rw [e] at h; exact h
theorem zx_lenof_l {post : Int32 → Prop} {w len : Nat} (hw : w < 2147483648) (hl : len ≤ 8) (h1 : 2 ^ len ≤ w) (h2 : w < 2 ^ (len + 1)) (h : post (nI len)) :
    ∀ n k m, m = min (k - 1) len → 1 ≤ k → k ≤ 9 → 9 - k < n → wX_lengthOf_4 post (nI w) kC kI kE kN kS kU kT nl ll us dp tk ot rt kd ag lf sz lb nu fi la fo be ne en wd ln tn tv te ts tz n (nI m) (nI k) := by
  intro n
  induction n with
  | zero => intro k m em a b; omega
  | succ n ih =>
    intro k m em a b c
    simp only [wX_lengthOf_4]
    refine za_br (za_lt (a := 8) (b := k) (by omega) (by omega)) (fun z => ?_) (fun z => ?_)
    · have e : m = len := by omega
      rw [e]
      exact h
    · have e : nI w >>> (nI k &&& 31) = nI (w / 2 ^ k) := by
        show nI w >>> (nI k &&& nI 31) = _
        rw [za_31 (by omega), za_shr hw (by omega)]
      rw [e]
      refine za_br (za_e0 (za_dl w k hw)) (fun y => nm_r (nI_1 k) ?_) (fun y => nm_r (nI_1 k) ?_)
      · have hk : len < k := by
          rcases Nat.lt_or_ge len k with q | q
          · exact q
          · have := zc_div_pos h1 q
            omega
        exact ih (k + 1) m (by omega) (by omega) (by omega) (by omega)
      · have hk : k ≤ len := by
          rcases Nat.lt_or_ge len k with q | q
          · exact absurd (zc_div_zero h2 q) y
          · exact q
        exact ih (k + 1) k (by omega) (by omega) (by omega) (by omega)
theorem zx_lenof {post : Int32 → Prop} {w len : Nat} (hl : len ≤ 8) (h1 : 2 ^ len ≤ w) (h2 : w < 2 ^ (len + 1)) (h : post (nI len)) : wpX_lengthOf post (kC, kI, kE, kN, kS, kU, kT, nl, ll, us, dp, tk, ot, rt, kd, ag, lf, sz, lb, nu, fi, la, fo, be, ne, en, wd, ln, tn, tv, te, ts, tz) (nI w) := by
  have p9 : 2 ^ (len + 1) ≤ 2 ^ 9 := za_p2 (by omega)
  exact Exists.intro 9 (zx_lenof_l (by omega) hl h1 h2 h 9 1 0 (by omega) (by omega) (by omega) (by omega))
theorem zx_leaf {post : Int32 → Prop} {LB LN WD : Nat → Nat} {s n i len W : Nat} (hs : s < 2) (hn : n < 16) (hl : len ≤ 8) (hi : i ≤ len) (hLB : LB (s * 16 + n) < 4) (hLN : LN s = len) (hWD : WD s = W) (hW : W < 2147483648)
    (h : post (nI (if LB (s * 16 + n) = 0 then 2 ^ i else if i < len then (if (LB (s * 16 + n)).testBit (W / 2 ^ (len - 1 - i) % 2) = true then 2 ^ (i + 1) else 0) else 0))) :
    wpX_leafEnds post (kC, kI, kE, kN, kS, kU, kT, nl, ll, us, dp, tk, ot, rt, kd, ag, lf, sz, za_n LB, nu, fi, la, fo, be, ne, en, za_n WD, za_n LN, tn, tv, te, ts, tz) (nI s) (nI n) (nI i) := by
  unfold wpX_leafEnds
  rw [za_ix, za_cl (show s * 16 + n < 2147483648 by omega), za_cl (show s < 2147483648 by omega)]
  have hi2 : vp_in (nI s) 2 := vp_in_nI hs (by omega)
  refine ⟨vp_in_nI (by omega) (by omega), nm_e ?_⟩
  refine za_br (za_e0 (x := LB (s * 16 + n)) (by omega)) (fun z => ?_) (fun z => ⟨hi2, ?_⟩)
  · rw [if_pos z] at h
    rw [za_sh1 (by omega)]
    exact h
  rw [if_neg z] at h
  rw [za_ap LN s, hLN, za_ap WD s, hWD]
  refine za_br (za_lt (by omega) (by omega)) (fun y => ⟨hi2, hi2, ?_⟩) (fun y => ?_)
  · rw [if_pos y] at h
    have e : (nI W >>> ((nI len - 1 - nI i) &&& 31)) &&& 1 = nI (W / 2 ^ (len - 1 - i) % 2) := by
      show (nI W >>> ((nI len - nI 1 - nI i) &&& nI 31)) &&& nI 1 = _
      rw [za_sub (by omega), za_sub (by omega), za_31 (by omega), za_shr hW (by omega), za_1 (za_dl _ _ hW)]
    refine nm_r e ?_
    refine za_br0 (za_bit (m := LB (s * 16 + n)) (by omega) (by omega)) (fun q => ?_) (fun q => ?_)
    · rw [if_neg (by rw [q]; decide)] at h
      exact h
    · rw [if_pos q] at h
      rw [za_i1, za_sh1 (by omega)]
      exact h
  · rw [if_neg y] at h
    exact h
theorem zx_thr_l {post : Int32 → Prop} {EN LN : Nat → Nat} {s x y i len : Nat} (hs : s < 2) (hx : x < 16) (hy : y < 16) (hl : len ≤ 8) (hi : i ≤ len) (hLN : LN s = len) (hE : EN (zt_ix s x i) < 65536) (h : post (nI (zt_th EN s x y i (len + 1 - i)))) :
    ∀ n c, c ≤ len + 1 - i → len + 1 - i - c < n → wX_through_7 post (nI s) (nI x) (nI y) (nI i) kC kI kE kN kS kU kT nl ll us dp tk ot rt kd ag lf sz lb nu fi la fo be ne (za_n EN) wd (za_n LN) tn tv te ts tz n (nI (zt_th EN s x y i c)) (nI (i + c)) := by
  intro n
  induction n with
  | zero => intro c a b; omega
  | succ n ih =>
    intro c a b
    simp only [wX_through_7]
    rw [za_cl (show s < 2147483648 by omega), za_ap LN s, hLN]
    refine ⟨vp_in_nI hs (by omega), za_br (za_lt (by omega) (by omega)) (fun z => ?_) (fun z => ?_)⟩
    · have e : c = len + 1 - i := by omega
      rw [e]
      exact h
    · refine zx_spans hs hx (by omega) (by omega) hE (za_brb (fun q => nm_r (nI_1 _) ?_) (fun q => ?_))
      · have e : zt_th EN s x y i c = zt_th EN s x y i (c + 1) := by
          rw [zt_th, if_neg (by rw [q]; decide)]
        rw [e]
        exact ih (c + 1) (by omega) (by omega)
      · have e : zt_th EN s x y i (c + 1) = zt_th EN s x y i c ||| EN (zt_ix s y (i + c)) := by
          rw [zt_th, if_pos q]
        have hxi := zt_ix_lt (i := i + c) hs hy (by omega)
        rw [za_i9, za_cl (show zt_ix s y (i + c) < 2147483648 by omega)]
        refine ⟨vp_in_nI hxi (by omega), nm_r (za_or _ _) (nm_r (nI_1 _) ?_)⟩
        rw [← e]
        exact ih (c + 1) (by omega) (by omega)
theorem zx_thr {post : Int32 → Prop} {EN LN : Nat → Nat} {s x y i len : Nat} (hs : s < 2) (hx : x < 16) (hy : y < 16) (hl : len ≤ 8) (hi : i ≤ len) (hLN : LN s = len) (hE : EN (zt_ix s x i) < 65536) (h : post (nI (zt_th EN s x y i (len + 1 - i)))) :
    wpX_through post (kC, kI, kE, kN, kS, kU, kT, nl, ll, us, dp, tk, ot, rt, kd, ag, lf, sz, lb, nu, fi, la, fo, be, ne, za_n EN, wd, za_n LN, tn, tv, te, ts, tz) (nI s) (nI x) (nI y) (nI i) :=
  Exists.intro (len + 2 - i) (zx_thr_l hs hx hy hl hi hLN hE h (len + 2 - i) 0 (by omega) (by omega))
end
end
section
/-! X: matches -/
theorem zt_e_cat {LG EN : Nat → Nat} {W len s n x y i N : Nat} (hN : ∀ j, j ≤ len → zc_sub W len i j < N) (hi : i ≤ len) (hc : zt_cat N LG s n x y) (hx : zt_e LG W len s x i (EN (zt_ix s x i)))
    (hy : ∀ j, i ≤ j → j ≤ len → zt_e LG W len s y j (EN (zt_ix s y j))) : zt_e LG W len s n i (zt_th EN s x y i (len + 1 - i)) := by
  have h := zt_e_thr hN hi hx (fun j h1 h2 _ => hy j h1 h2)
  refine ⟨h.1, fun t ht => zt_bool ?_⟩
  rw [h.2 t ht, Bool.and_eq_true, decide_eq_true_iff, hc _ (zc_sub_pos _ _ _ _) (hN t ht)]
theorem zt_e_uni {LG EN : Nat → Nat} {W len s n x y i N a b : Nat} (hN : ∀ j, j ≤ len → zc_sub W len i j < N) (hc : zt_uni N LG s n x y) (hx : zt_e LG W len s x i a) (hy : zt_e LG W len s y i b) : zt_e LG W len s n i (a ||| b) := by
  refine ⟨za_or16 hx.1 hy.1, fun t ht => zt_bool ?_⟩
  rw [Nat.testBit_or, hx.2 t ht, hy.2 t ht, Bool.or_eq_true, Bool.and_eq_true, Bool.and_eq_true, Bool.and_eq_true, hc _ (zc_sub_pos _ _ _ _) (hN t ht)]
  constructor
  · rintro (z | z)
    · exact ⟨z.1, Or.inl z.2⟩
    · exact ⟨z.1, Or.inr z.2⟩
  · rintro ⟨z, z2 | z2⟩
    · exact Or.inl ⟨z, z2⟩
    · exact Or.inr ⟨z, z2⟩
theorem zt_e_sta {LG EN : Nat → Nat} {W len s n i N : Nat} (hl : len ≤ 8) (hN : ∀ j, j ≤ len → zc_sub W len i j < N) (hi : i ≤ len) (hc : zt_sta N LG s n) (hx : zt_e LG W len s (n - 1) i (EN (zt_ix s (n - 1) i)))
    (hy : ∀ j, i < j → j ≤ len → zt_e LG W len s n j (EN (zt_ix s n j))) : zt_e LG W len s n i (2 ^ i ||| zt_th EN s (n - 1) n i (len + 1 - i)) := by
  have h := zt_e_thr hN hi hx (fun j h1 h2 h3 => hy j (by
    rcases Nat.lt_or_ge i j with z | z
    · exact z
    · have e : j = i := by omega
      subst e
      rw [zc_sub_ii, hc.1] at h3
      cases h3) h2)
  refine ⟨za_or16 (zt_p2l (by omega)) h.1, fun t ht => zt_bool ?_⟩
  rw [Nat.testBit_or, zt_p2b, Bool.or_eq_true, h.2 t ht, Bool.and_eq_true, decide_eq_true_iff, decide_eq_true_iff, hc.2 _ (zc_sub_pos _ _ _ _) (hN t ht)]
  constructor
  · rintro (z | z)
    · subst z
      exact ⟨Nat.le_refl _, Or.inl (zc_sub_ii _ _ _)⟩
    · exact ⟨z.1, Or.inr z.2⟩
  · rintro ⟨z, z2 | z2⟩
    · exact Or.inl ((zc_sub_one z).mp z2)
    · exact Or.inr ⟨z, z2⟩
section
variable {kC kI kE kN kS kU kT nl ll us dp tk ot : Int32} {rt kd ag lf sz lb nu fi la fo be ne en wd ln tn tv te ts tz : Nat → Int32}
theorem zx_ends {post : Int32 → Prop} {KD AG LF SZ SC LB LG EN LN WD : Nat → Nat} {N s n i len W : Nat} (hs : s < 2) (hn : n < 16) (hl : len ≤ 8) (hi : i ≤ len) (hLN : LN s = len) (hWD : WD s = W) (hW : W < 2147483648)
    (hLen : 2 ^ (len + 1) ≤ N) (hz : zt_N N KD AG LF SZ SC LB LG n)
    (hT : ∀ n', n + 1 ≤ n' + SZ n → n' < n → ∀ i', i' ≤ len → zt_e LG W len s n' i' (EN (zt_ix s n' i')))
    (hS : ∀ i', i < i' → i' ≤ len → zt_e LG W len s n i' (EN (zt_ix s n i')))
    (hpost : ∀ m, zt_e LG W len s n i m → post (nI m)) :
    wpX_endsFrom post (kC, kI, kE, kN, kS, kU, kT, nl, ll, us, dp, tk, ot, rt, za_n KD, ag, za_n LF, sz, za_n LB, nu, fi, la, fo, be, ne, za_n EN, za_n WD, za_n LN, tn, tv, te, ts, tz) (nI s) (nI n) (nI i) := by
  have hN : ∀ j, j ≤ len → zc_sub W len i j < N := fun j hj => Nat.lt_of_lt_of_le (zc_sub_le hj) hLen
  have s01 : s = 0 ∨ s = 1 := by omega
  have hin : vp_in (nI n) 16 := vp_in_nI hn (by omega)
  have p1 : 1 ≤ n → nI n - 1 = nI (n - 1) := fun h => za_sub (b := 1) h
  unfold wpX_endsFrom
  dsimp only
  rw [za_cl (show n < 2147483648 by omega), za_ap KD n, za_ap LF n]
  refine ⟨hin, ?_⟩
  have leaf : ∀ m, m < 4 → zt_leaf LB LG s n m → wX_endsFrom_19 post (nI s) (nI n) (nI i) kC kI kE kN kS kU kT nl ll us dp tk ot rt (za_n KD) ag (za_n LF) sz (za_n LB) nu fi la fo be ne (za_n EN) (za_n WD) (za_n LN) tn tv te ts tz := by
    intro m hm h
    unfold wX_endsFrom_19
    refine zx_leaf hs hn hl hi (by rw [h.1]; exact hm) hLN hWD hW ?_
    rw [h.1]
    exact hpost _ (zt_e_leaf hl hi h hm)
  have cat : ∀ x y, x < 16 → y < 16 → zt_cat N LG s n x y → (∀ i', i' ≤ len → zt_e LG W len s x i' (EN (zt_ix s x i'))) → (∀ i', i' ≤ len → zt_e LG W len s y i' (EN (zt_ix s y i'))) →
      wpX_through post (kC, kI, kE, kN, kS, kU, kT, nl, ll, us, dp, tk, ot, rt, za_n KD, ag, za_n LF, sz, za_n LB, nu, fi, la, fo, be, ne, za_n EN, za_n WD, za_n LN, tn, tv, te, ts, tz) (nI s) (nI x) (nI y) (nI i) := by
    intro x y hx hy hc tx ty
    exact zx_thr hs hx hy hl hi hLN (tx i hi).1 (hpost _ (zt_e_cat hN hi hc (tx i hi) (fun j _ h2 => ty j h2)))
  rcases hz with h | h | h | h | h | h | h
  · rw [h.1]
    refine nm_e (br_t rfl ?_)
    rcases s01 with rfl | rfl
    · exact leaf _ h.2.2.1 h.2.2.2.1
    · exact leaf _ h.2.2.1 h.2.2.2.2.1
  · rw [h.1]
    refine nm_e (br_f (by decide) (br_t rfl ?_))
    rcases s01 with rfl | rfl
    · exact leaf _ (by omega) h.2.2.2.1
    · refine leaf _ ?_ h.2.2.2.2.1
      rcases (show AG n = 0 ∨ AG n = 1 by have := h.2.2.1; omega) with e | e <;> rw [e] <;> decide
  · obtain ⟨h1, ⟨o1, o2, o3, o4, o5, o6⟩, h3, h4, h5⟩ := h
    rw [h1]
    refine nm_e (br_f (by decide) (br_f (by decide) ⟨hin, nm_e (nm_r (p1 o1) (br_t rfl ?_))⟩))
    rcases s01 with rfl | rfl
    · refine br_t rfl ?_
      have e : nI (n - 1) * 9 + nI i = nI (zt_ix 0 (n - 1) i) := by
        show nI (n - 1) * nI 9 + nI i = _
        rw [za_mul, za_add]
        unfold zt_ix
        congr 2
        omega
      have hx := zt_ix_lt (s := 0) (n := n - 1) (i := i) (by omega) (by omega) (by omega)
      rw [e, za_cl (show zt_ix 0 (n - 1) i < 2147483648 by omega)]
      refine ⟨vp_in_nI hx (by omega), hpost _ ?_⟩
      have t := hT (n - 1) (by omega) (by omega) i hi
      refine ⟨t.1, fun j hj => ?_⟩
      rw [t.2 j hj, h5.1 _ (zc_sub_pos _ _ _ _) (hN j hj)]
    · refine br_f (by decide) ?_
      rw [za_sh1 (by omega)]
      refine hpost _ (zt_e_one hl hi fun j j1 j2 => ?_)
      rw [h5.2 _ (zc_sub_pos _ _ _ _) (hN j j2), zc_sub_one j1]
  · obtain ⟨h1, ⟨o1, o2, o3, o4, o5, o6, o7⟩, h3, h4⟩ := h
    rw [h1]
    refine nm_e (br_f (by decide) (br_f (by decide) ⟨hin, nm_e (nm_r (p1 o1) (br_f (by decide) (br_f (by decide) (br_f (by decide) (br_f (by decide) ?_)))))⟩))
    unfold wX_endsFrom_154
    rcases s01 with rfl | rfl
    · exact cat _ _ (by omega) (by omega) h3 (hT _ (by omega) (by omega)) (hT _ (by omega) (by omega))
    · exact cat _ _ (by omega) (by omega) h4 (hT _ (by omega) (by omega)) (hT _ (by omega) (by omega))
  · obtain ⟨h1, ⟨o1, o2, o3, o4, o5, o6, o7⟩, h3, h4⟩ := h
    rw [h1]
    refine nm_e (br_f (by decide) (br_f (by decide) ⟨hin, nm_e (nm_r (p1 o1) (br_f (by decide) (br_f (by decide) (br_f (by decide) (br_t rfl ?_)))))⟩))
    rcases s01 with rfl | rfl
    · refine br_f (by decide) ?_
      unfold wX_endsFrom_154
      exact cat _ _ (by omega) (by omega) h3 (hT _ (by omega) (by omega)) (hT _ (by omega) (by omega))
    · refine br_t rfl ?_
      exact cat _ _ (by omega) (by omega) h4 (hT _ (by omega) (by omega)) (hT _ (by omega) (by omega))
  · obtain ⟨h1, ⟨o1, o2, o3, o4, o5, o6, o7⟩, h3, h4⟩ := h
    rw [h1]
    refine nm_e (br_f (by decide) (br_f (by decide) ⟨hin, nm_e (nm_r (p1 o1) (br_f (by decide) (br_f (by decide) (br_t rfl ?_))))⟩))
    have hu : zt_uni N LG s n (LF n) (n - 1) := by
      rcases s01 with rfl | rfl
      · exact h3
      · exact h4
    have hx := zt_ix_lt (s := s) (n := n - 1) (i := i) (by omega) (by omega) (by omega)
    have hy := zt_ix_lt (s := s) (n := LF n) (i := i) (by omega) (by omega) (by omega)
    rw [za_i9, za_i9, za_cl (show zt_ix s (n - 1) i < 2147483648 by omega), za_cl (show zt_ix s (LF n) i < 2147483648 by omega), za_ap, za_ap, za_or]
    refine ⟨vp_in_nI hy (by omega), vp_in_nI hx (by omega), hpost _ (zt_e_uni (EN := EN) hN hu (hT _ (by omega) (by omega) i hi) (hT _ (by omega) (by omega) i hi))⟩
  · obtain ⟨h1, ⟨o1, o2, o3, o4, o5, o6⟩, h3, h4⟩ := h
    rw [h1]
    refine nm_e (br_f (by decide) (br_f (by decide) ⟨hin, nm_e (nm_r (p1 o1) (br_f (by decide) (br_t rfl ?_)))⟩))
    have hu : zt_sta N LG s n := by
      rcases s01 with rfl | rfl
      · exact h3
      · exact h4
    have t := hT (n - 1) (by omega) (by omega) i hi
    refine zx_thr hs (by omega) hn hl hi hLN t.1 ?_
    rw [za_sh1 (by omega), za_or]
    exact hpost _ (zt_e_sta hl hN hi hu t hS)
end
end
section
/-! X: matches, the loops -/
theorem za_lo {r z : Nat} (h : z ≤ r + 1) : nI r - nI z + 1 = nI (r + 1 - z) := by
  rw [← za_sub h, ← nI_1]
  grind
section
variable {kC kI kE kN kS kU kT nl ll us dp tk ot : Int32} {rt kd ag lf sz lb nu fi la fo be ne en wd ln tn tv te ts tz : Nat → Int32}
theorem zx_m44 {post : Int32 → SX → Prop} {J : Int32 → (Nat → Int32) → (Nat → Int32) → (Nat → Int32) → (Nat → Int32) → (Nat → Int32) → (Nat → Int32) → (Nat → Int32) → (Nat → Int32) → (Nat → Int32) → (Nat → Int32) → (Nat → Int32) → (Nat → Int32) → (Nat → Int32) → (Nat → Int32) → (Nat → Int32) → (Nat → Int32) → (Nat → Int32) → (Nat → Int32) → (Nat → Int32) → (Nat → Int32) → Prop} {x2 x4 : Int32} {KD AG LF SZ SC LB LG EN0 LN WD : Nat → Nat} {N s n len W lo : Nat} (hs : s < 2) (hn : n < 16) (hl : len ≤ 8) (hLN : LN s = len) (hWD : WD s = W) (hW : W < 2147483648)
    (hLen : 2 ^ (len + 1) ≤ N) (hz : zt_N N KD AG LF SZ SC LB LG n) (hlo : ∀ n', n + 1 ≤ n' + SZ n → lo ≤ n')
    (hJ : ∀ EN', (∀ n', lo ≤ n' → n' < n + 1 → ∀ i', i' ≤ len → zt_e LG W len s n' i' (EN' (zt_ix s n' i'))) → (∀ j, (j < s * 144 ∨ s * 144 + 144 ≤ j) → EN' j = EN0 j) → J (nI (n + 1)) rt (za_n KD) ag (za_n LF) sz (za_n LB) nu fi la fo be ne (za_n EN') (za_n WD) (za_n LN) tn tv te ts tz) :
    ∀ f c EN, c ≤ len + 1 → c < f → (∀ n', lo ≤ n' → n' < n → ∀ i', i' ≤ len → zt_e LG W len s n' i' (EN (zt_ix s n' i'))) → (∀ i', c ≤ i' → i' ≤ len → zt_e LG W len s n i' (EN (zt_ix s n i'))) →
      (∀ j, (j < s * 144 ∨ s * 144 + 144 ≤ j) → EN j = EN0 j) → wX_matches_44 post J (nI s) x2 x4 (nI n) kC kI kE kN kS kU kT nl ll us dp tk ot f (nI c - 1) rt (za_n KD) ag (za_n LF) sz (za_n LB) nu fi la fo be ne (za_n EN) (za_n WD) (za_n LN) tn tv te ts tz := by
  intro f
  induction f with
  | zero => intro c EN a b; omega
  | succ f ih =>
    intro c EN a b hT hS hO
    simp only [wX_matches_44]
    cases c with
    | zero =>
      refine br_t (by decide) (nm_r (nI_1 n) (hJ EN ?_ hO))
      intro n' h1 h2 i' h3
      by_cases e : n' = n
      · subst e
        exact hS i' (by omega) h3
      · exact hT n' h1 (by omega) i' h3
    | succ c =>
      rw [nI_pred]
      refine br_f (za_ng (by omega)) ?_
      refine zx_ends (AG := AG) (SC := SC) hs hn hl (by omega) hLN hWD hW hLen hz (fun n' h1 h2 => hT n' (hlo n' h1) h2) (fun i' h1 h2 => hS i' (by omega) h2) (fun m hm => ?_)
      have hx := zt_ix_lt (s := s) (n := n) (i := c) hs hn (by omega)
      rw [za_i9, za_cl (show zt_ix s n c < 2147483648 by omega)]
      refine ⟨vp_in_nI hx (by omega), nm_r (za_upd EN _ m) (nm_r (e' := nI c - 1) (Int32.sub_eq_add_neg _ _).symm (ih c _ (by omega) (by omega) ?_ ?_ ?_))⟩
      · intro n' h1 h2 i' h3
        rw [za_un (zt_ix_ne (by omega) (by omega) (Or.inl (by omega)))]
        exact hT n' h1 h2 i' h3
      · intro i' h1 h2
        by_cases e : i' = c
        · subst e
          rw [za_us]
          exact hm
        · rw [za_un (zt_ix_ne (by omega) (by omega) (Or.inr e))]
          exact hS i' (by omega) h2
      · intro j hj
        rw [za_un (by unfold zt_ix; omega)]
        exact hO j hj
theorem zx_m34 {post : Int32 → SX → Prop} {KD AG LF SZ SC LB LG EN0 LN WD : Nat → Nat} {N s r len W : Nat} (hs : s < 2) (hr : r < 16) (hl : len ≤ 8) (hLN : LN s = len) (hWD : WD s = W) (h1 : 2 ^ len ≤ W) (h2 : W < 2 ^ (len + 1))
    (hLen : 2 ^ (len + 1) ≤ N) (hz : ∀ n, n ≤ r → zt_N N KD AG LF SZ SC LB LG n)
    (hpost : ∀ EN', zt_T LG EN' W len s (r + 1 - SZ r) r → (∀ j, (j < s * 144 ∨ s * 144 + 144 ≤ j) → EN' j = EN0 j) → post (za_b (zy_h LG r s W)) (kC, kI, kE, kN, kS, kU, kT, nl, ll, us, dp, tk, ot, rt, za_n KD, ag, za_n LF, sz, za_n LB, nu, fi, la, fo, be, ne, za_n EN', za_n WD, za_n LN, tn, tv, te, ts, tz)) :
    ∀ f n EN, r + 1 - SZ r ≤ n → n ≤ r + 1 → r + 1 - n < f → (∀ n', r + 1 - SZ r ≤ n' → n' < n → ∀ i', i' ≤ len → zt_e LG W len s n' i' (EN (zt_ix s n' i'))) →
      (∀ j, (j < s * 144 ∨ s * 144 + 144 ≤ j) → EN j = EN0 j) → wX_matches_34 post (nI s) (nI r) (nI len) kC kI kE kN kS kU kT nl ll us dp tk ot f (nI n) rt (za_n KD) ag (za_n LF) sz (za_n LB) nu fi la fo be ne (za_n EN) (za_n WD) (za_n LN) tn tv te ts tz := by
  have p9 : 2 ^ (len + 1) ≤ 2 ^ 9 := za_p2 (by omega)
  have hsz := zt_sz (hz r (Nat.le_refl r))
  intro f
  induction f with
  | zero => intro n EN a b; omega
  | succ f ih =>
    intro n EN a b c hT hO
    simp only [wX_matches_34]
    refine za_br (za_lt (by omega) (by omega)) (fun z => ?_) (fun z => ?_)
    · have e : n = r + 1 := by omega
      subst e
      have t := hT r (by omega) (by omega) 0 (by omega)
      refine zx_spans (i := 0) hs hr (by omega) (by omega) t.1 ?_
      rw [t.2 len (Nat.le_refl _), decide_eq_true (Nat.zero_le _), Bool.true_and, zc_sub_all h1 h2]
      exact ⟨za_nbb _, hpost EN (fun n' h1 h2 => hT n' h1 (by omega)) hO⟩
    · have nest := zt_nest (us := r + 1) (fun n hn => hz n (by omega)) r (by omega) n (by omega) (by omega)
      have e0 : nI len = nI (len + 1) - 1 := (nI_pred len).symm
      have key := zx_m44 (post := post) (J := wX_matches_34 post (nI s) (nI r) (nI len) kC kI kE kN kS kU kT nl ll us dp tk ot f) (x2 := nI r) (x4 := nI len) (KD := KD) (AG := AG) (LF := LF) (SZ := SZ) (SC := SC) (LB := LB) (LG := LG) (EN0 := EN0) (LN := LN) (WD := WD) (N := N) (s := s) (n := n) (len := len) (W := W) (lo := r + 1 - SZ r) (kC := kC) (kI := kI) (kE := kE) (kN := kN) (kS := kS) (kU := kU) (kT := kT) (nl := nl) (ll := ll) (us := us) (dp := dp) (tk := tk) (ot := ot) hs (by omega) hl hLN hWD (by omega) hLen (hz n (by omega)) (fun n' h => by omega)
        (fun EN' hT' hO' => ih (n + 1) EN' (by omega) (by omega) (by omega) hT' hO') (len + 2) (len + 1) EN (by omega) (by omega) hT (fun i' h1 h2 => by omega) hO
      rw [nI_pred] at key
      exact Exists.intro (len + 2) key
theorem zx_match {post : Int32 → SX → Prop} {KD AG LF SZ SC LB LG EN LN WD : Nat → Nat} {N s r W len : Nat} (hs : s < 2) (hr : r < 16) (hl : len ≤ 8) (h1 : 2 ^ len ≤ W) (h2 : W < 2 ^ (len + 1))
    (hLen : 2 ^ (len + 1) ≤ N) (hz : ∀ n, n ≤ r → zt_N N KD AG LF SZ SC LB LG n)
    (hpost : ∀ EN', zt_T LG EN' W len s (r + 1 - SZ r) r → (∀ j, (j < s * 144 ∨ s * 144 + 144 ≤ j) → EN' j = EN j) → post (za_b (zy_h LG r s W)) (kC, kI, kE, kN, kS, kU, kT, nl, ll, us, dp, tk, ot, rt, za_n KD, ag, za_n LF, za_n SZ, za_n LB, nu, fi, la, fo, be, ne, za_n EN', za_n (za_u WD s W), za_n (za_u LN s len), tn, tv, te, ts, tz)) :
    wpX_matches post (kC, kI, kE, kN, kS, kU, kT, nl, ll, us, dp, tk, ot, rt, za_n KD, ag, za_n LF, za_n SZ, za_n LB, nu, fi, la, fo, be, ne, za_n EN, za_n WD, za_n LN, tn, tv, te, ts, tz) (nI s) (nI r) (nI W) := by
  have hsz := zt_sz (hz r (Nat.le_refl r))
  unfold wpX_matches
  refine zx_lenof hl h1 h2 ?_
  rw [za_cl (show s < 2147483648 by omega), za_cl (show r < 2147483648 by omega)]
  refine ⟨vp_in_nI hs (by omega), nm_r (za_upd WD s W) ⟨vp_in_nI hs (by omega), nm_r (za_upd LN s len) ⟨vp_in_nI hr (by omega), nm_r (e' := nI (r + 1 - SZ r)) (za_lo hsz.2) ?_⟩⟩⟩
  exact Exists.intro (SZ r + 1) (zx_m34 (AG := AG) (SC := SC) hs hr hl za_us za_us h1 h2 hLen hz hpost (SZ r + 1) _ EN (Nat.le_refl _) (by omega) (by omega) (fun n' a b => by omega) (fun j _ => rfl))
end
end
section
/-! X: building, walked -/
def zx_lkp (FO : Nat → Nat) (s F T p : Nat) : Nat → Nat := fun j => if s * 16 ≤ j ∧ j < s * 16 + p ∧ F.testBit (j - s * 16) = true then FO j ||| T else FO j
def zx_lk (FO : Nat → Nat) (s F T : Nat) : Nat → Nat := zx_lkp FO s F T 16
theorem zx_lkp0 (FO : Nat → Nat) (s F T : Nat) : zx_lkp FO s F T 0 = FO := by
  funext j
  unfold zx_lkp
  rw [if_neg (by omega)]
theorem zx_lkpS1 {FO : Nat → Nat} {s F T p : Nat} (h : F.testBit p = false) : zx_lkp FO s F T (p + 1) = zx_lkp FO s F T p := by
  funext j
  unfold zx_lkp
  by_cases e : j = s * 16 + p
  · subst e
    rw [if_neg (by rw [Nat.add_sub_cancel_left, h]; simp), if_neg (by omega)]
  · by_cases c : s * 16 ≤ j ∧ j < s * 16 + p ∧ F.testBit (j - s * 16) = true
    · rw [if_pos c, if_pos ⟨c.1, by omega, c.2.2⟩]
    · rw [if_neg c, if_neg (fun z => c ⟨z.1, by omega, z.2.2⟩)]
theorem zx_lkpS2 {FO : Nat → Nat} {s F T p : Nat} (h : F.testBit p = true) : za_u (zx_lkp FO s F T p) (s * 16 + p) (zx_lkp FO s F T p (s * 16 + p) ||| T) = zx_lkp FO s F T (p + 1) := by
  funext j
  by_cases e : j = s * 16 + p
  · subst e
    rw [za_us]
    unfold zx_lkp
    rw [if_neg (by omega), if_pos ⟨by omega, by omega, by rw [Nat.add_sub_cancel_left]; exact h⟩]
  · rw [za_un e]
    unfold zx_lkp
    by_cases c : s * 16 ≤ j ∧ j < s * 16 + p ∧ F.testBit (j - s * 16) = true
    · rw [if_pos c, if_pos ⟨c.1, by omega, c.2.2⟩]
    · rw [if_neg c, if_neg (fun z => c ⟨z.1, by omega, z.2.2⟩)]
theorem za_vb {b : Nat} (h : b < 2) : vp_nar .boolean (nI b) = nI b := by
  rcases (show b = 0 ∨ b = 1 by omega) with e | e <;> subst e <;> rfl
section
variable {kC kI kE kN kS kU kT nl ll us dp tk ot : Int32} {rt kd ag lf sz lb nu fi la fo be ne en wd ln tn tv te ts tz : Nat → Int32}
theorem zx_addn {post : SX → Prop} {US k a l t : Nat} {KD AG LF SZ LB FO : Nat → Nat} (hu : US < 16)
    (h : post (kC, kI, kE, kN, kS, kU, kT, nl, ll, nI (US + 1), dp, tk, ot, rt, za_n (za_u KD US k), za_n (za_u AG US a), za_n (za_u LF US l), za_n (za_u SZ US t), za_n (za_u (za_u LB US 0) (US + 16) 0), nu, fi, la, za_n (za_u (za_u FO US 0) (US + 16) 0), be, ne, en, wd, ln, tn, tv, te, ts, tz)) :
    wpX_addNode post (kC, kI, kE, kN, kS, kU, kT, nl, ll, nI US, dp, tk, ot, rt, za_n KD, za_n AG, za_n LF, za_n SZ, za_n LB, nu, fi, la, za_n FO, be, ne, en, wd, ln, tn, tv, te, ts, tz) (nI k) (nI a) (nI l) (nI t) := by
  have hi : vp_in (nI US) 16 := vp_in_nI hu (by omega)
  unfold wpX_addNode
  dsimp only
  rw [za_cl (show US < 2147483648 by omega)]
  refine ⟨hi, nm_r (za_upd KD US k) ⟨hi, nm_r (za_upd AG US a) ⟨hi, nm_r (za_upd LF US l) ⟨hi, nm_r (za_upd SZ US t) (Exists.intro 3 ?_)⟩⟩⟩⟩
  simp only [wX_addNode_43]
  refine br_f (fun z => ?_) ?_
  · have := (za_le (a := 32) (b := US) (by omega) (by omega)).mp z
    omega
  rw [za_cl (show US < 2147483648 by omega)]
  refine ⟨vp_in_nI (by omega) (by omega), nm_r (za_upd LB US 0) ⟨vp_in_nI (by omega) (by omega), nm_r (za_upd FO US 0) (nm_r (e' := nI (US + 16)) (za_add US 16) ?_)⟩⟩
  refine br_f (fun z => ?_) ?_
  · have := (za_le (a := 32) (b := US + 16) (by omega) (by omega)).mp z
    omega
  rw [za_cl (show US + 16 < 2147483648 by omega)]
  refine ⟨vp_in_nI (by omega) (by omega), nm_r (za_upd _ (US + 16) 0) ⟨vp_in_nI (by omega) (by omega), nm_r (za_upd _ (US + 16) 0) (nm_r (e' := nI (US + 16 + 16)) (za_add (US + 16) 16) ?_)⟩⟩
  refine br_t ((za_le (a := 32) (b := US + 16 + 16) (by omega) (by omega)).mpr (by omega)) (nm_r (nI_1 US) h)
theorem zx_setl {post : SX → Prop} {c b f l : Nat} {NU FI LA : Nat → Nat} (hc : c < 32) (hb : b < 2)
    (h : post (kC, kI, kE, kN, kS, kU, kT, nl, ll, us, dp, tk, ot, rt, kd, ag, lf, sz, lb, za_n (za_u NU c b), za_n (za_u FI c f), za_n (za_u LA c l), fo, be, ne, en, wd, ln, tn, tv, te, ts, tz)) :
    wpX_setLanguage post (kC, kI, kE, kN, kS, kU, kT, nl, ll, us, dp, tk, ot, rt, kd, ag, lf, sz, lb, za_n NU, za_n FI, za_n LA, fo, be, ne, en, wd, ln, tn, tv, te, ts, tz) (nI c) (nI b) (nI f) (nI l) := by
  have hi : vp_in (nI c) 32 := vp_in_nI hc (by omega)
  unfold wpX_setLanguage
  dsimp only
  rw [za_cl (show c < 2147483648 by omega), za_vb hb]
  exact ⟨hi, nm_r (za_upd NU c b) ⟨hi, nm_r (za_upd FI c f) ⟨hi, nm_r (za_upd LA c l) h⟩⟩⟩
theorem zx_leafs {post : SX → Prop} {s n m : Nat} {LB NU FI LA : Nat → Nat} (hs : s < 2) (hn : n < 16) (hm : m < 4)
    (h : post (kC, kI, kE, kN, kS, kU, kT, nl, ll, us, dp, tk, ot, rt, kd, ag, lf, sz, za_n (za_u LB (s * 16 + n) m), za_n (za_u NU (s * 16 + n) (if m = 0 then 1 else 0)), za_n (za_u FI (s * 16 + n) (if m = 0 then 0 else 2 ^ n)), za_n (za_u LA (s * 16 + n) (if m = 0 then 0 else 2 ^ n)), fo, be, ne, en, wd, ln, tn, tv, te, ts, tz)) :
    wpX_setLeaf post (kC, kI, kE, kN, kS, kU, kT, nl, ll, us, dp, tk, ot, rt, kd, ag, lf, sz, za_n LB, za_n NU, za_n FI, za_n LA, fo, be, ne, en, wd, ln, tn, tv, te, ts, tz) (nI s) (nI n) (nI m) := by
  unfold wpX_setLeaf
  dsimp only
  refine nm_r (za_ix s n) ?_
  have hi : vp_in (nI (s * 16 + n)) 32 := vp_in_nI (by omega) (by omega)
  by_cases z : m = 0
  · subst z
    refine br_t rfl ?_
    unfold wX_setLeaf_19
    rw [za_cl (show s * 16 + n < 2147483648 by omega)]
    refine ⟨hi, nm_r (za_upd LB _ 0) (br_t rfl ?_)⟩
    unfold wX_setLeaf_41
    exact zx_setl (b := 1) (f := 0) (l := 0) (by omega) (by omega) h
  · rw [if_neg z, if_neg z] at h
    have hz : ¬ nI m = 0 := fun y => z ((za_e0 (by omega)).mp y)
    refine br_f hz ?_
    unfold wX_setLeaf_19
    rw [za_cl (show s * 16 + n < 2147483648 by omega), za_sh1 (by omega)]
    refine ⟨hi, nm_r (za_upd LB _ m) (br_f hz ?_)⟩
    unfold wX_setLeaf_41
    exact zx_setl (b := 0) (by omega) (by omega) h
theorem zx_push {post : Int32 → SX → Prop} {NL US D k a m0 m1 : Nat} {RT KD AG LF SZ LB NU FI LA FO : Nat → Nat} (hn : NL ≤ 16) (hD : US < NL → D < 16) (hm0 : m0 < 4) (hm1 : m1 < 4) (hU : US ≤ NL)
    (h2 : NL ≤ US → post (-2) (kC, kI, kE, kN, kS, kU, kT, nI NL, ll, nI US, nI D, tk, ot, za_n RT, za_n KD, za_n AG, za_n LF, za_n SZ, za_n LB, za_n NU, za_n FI, za_n LA, za_n FO, be, ne, en, wd, ln, tn, tv, te, ts, tz))
    (h : US < NL → post (nI (D + 1)) (kC, kI, kE, kN, kS, kU, kT, nI NL, ll, nI (US + 1), nI (D + 1), tk, ot, za_n (za_u RT D US), za_n (za_u KD US k), za_n (za_u AG US a), za_n (za_u LF US 0), za_n (za_u SZ US 1), za_n (za_u (za_u (za_u (za_u LB US 0) (US + 16) 0) (0 * 16 + US) m0) (1 * 16 + US) m1), za_n (za_u (za_u NU (0 * 16 + US) (if m0 = 0 then 1 else 0)) (1 * 16 + US) (if m1 = 0 then 1 else 0)), za_n (za_u (za_u FI (0 * 16 + US) (if m0 = 0 then 0 else 2 ^ US)) (1 * 16 + US) (if m1 = 0 then 0 else 2 ^ US)), za_n (za_u (za_u LA (0 * 16 + US) (if m0 = 0 then 0 else 2 ^ US)) (1 * 16 + US) (if m1 = 0 then 0 else 2 ^ US)), za_n (za_u (za_u FO US 0) (US + 16) 0), be, ne, en, wd, ln, tn, tv, te, ts, tz)) :
    wpX_pushLeaf post (kC, kI, kE, kN, kS, kU, kT, nI NL, ll, nI US, nI D, tk, ot, za_n RT, za_n KD, za_n AG, za_n LF, za_n SZ, za_n LB, za_n NU, za_n FI, za_n LA, za_n FO, be, ne, en, wd, ln, tn, tv, te, ts, tz) (nI k) (nI a) (nI m0) (nI m1) := by
  unfold wpX_pushLeaf
  dsimp only
  refine za_br (za_lt (by omega) (by omega)) (fun z => ?_) (fun z => h2 (by omega))
  refine zx_addn (l := 0) (t := 1) (by omega) ?_
  refine zx_leafs (s := 0) (by omega) (by omega) hm0 ?_
  refine zx_leafs (s := 1) (by omega) (by omega) hm1 ?_
  dsimp only
  have hD' := hD z
  rw [za_cl (show D < 2147483648 by omega)]
  exact ⟨vp_in_nI hD' (by omega), nm_r (za_upd RT D US) (nm_r (nI_1 D) (h z))⟩
theorem zx_link_l {post : SX → Prop} {s F T : Nat} {FO : Nat → Nat} (hs : s < 2) (hF : F < 65536)
    (h : post (kC, kI, kE, kN, kS, kU, kT, nl, ll, us, dp, tk, ot, rt, kd, ag, lf, sz, lb, nu, fi, la, za_n (zx_lk FO s F T), be, ne, en, wd, ln, tn, tv, te, ts, tz)) :
    ∀ n p, p ≤ 16 → 16 - p < n → wX_link_3 post (nI s) (nI F) (nI T) kC kI kE kN kS kU kT nl ll us dp tk ot n (nI p) rt kd ag lf sz lb nu fi la (za_n (zx_lkp FO s F T p)) be ne en wd ln tn tv te ts tz := by
  intro n
  induction n with
  | zero => intro p a b; omega
  | succ n ih =>
    intro p a b
    simp only [wX_link_3]
    refine za_br (za_le (a := 16) (b := p) (by omega) (by omega)) (fun z => ?_) (fun z => ?_)
    · have e : p = 16 := by omega
      subst e
      exact h
    refine za_br0 (za_bit (by omega) (by omega)) (fun q => nm_r (nI_1 p) ?_) (fun q => ?_)
    · rw [← zx_lkpS1 q]
      exact ih (p + 1) (by omega) (by omega)
    · rw [za_ix, za_cl (show s * 16 + p < 2147483648 by omega), za_ap, za_or, za_upd, zx_lkpS2 q]
      have hi : vp_in (nI (s * 16 + p)) 32 := vp_in_nI (by omega) (by omega)
      exact ⟨hi, hi, nm_e (nm_r (nI_1 p) (ih (p + 1) (by omega) (by omega)))⟩
theorem zx_link {post : SX → Prop} {s F T : Nat} {FO : Nat → Nat} (hs : s < 2) (hF : F < 65536) (h : post (kC, kI, kE, kN, kS, kU, kT, nl, ll, us, dp, tk, ot, rt, kd, ag, lf, sz, lb, nu, fi, la, za_n (zx_lk FO s F T), be, ne, en, wd, ln, tn, tv, te, ts, tz)) : wpX_link post (kC, kI, kE, kN, kS, kU, kT, nl, ll, us, dp, tk, ot, rt, kd, ag, lf, sz, lb, nu, fi, la, za_n FO, be, ne, en, wd, ln, tn, tv, te, ts, tz) (nI s) (nI F) (nI T) := by
  have := zx_link_l (FO := FO) (T := T) hs hF h 17 0 (by omega) (by omega)
  rw [zx_lkp0] at this
  exact Exists.intro 17 this
theorem zx_seq {post : SX → Prop} {s n x y : Nat} {NU FI LA FO : Nat → Nat} (hs : s < 2) (hn : n < 16) (hx : x < 16) (hy : y < 16) (nx : x ≠ n) (ny : y ≠ n) (hNU : ∀ i, NU i < 2) (hLA : ∀ i, LA i < 65536)
    (h : post (kC, kI, kE, kN, kS, kU, kT, nl, ll, us, dp, tk, ot, rt, kd, ag, lf, sz, lb, za_n (za_u NU (s * 16 + n) (if NU (s * 16 + x) = 0 then 0 else if NU (s * 16 + y) = 0 then 0 else 1)), za_n (za_u FI (s * 16 + n) (if NU (s * 16 + x) = 0 then FI (s * 16 + x) else FI (s * 16 + x) ||| FI (s * 16 + y))), za_n (za_u LA (s * 16 + n) (if NU (s * 16 + y) = 0 then LA (s * 16 + y) else LA (s * 16 + x) ||| LA (s * 16 + y))), za_n (zx_lk FO s (LA (s * 16 + x)) (FI (s * 16 + y))), be, ne, en, wd, ln, tn, tv, te, ts, tz)) :
    wpX_sequence post (kC, kI, kE, kN, kS, kU, kT, nl, ll, us, dp, tk, ot, rt, kd, ag, lf, sz, lb, za_n NU, za_n FI, za_n LA, za_n FO, be, ne, en, wd, ln, tn, tv, te, ts, tz) (nI s) (nI n) (nI x) (nI y) := by
  have ix : vp_in (nI (s * 16 + x)) 32 := vp_in_nI (by omega) (by omega)
  have iy : vp_in (nI (s * 16 + y)) 32 := vp_in_nI (by omega) (by omega)
  have cx : (nI (s * 16 + x)).toNatClampNeg = s * 16 + x := za_cl (by omega)
  have cy : (nI (s * 16 + y)).toNatClampNeg = s * 16 + y := za_cl (by omega)
  have hux := hNU (s * 16 + x)
  have huy := hNU (s * 16 + y)
  have last : ∀ b f l, b < 2 → post (kC, kI, kE, kN, kS, kU, kT, nl, ll, us, dp, tk, ot, rt, kd, ag, lf, sz, lb, za_n (za_u NU (s * 16 + n) b), za_n (za_u FI (s * 16 + n) f), za_n (za_u LA (s * 16 + n) l), za_n (zx_lk FO s (LA (s * 16 + x)) (FI (s * 16 + y))), be, ne, en, wd, ln, tn, tv, te, ts, tz) →
      wX_sequence_123 post (nI s) (nI (s * 16 + x)) (nI (s * 16 + y)) (nI f) (nI l) (nI b) (nI (s * 16 + n)) kC kI kE kN kS kU kT nl ll us dp tk ot rt kd ag lf sz lb (za_n NU) (za_n FI) (za_n LA) (za_n FO) be ne en wd ln tn tv te ts tz := by
    intro b f l hb hp
    unfold wX_sequence_123
    refine zx_setl (by omega) hb ?_
    dsimp only
    rw [cx, cy, za_ap (za_u LA _ _), za_ap (za_u FI _ _), za_un (by omega), za_un (by omega)]
    exact ⟨ix, iy, zx_link hs (hLA _) hp⟩
  have mid : ∀ f l, post (kC, kI, kE, kN, kS, kU, kT, nl, ll, us, dp, tk, ot, rt, kd, ag, lf, sz, lb, za_n (za_u NU (s * 16 + n) (if NU (s * 16 + x) = 0 then 0 else if NU (s * 16 + y) = 0 then 0 else 1)), za_n (za_u FI (s * 16 + n) f), za_n (za_u LA (s * 16 + n) l), za_n (zx_lk FO s (LA (s * 16 + x)) (FI (s * 16 + y))), be, ne, en, wd, ln, tn, tv, te, ts, tz) →
      wX_sequence_89 post (nI s) (nI n) (nI (s * 16 + x)) (nI (s * 16 + y)) (nI f) (nI l) kC kI kE kN kS kU kT nl ll us dp tk ot rt kd ag lf sz lb (za_n NU) (za_n FI) (za_n LA) (za_n FO) be ne en wd ln tn tv te ts tz := by
    intro f l hp
    unfold wX_sequence_89
    rw [cx, cy, za_ix]
    refine ⟨ix, za_br (za_e0 (x := NU (s * 16 + x)) (by omega)) (fun z => ?_) (fun z => ⟨iy, za_br (za_e0 (x := NU (s * 16 + y)) (by omega)) (fun w => ?_) (fun w => ?_)⟩)⟩
    · rw [if_pos z] at hp
      unfold wX_sequence_122
      exact last 0 f l (by omega) hp
    · rw [if_neg z, if_pos w] at hp
      unfold wX_sequence_122
      exact last 0 f l (by omega) hp
    · rw [if_neg z, if_neg w] at hp
      exact last 1 f l (by omega) hp
  have fst : ∀ f, post (kC, kI, kE, kN, kS, kU, kT, nl, ll, us, dp, tk, ot, rt, kd, ag, lf, sz, lb, za_n (za_u NU (s * 16 + n) (if NU (s * 16 + x) = 0 then 0 else if NU (s * 16 + y) = 0 then 0 else 1)), za_n (za_u FI (s * 16 + n) f), za_n (za_u LA (s * 16 + n) (if NU (s * 16 + y) = 0 then LA (s * 16 + y) else LA (s * 16 + x) ||| LA (s * 16 + y))), za_n (zx_lk FO s (LA (s * 16 + x)) (FI (s * 16 + y))), be, ne, en, wd, ln, tn, tv, te, ts, tz) →
      wX_sequence_52 post (nI s) (nI n) (nI (s * 16 + x)) (nI (s * 16 + y)) (nI f) kC kI kE kN kS kU kT nl ll us dp tk ot rt kd ag lf sz lb (za_n NU) (za_n FI) (za_n LA) (za_n FO) be ne en wd ln tn tv te ts tz := by
    intro f hp
    unfold wX_sequence_52
    rw [cx, cy]
    refine ⟨iy, za_br (za_e0 (x := NU (s * 16 + y)) (by omega)) (fun w => ⟨iy, ?_⟩) (fun w => ⟨ix, iy, ?_⟩)⟩
    · have e : (if NU (s * 16 + y) = 0 then LA (s * 16 + y) else LA (s * 16 + x) ||| LA (s * 16 + y)) = LA (s * 16 + y) := if_pos w
      rw [e] at hp
      exact mid f _ hp
    · have e : (if NU (s * 16 + y) = 0 then LA (s * 16 + y) else LA (s * 16 + x) ||| LA (s * 16 + y)) = LA (s * 16 + x) ||| LA (s * 16 + y) := if_neg w
      rw [e] at hp
      rw [za_ap LA, za_ap LA, za_or]
      exact mid f _ hp
  unfold wpX_sequence
  dsimp only
  refine nm_r (za_ix s x) (nm_r (za_ix s y) ?_)
  rw [cx, cy]
  refine ⟨ix, za_br (za_e0 (x := NU (s * 16 + x)) (by omega)) (fun w => ⟨ix, ?_⟩) (fun w => ⟨ix, iy, ?_⟩)⟩
  · have e : (if NU (s * 16 + x) = 0 then FI (s * 16 + x) else FI (s * 16 + x) ||| FI (s * 16 + y)) = FI (s * 16 + x) := if_pos w
    rw [e] at h
    exact fst _ h
  · have e : (if NU (s * 16 + x) = 0 then FI (s * 16 + x) else FI (s * 16 + x) ||| FI (s * 16 + y)) = FI (s * 16 + x) ||| FI (s * 16 + y) := if_neg w
    rw [e] at h
    rw [za_ap FI, za_ap FI, za_or]
    exact fst _ h
theorem zx_split {post : Int32 → SX → Prop} {s x y L : Nat} {LB NU FI LA FO BE NE : Nat → Nat} (hs : s < 2) (hx : x < 16) (hy : y < 16) (hL1 : 1 ≤ L) (hL : L ≤ 8) (hLB : ∀ i, LB i < 4) (hNU : ∀ i, NU i < 2) (hFI : ∀ i, FI i < 65536) (hLA : ∀ i, LA i < 65536) (hFO : ∀ i, FO i < 65536)
    (hpost : ∀ r BE NE, r < 65536 → zm_M r (zx_Cl (zx_E (FI (s * 16 + x)) (if NU (s * 16 + x) = 0 then 0 else FI (s * 16 + y)) (LA (s * 16 + x)) (FI (s * 16 + y)) FO s) (zx_lb LB s) (if NU (s * 16 + y) = 0 then LA (s * 16 + y) else LA (s * 16 + x) ||| LA (s * 16 + y)) (2 ^ (L + 1))) → post (nI r) (kC, kI, kE, kN, kS, kU, kT, nl, nI L, us, dp, tk, ot, rt, kd, ag, lf, sz, za_n LB, za_n NU, za_n FI, za_n LA, za_n FO, za_n BE, za_n NE, en, wd, ln, tn, tv, te, ts, tz)) :
    wpX_splitClash post (kC, kI, kE, kN, kS, kU, kT, nl, nI L, us, dp, tk, ot, rt, kd, ag, lf, sz, za_n LB, za_n NU, za_n FI, za_n LA, za_n FO, za_n BE, za_n NE, en, wd, ln, tn, tv, te, ts, tz) (nI s) (nI x) (nI y) := by
  have ix : vp_in (nI (s * 16 + x)) 32 := vp_in_nI (by omega) (by omega)
  have iy : vp_in (nI (s * 16 + y)) 32 := vp_in_nI (by omega) (by omega)
  have cx : (nI (s * 16 + x)).toNatClampNeg = s * 16 + x := za_cl (by omega)
  have cy : (nI (s * 16 + y)).toNatClampNeg = s * 16 + y := za_cl (by omega)
  have hux := hNU (s * 16 + x)
  have huy := hNU (s * 16 + y)
  have last : ∀ C acc, C < 65536 → acc < 65536 → C = (if NU (s * 16 + x) = 0 then 0 else FI (s * 16 + y)) → acc = (if NU (s * 16 + y) = 0 then LA (s * 16 + y) else LA (s * 16 + x) ||| LA (s * 16 + y)) →
      wX_splitClash_74 post (nI s) (nI (s * 16 + x)) (nI (s * 16 + y)) (nI C) (nI acc) kC kI kE kN kS kU kT nl (nI L) us dp tk ot rt kd ag lf sz (za_n LB) (za_n NU) (za_n FI) (za_n LA) (za_n FO) (za_n BE) (za_n NE) en wd ln tn tv te ts tz := by
    intro C acc hC ha eC eA
    unfold wX_splitClash_74
    rw [cx, cy]
    refine ⟨ix, ix, iy, zx_lc hs (hFI _) hC (hLA _) (hFI _) ha hFO hLB hL1 hL (fun r BE NE hr hM => ?_)⟩
    rw [eC, eA] at hM
    exact hpost r BE NE hr hM
  have mid : ∀ C, C < 65536 → C = (if NU (s * 16 + x) = 0 then 0 else FI (s * 16 + y)) → wX_splitClash_37 post (nI s) (nI (s * 16 + x)) (nI (s * 16 + y)) (nI C) kC kI kE kN kS kU kT nl (nI L) us dp tk ot rt kd ag lf sz (za_n LB) (za_n NU) (za_n FI) (za_n LA) (za_n FO) (za_n BE) (za_n NE) en wd ln tn tv te ts tz := by
    intro C hC eC
    unfold wX_splitClash_37
    rw [cx, cy]
    refine ⟨iy, za_br (za_e0 (x := NU (s * 16 + y)) (by omega)) (fun w => ⟨iy, ?_⟩) (fun w => ⟨ix, iy, ?_⟩)⟩
    · exact last C _ hC (hLA _) eC (if_pos w).symm
    · rw [za_ap LA, za_ap LA, za_or]
      exact last C _ hC (za_or16 (hLA _) (hLA _)) eC (if_neg w).symm
  unfold wpX_splitClash
  dsimp only
  refine nm_r (za_ix s x) (nm_r (za_ix s y) ?_)
  rw [cx, cy]
  refine ⟨ix, za_br (za_e0 (x := NU (s * 16 + x)) (by omega)) (fun w => ?_) (fun w => ⟨iy, ?_⟩)⟩
  · exact mid 0 (by omega) (if_pos w).symm
  · exact mid _ (hFI _) (if_neg w).symm
theorem zx_over {post : Int32 → SX → Prop} {x y L : Nat} {LB NU FI LA FO BE NE : Nat → Nat} (hx : x < 16) (hy : y < 16) (hL1 : 1 ≤ L) (hL : L ≤ 8) (hLB : ∀ i, LB i < 4) (hNU : ∀ i, NU i < 2) (hFI : ∀ i, FI i < 65536) (hLA : ∀ i, LA i < 65536) (hFO : ∀ i, FO i < 65536)
    (h1 : NU x ≠ 0 → NU y ≠ 0 → post 1 (kC, kI, kE, kN, kS, kU, kT, nl, nI L, us, dp, tk, ot, rt, kd, ag, lf, sz, za_n LB, za_n NU, za_n FI, za_n LA, za_n FO, za_n BE, za_n NE, en, wd, ln, tn, tv, te, ts, tz))
    (hpost : (NU x = 0 ∨ NU y = 0) → ∀ r BE NE, r < 65536 → zm_M r (zx_Cl (zx_E (FI x) (FI y) 0 0 FO 0) (zx_lb LB 0) (LA x ||| LA y) (2 ^ (L + 1))) → post (nI r) (kC, kI, kE, kN, kS, kU, kT, nl, nI L, us, dp, tk, ot, rt, kd, ag, lf, sz, za_n LB, za_n NU, za_n FI, za_n LA, za_n FO, za_n BE, za_n NE, en, wd, ln, tn, tv, te, ts, tz)) :
    wpX_overlap post (kC, kI, kE, kN, kS, kU, kT, nl, nI L, us, dp, tk, ot, rt, kd, ag, lf, sz, za_n LB, za_n NU, za_n FI, za_n LA, za_n FO, za_n BE, za_n NE, en, wd, ln, tn, tv, te, ts, tz) (nI x) (nI y) := by
  have ix : vp_in (nI x) 32 := vp_in_nI (by omega) (by omega)
  have iy : vp_in (nI y) 32 := vp_in_nI (by omega) (by omega)
  have cx : (nI x).toNatClampNeg = x := za_cl (by omega)
  have cy : (nI y).toNatClampNeg = y := za_cl (by omega)
  have hux := hNU x
  have huy := hNU y
  have last : (NU x = 0 ∨ NU y = 0) → wX_overlap_20 post (nI x) (nI y) kC kI kE kN kS kU kT nl (nI L) us dp tk ot rt kd ag lf sz (za_n LB) (za_n NU) (za_n FI) (za_n LA) (za_n FO) (za_n BE) (za_n NE) en wd ln tn tv te ts tz := by
    intro c
    unfold wX_overlap_20
    rw [cx, cy, za_ap LA, za_ap LA, za_or]
    exact ⟨ix, iy, ix, iy, zx_lc (s := 0) (F := 0) (T := 0) (by omega) (hFI _) (hFI _) (by omega) (by omega) (za_or16 (hLA _) (hLA _)) hFO hLB hL1 hL (hpost c)⟩
  unfold wpX_overlap
  dsimp only
  rw [cx, cy]
  exact ⟨ix, za_br (za_e0 (x := NU x) (by omega)) (fun w => last (Or.inl w)) (fun w => ⟨iy, za_br (za_e0 (x := NU y) (by omega)) (fun v => last (Or.inr v)) (fun v => h1 w v)⟩)⟩
theorem zx_iter {post : Int32 → SX → Prop} {s x L : Nat} {LB NU FI LA FO BE NE : Nat → Nat} (hs : s < 2) (hx : x < 16) (hL1 : 1 ≤ L) (hL : L ≤ 8) (hLB : ∀ i, LB i < 4) (hNU : ∀ i, NU i < 2) (hFI : ∀ i, FI i < 65536) (hLA : ∀ i, LA i < 65536) (hFO : ∀ i, FO i < 65536)
    (h1 : NU (s * 16 + x) ≠ 0 → post 1 (kC, kI, kE, kN, kS, kU, kT, nl, nI L, us, dp, tk, ot, rt, kd, ag, lf, sz, za_n LB, za_n NU, za_n FI, za_n LA, za_n FO, za_n BE, za_n NE, en, wd, ln, tn, tv, te, ts, tz))
    (hpost : NU (s * 16 + x) = 0 → ∀ r BE NE, r < 65536 → zm_M r (zx_Cl (zx_E (FI (s * 16 + x)) 0 (LA (s * 16 + x)) (FI (s * 16 + x)) FO s) (zx_lb LB s) (LA (s * 16 + x)) (2 ^ (L + 1))) → post (nI r) (kC, kI, kE, kN, kS, kU, kT, nl, nI L, us, dp, tk, ot, rt, kd, ag, lf, sz, za_n LB, za_n NU, za_n FI, za_n LA, za_n FO, za_n BE, za_n NE, en, wd, ln, tn, tv, te, ts, tz)) :
    wpX_iterationClash post (kC, kI, kE, kN, kS, kU, kT, nl, nI L, us, dp, tk, ot, rt, kd, ag, lf, sz, za_n LB, za_n NU, za_n FI, za_n LA, za_n FO, za_n BE, za_n NE, en, wd, ln, tn, tv, te, ts, tz) (nI s) (nI x) := by
  have ix : vp_in (nI (s * 16 + x)) 32 := vp_in_nI (by omega) (by omega)
  have cx : (nI (s * 16 + x)).toNatClampNeg = s * 16 + x := za_cl (by omega)
  have hux := hNU (s * 16 + x)
  unfold wpX_iterationClash
  dsimp only
  refine nm_r (za_ix s x) ?_
  rw [cx]
  refine ⟨ix, za_br (za_e0 (x := NU (s * 16 + x)) (by omega)) (fun w => ⟨ix, ix, ix, ix, ?_⟩) (fun w => h1 w)⟩
  exact zx_lc (C := 0) hs (hFI _) (by omega) (hLA _) (hFI _) (hLA _) hFO hLB hL1 hL (hpost w)
end
end
section
/-! Y: has, last, the counts of ways -/
theorem zy_oreq {k r : Nat} (h : r < 2 ^ k) : 2 ^ k ||| r = 2 ^ k + r := by
  have := Nat.two_pow_add_eq_or_of_lt h 1
  rw [Nat.mul_one] at this
  exact this.symm
theorem zy_lastv {w k : Nat} (hw : w < 2147483648) (hk : k ≤ 20) : ((1 : Int32) <<< (nI k &&& 31)) ||| (nI w &&& (((1 : Int32) <<< (nI k &&& 31)) - 1)) = nI (zc_tl w k) := by
  have p := zc_pp k
  have p2 : 2 ^ k ≤ 2 ^ 20 := za_p2 hk
  have e : nI (2 ^ k) - 1 = nI (2 ^ k - 1) := za_sub (b := 1) p
  rw [za_sh1 (by omega), e, pk_andN (n := w) (by omega) k (pk_tn (by omega)), za_or, zy_oreq (Nat.mod_lt _ p)]
  rfl
/-- all the ways to cut a word into a sequence of words of x -/
def zy_W (LG : Nat → Nat) (x s : Nat) : Nat → Nat → Nat
  | 0, _ => 0
  | f + 1, w => if w = 1 then 1 else zm_sum (fun k => if zy_h LG x s (w / 2 ^ k) = true then zy_W LG x s f (zc_tl w k) else 0) 9
def zy_sta (LG : Nat → Nat) (x s w : Nat) : Nat := zy_W LG x s 512 w
theorem zm_sumc {a b : Nat → Nat} : ∀ n, (∀ k, k < n → a k = b k) → zm_sum a n = zm_sum b n
  | 0, _ => rfl
  | n + 1, h => by
    unfold zm_sum
    rw [zm_sumc n (fun k hk => h k (by omega)), h n (by omega)]
theorem zy_hd {LG : Nat → Nat} {x s w k : Nat} (h1 : zy_h LG x s 1 = false) (h : zy_h LG x s (w / 2 ^ k) = true) : 2 ≤ w / 2 ^ k := by
  generalize w / 2 ^ k = q at h
  rcases (show q = 0 ∨ q = 1 ∨ 2 ≤ q by omega) with e | e | e
  · rw [e, zy_h0] at h; cases h
  · rw [e, h1] at h; cases h
  · exact e
theorem zy_Wst {LG : Nat → Nat} {x s : Nat} (h1 : zy_h LG x s 1 = false) : ∀ f g w, w ≤ f → w ≤ g → 1 ≤ w → zy_W LG x s f w = zy_W LG x s g w := by
  intro f
  induction f with
  | zero => intro g w a b c; omega
  | succ f ih =>
    intro g w a b c
    cases g with
    | zero => omega
    | succ g =>
      unfold zy_W
      by_cases e : w = 1
      · rw [if_pos e, if_pos e]
      · rw [if_neg e, if_neg e]
        apply zm_sumc
        intro k hk
        by_cases z : zy_h LG x s (w / 2 ^ k) = true
        · rw [if_pos z, if_pos z]
          have lt := zc_tl_lt_w (zy_hd h1 z)
          exact ih g _ (by omega) (by omega) (zc_tl_pos _ _)
        · rw [if_neg z, if_neg z]
theorem zy_sta1 (LG : Nat → Nat) (x s : Nat) : zy_sta LG x s 1 = 1 := by
  unfold zy_sta zy_W
  rw [if_pos rfl]
theorem zy_staS {LG : Nat → Nat} {x s w : Nat} (h1 : zy_h LG x s 1 = false) (h2 : 2 ≤ w) (h5 : w < 512) : zy_sta LG x s w = zm_sum (zy_sw LG (zy_sta LG x s) x s w) 9 := by
  unfold zy_sta
  rw [zy_W, if_neg (by omega)]
  apply zm_sumc
  intro k hk
  unfold zy_sw
  by_cases z : zy_h LG x s (w / 2 ^ k) = true
  · rw [if_pos z, if_pos z]
    have lt := zc_tl_lt_w (zy_hd h1 z)
    exact zy_Wst h1 _ _ _ (by omega) (by omega) (zc_tl_pos _ _)
  · rw [if_neg z, if_neg z]
theorem zm_sumb {b : Nat → Nat} {m : Nat} (h1 : ∀ k, b k ≤ 2 ^ k) (h2 : ∀ k, m ≤ k → b k = 0) : ∀ n, zm_sum b n + 1 ≤ 2 ^ (min n m)
  | 0 => by simp [zm_sum]
  | n + 1 => by
    have ih := zm_sumb h1 h2 n
    unfold zm_sum
    rcases Nat.lt_or_ge n m with z | z
    · rw [show min (n + 1) m = n + 1 by omega, Nat.pow_succ]
      rw [show min n m = n by omega] at ih
      have := h1 n
      omega
    · rw [show min (n + 1) m = m by omega, h2 n z]
      rw [show min n m = m by omega] at ih
      omega
theorem zy_staB {LG : Nat → Nat} {x s : Nat} (h1 : zy_h LG x s 1 = false) : ∀ w, 1 ≤ w → w < 512 → ∀ m, w < 2 ^ (m + 1) → zy_sta LG x s w ≤ 2 ^ m := by
  intro w
  induction w using Nat.strongRecOn with
  | ind w ih =>
    intro a b m hm
    rcases Nat.lt_or_ge w 2 with z | z
    · have e : w = 1 := by omega
      subst e
      rw [zy_sta1]
      exact zc_pp m
    · rw [zy_staS h1 z b]
      have : zm_sum (zy_sw LG (zy_sta LG x s) x s w) 9 + 1 ≤ 2 ^ (min 9 m) := by
        apply zm_sumb
        · intro k
          unfold zy_sw
          by_cases y : zy_h LG x s (w / 2 ^ k) = true
          · rw [if_pos y]
            have lt := zc_tl_lt_w (zy_hd h1 y)
            exact ih _ lt (zc_tl_pos _ _) (by omega) k (zc_tl_lt w k)
          · rw [if_neg y]
            exact Nat.zero_le _
        · intro k hk
          unfold zy_sw
          rw [if_neg]
          intro y
          have q := zy_hd h1 y
          have : w / 2 ^ k < 2 := by
            apply Nat.div_lt_of_lt_mul
            have := za_p2 (show m + 1 ≤ k + 1 by omega)
            rw [Nat.pow_succ] at this
            omega
          omega
      have p : 2 ^ (min 9 m) ≤ 2 ^ m := za_p2 (by omega)
      omega
theorem zy_staB' {LG : Nat → Nat} {x s w : Nat} (h1 : zy_h LG x s 1 = false) (a : 1 ≤ w) (b : w < 512) : zy_sta LG x s w < 65536 := by
  have := zy_staB h1 w a b 8 (by omega)
  omega
theorem zm_suml {b : Nat → Nat} {c : Nat} (h : ∀ k, b k ≤ c) : ∀ n, zm_sum b n ≤ n * c
  | 0 => Nat.zero_le _
  | n + 1 => by
    have := zm_suml h n
    have := h n
    unfold zm_sum
    rw [Nat.add_mul]
    omega
theorem zy_catB (LG : Nat → Nat) (x y s w : Nat) : zy_cat LG x y s w < 65536 := by
  have := zm_suml (b := zy_cw LG x y s w) (c := 1) (fun k => by unfold zy_cw; exact Bool.toNat_le _) 9
  unfold zy_cat
  omega
theorem zy_uniB (LG : Nat → Nat) (x y s w : Nat) : zy_uni LG x y s w < 65536 := by
  have := zm_suml (b := zy_uw LG x y s w) (c := 1) (fun k => by unfold zy_uw; split <;> exact Bool.toNat_le _) 2
  unfold zy_uni
  omega
/-- the counts written up to word m -/
def zy_wp (WY : Nat → Nat) (s : Nat) (c : Nat → Nat) (m : Nat) : Nat → Nat := fun j => if s * 512 + 1 ≤ j ∧ j < s * 512 + m then c (j - s * 512) else WY j
theorem zy_wp1 (WY : Nat → Nat) (s : Nat) (c : Nat → Nat) : zy_wp WY s c 1 = WY := by
  funext j
  unfold zy_wp
  rw [if_neg (by omega)]
theorem zy_wpS {WY : Nat → Nat} {s : Nat} {c : Nat → Nat} {m : Nat} (h : 1 ≤ m) : za_u (zy_wp WY s c m) (s * 512 + m) (c m) = zy_wp WY s c (m + 1) := by
  funext j
  by_cases e : j = s * 512 + m
  · subst e
    rw [za_us]
    unfold zy_wp
    rw [if_pos (by omega), Nat.add_sub_cancel_left]
  · rw [za_un e]
    unfold zy_wp
    by_cases q : s * 512 + 1 ≤ j ∧ j < s * 512 + m
    · rw [if_pos q, if_pos (by omega)]
    · rw [if_neg q, if_neg (by omega)]
theorem zy_wpg {WY : Nat → Nat} {s : Nat} {c : Nat → Nat} {m w : Nat} (h1 : 1 ≤ w) (h2 : w < m) : zy_wp WY s c m (s * 512 + w) = c w := by
  unfold zy_wp
  rw [if_pos (by omega), Nat.add_sub_cancel_left]
section
variable {mn ml ct tp : Int32} {yr yk ya yf ys yz yl yw yn yv yo : Nat → Int32}
theorem zy_has {post : Int32 → Prop} {LG : Nat → Nat} {n s w : Nat} (hn : n < 16) (hs : s < 2) (hw : w < 2147483648) (hLG : ∀ i, LG i < 2) (h : post (za_b (zy_h LG n s w))) : wpY_has post (mn, ml, ct, tp, yr, yk, ya, yf, ys, yz, za_n LG, yw, yn, yv, yo) (nI n) (nI s) (nI w) := by
  unfold wpY_has
  dsimp only
  refine za_br (za_lt (b := 1) hw (by omega)) (fun z => ?_) (fun z => za_br (za_le (a := 512) (by omega) hw) (fun y => ?_) (fun y => ?_))
  · rw [show w = 0 by omega, zy_h0] at h
    exact h
  · have e : zy_h LG n s w = false := decide_eq_false (fun q => by omega)
    rw [e] at h
    exact h
  · have e : nI n * 1024 + nI s * 512 + nI w = nI (n * 1024 + s * 512 + w) := by
      show nI n * nI 1024 + nI s * nI 512 + nI w = _
      rw [za_mul, za_mul, za_add, za_add]
    rw [e, za_cl (show n * 1024 + s * 512 + w < 2147483648 by omega)]
    have hl := hLG (n * 1024 + s * 512 + w)
    refine ⟨vp_in_nI (by omega) (by omega), za_br (za_e0 (x := LG (n * 1024 + s * 512 + w)) (by omega)) (fun q => ?_) (fun q => ?_)⟩
    · have e : zy_h LG n s w = false := decide_eq_false (fun p => p.2.2 q)
      rw [e] at h
      exact h
    · have e : zy_h LG n s w = true := decide_eq_true ⟨by omega, by omega, q⟩
      rw [e] at h
      exact h
theorem zy_last {post : Int32 → Prop} {w k : Nat} (hw : w < 2147483648) (hk : k ≤ 20) (h : post (nI (zc_tl w k))) : wpY_last post (mn, ml, ct, tp, yr, yk, ya, yf, ys, yz, yl, yw, yn, yv, yo) (nI w) (nI k) := by
  unfold wpY_last
  dsimp only
  rw [zy_lastv hw hk]
  exact h
theorem zy_198 {post : Int32 → SY → Prop} {J : Int32 → Int32 → (Nat → Int32) → (Nat → Int32) → (Nat → Int32) → (Nat → Int32) → (Nat → Int32) → (Nat → Int32) → (Nat → Int32) → (Nat → Int32) → (Nat → Int32) → (Nat → Int32) → (Nat → Int32) → Prop} {x1 x2 x3 : Int32} {WY c : Nat → Nat} {s l w N : Nat} (hs : s < 2) (h1 : 1 ≤ w) (hw : w < N) (hN : N ≤ 512) (hl : l < 65536) (hc : c w < 65536)
    (hM : zm_M l (fun v => 1 ≤ v ∧ v < w ∧ 2 ≤ c v)) (h : ∀ l', l' < 65536 → zm_M l' (fun v => 1 ≤ v ∧ v < w + 1 ∧ 2 ≤ c v) → J (nI l') (nI (w + 1)) yr yk ya yf ys yz yl (za_n (zy_wp WY s c (w + 1))) yn yv yo) :
    wY_countWays_198 post J x1 x2 x3 (nI s) (nI l) (nI w) (nI (c w)) mn ml ct tp yr yk ya yf ys yz yl (za_n (zy_wp WY s c w)) yn yv yo := by
  unfold wY_countWays_198
  have e : nI s * 512 + nI w = nI (s * 512 + w) := by
    show nI s * nI 512 + nI w = _
    rw [za_mul, za_add]
  rw [e, za_cl (show s * 512 + w < 2147483648 by omega), za_upd, zy_wpS h1]
  refine ⟨vp_in_nI (by omega) (by omega), nm_e ?_⟩
  refine za_br (za_lt (b := 2) (by omega) (by omega)) (fun z => nm_r (nI_1 w) (h l hl (zm_cg hM fun v => ?_))) (fun z => za_br (za_e0 (by omega)) (fun y => nm_r (nI_1 w) (h w (by omega) ?_)) (fun y => nm_r (nI_1 w) (h l hl ?_)))
  · constructor
    · rintro ⟨a, b, q⟩
      exact ⟨a, by omega, q⟩
    · rintro ⟨a, b, q⟩
      by_cases e : v = w
      · subst e; omega
      · exact ⟨a, by omega, q⟩
  · constructor
    · rintro v ⟨a, b, q⟩
      refine ⟨by omega, ?_⟩
      by_cases e : v = w
      · omega
      · exact absurd y (hM.1 v ⟨a, by omega, q⟩).1
    · intro _
      exact ⟨h1, by omega, by omega⟩
  · constructor
    · rintro v ⟨a, b, q⟩
      refine ⟨y, ?_⟩
      have := (hM.2 y).2.1
      by_cases e : v = w
      · omega
      · exact (hM.1 v ⟨a, by omega, q⟩).2
    · intro _
      have := hM.2 y
      exact ⟨this.1, by omega, this.2.2⟩
end
end
section
/-! Y: countWays, walked -/
theorem za_sh2 {k : Nat} (hk : k < 30) : (2 : Int32) <<< (nI k &&& 31) = nI (2 ^ (k + 1)) := by
  show nI 2 <<< (nI k &&& nI 31) = _
  rw [za_31 (by omega), za_shl2 hk]
theorem za_shk {w k : Nat} (hw : w < 2147483648) (hk : k < 32) : nI w >>> (nI k &&& 31) = nI (w / 2 ^ k) := by
  show nI w >>> (nI k &&& nI 31) = _
  rw [za_31 (by omega), za_shr hw (by omega)]
section
variable {mn ml ct tp : Int32} {yr yk ya yf ys yz yl yw yn yv yo : Nat → Int32}
theorem zy_100c {post : Int32 → SY → Prop} {J : Int32 → Int32 → (Nat → Int32) → (Nat → Int32) → (Nat → Int32) → (Nat → Int32) → (Nat → Int32) → (Nat → Int32) → (Nat → Int32) → (Nat → Int32) → (Nat → Int32) → (Nat → Int32) → (Nat → Int32) → Prop} {LG : Nat → Nat} {how x y s l w : Nat} (hh : how = 3 ∨ how = 4) (hx : x < 16) (hy : y < 16) (hs : s < 2) (hw : w < 512) (hLG : ∀ i, LG i < 2)
    (h : wY_countWays_198 post J (nI how) (nI x) (nI y) (nI s) (nI l) (nI w) (nI (zy_cat LG x y s w)) mn ml ct tp yr yk ya yf ys yz (za_n LG) yw yn yv yo) :
    ∀ n k, k ≤ 9 → 9 - k < n → wY_countWays_100 post J (nI how) (nI x) (nI y) (nI s) (nI l) (nI w) mn ml ct tp yr yk ya yf ys yz (za_n LG) yw yn yv yo n (nI (zm_sum (zy_cw LG x y s w) k)) (nI k) := by
  have n5 : ¬ nI how = 5 := by rcases hh with e | e <;> subst e <;> decide
  have n6 : ¬ nI how = 6 := by rcases hh with e | e <;> subst e <;> decide
  intro n
  induction n with
  | zero => intro k a b; omega
  | succ n ih =>
    intro k a b
    simp only [wY_countWays_100]
    refine za_br (za_lt (a := 8) (by omega) (by omega)) (fun z => ?_) (fun z => br_f n5 ?_)
    · have e : k = 9 := by omega
      subst e
      exact h
    have hd : w / 2 ^ k < 2147483648 := za_dl w k (by omega)
    have e1 : zm_sum (zy_cw LG x y s w) (k + 1) = zm_sum (zy_cw LG x y s w) k + zy_cw LG x y s w k := rfl
    refine zy_last (by omega) (by omega) ?_
    rw [za_shk (by omega) (by omega)]
    refine zy_has hx hs hd hLG (za_brb (fun q => ?_) (fun q => br_f n6 ?_))
    · unfold wY_countWays_166
      refine br_t (by rw [q]; rfl) (nm_r (nI_1 k) ?_)
      have e2 : zy_cw LG x y s w k = 0 := by unfold zy_cw; rw [q]; rfl
      have := ih (k + 1) (by omega) (by omega)
      rw [e1, e2, Nat.add_zero] at this
      exact this
    · unfold wY_countWays_166
      refine br_f (by rw [q]; decide) (br_f n6 ?_)
      have ht := zc_tl_lt w k
      have p9 : 2 ^ (k + 1) ≤ 2 ^ 9 := za_p2 (by omega)
      refine zy_has hy hs (by omega) hLG (za_brb (fun q2 => nm_r (nI_1 k) ?_) (fun q2 => nm_r (nI_1 _) (nm_r (nI_1 k) ?_)))
      · have e2 : zy_cw LG x y s w k = 0 := by unfold zy_cw; rw [q, q2]; rfl
        have := ih (k + 1) (by omega) (by omega)
        rw [e1, e2, Nat.add_zero] at this
        exact this
      · have e2 : zy_cw LG x y s w k = 1 := by unfold zy_cw; rw [q, q2]; rfl
        have := ih (k + 1) (by omega) (by omega)
        rw [e1, e2] at this
        exact this
theorem zy_100s {post : Int32 → SY → Prop} {J : Int32 → Int32 → (Nat → Int32) → (Nat → Int32) → (Nat → Int32) → (Nat → Int32) → (Nat → Int32) → (Nat → Int32) → (Nat → Int32) → (Nat → Int32) → (Nat → Int32) → (Nat → Int32) → (Nat → Int32) → Prop} {LG WY W : Nat → Nat} {x s l w z0 : Nat} {x3 : Int32} (hx : x < 16) (hs : s < 2) (hw : w < 512) (hLG : ∀ i, LG i < 2) (h1 : zy_h LG x s 1 = false)
    (hW : ∀ v, 1 ≤ v → v < w → WY (s * 512 + v) = W v)
    (h : wY_countWays_198 post J 6 (nI x) x3 (nI s) (nI l) (nI w) (nI (z0 + zm_sum (zy_sw LG W x s w) 9)) mn ml ct tp yr yk ya yf ys yz (za_n LG) (za_n WY) yn yv yo) :
    ∀ n k, k ≤ 9 → 9 - k < n → wY_countWays_100 post J 6 (nI x) x3 (nI s) (nI l) (nI w) mn ml ct tp yr yk ya yf ys yz (za_n LG) (za_n WY) yn yv yo n (nI (z0 + zm_sum (zy_sw LG W x s w) k)) (nI k) := by
  intro n
  induction n with
  | zero => intro k a b; omega
  | succ n ih =>
    intro k a b
    simp only [wY_countWays_100]
    refine za_br (za_lt (a := 8) (by omega) (by omega)) (fun z => ?_) (fun z => br_f (by decide) ?_)
    · have e : k = 9 := by omega
      subst e
      exact h
    have hd : w / 2 ^ k < 2147483648 := za_dl w k (by omega)
    have e1 : zm_sum (zy_sw LG W x s w) (k + 1) = zm_sum (zy_sw LG W x s w) k + zy_sw LG W x s w k := rfl
    have nx := ih (k + 1) (by omega) (by omega)
    rw [e1] at nx
    refine zy_last (by omega) (by omega) ?_
    rw [za_shk (by omega) (by omega)]
    refine zy_has hx hs hd hLG (za_brb (fun q => ?_) (fun q => br_t trivial ?_))
    · unfold wY_countWays_166
      refine br_t (by rw [q]; rfl) (nm_r (nI_1 k) ?_)
      have e2 : zy_sw LG W x s w k = 0 := by unfold zy_sw; rw [if_neg (by rw [q]; decide)]
      rw [e2, Nat.add_zero] at nx
      exact nx
    · have lt := zc_tl_lt_w (zy_hd h1 q)
      have ps := zc_tl_pos w k
      have e2 : zy_sw LG W x s w k = WY (s * 512 + zc_tl w k) := by unfold zy_sw; rw [if_pos q, hW _ ps lt]
      have e : nI s * 512 + nI (zc_tl w k) = nI (s * 512 + zc_tl w k) := by
        show nI s * nI 512 + nI (zc_tl w k) = _
        rw [za_mul, za_add]
      rw [e, za_cl (show s * 512 + zc_tl w k < 2147483648 by omega)]
      refine ⟨vp_in_nI (by omega) (by omega), nm_r (za_add _ _) ?_⟩
      unfold wY_countWays_166
      refine br_f (by rw [q]; decide) (br_t rfl (nm_r (nI_1 k) ?_))
      rw [e2] at nx
      rw [Nat.add_assoc]
      exact nx
theorem zy_25_l {post : Int32 → SY → Prop} {LG WY c : Nat → Nat} {how x y s L : Nat} (hs : s < 2) (hL : L ≤ 8) (hc : ∀ w, 1 ≤ w → w < 2 ^ (L + 1) → c w < 65536)
    (hin : ∀ (J : Int32 → Int32 → (Nat → Int32) → (Nat → Int32) → (Nat → Int32) → (Nat → Int32) → (Nat → Int32) → (Nat → Int32) → (Nat → Int32) → (Nat → Int32) → (Nat → Int32) → (Nat → Int32) → (Nat → Int32) → Prop) l w, 1 ≤ w → w < 2 ^ (L + 1) → wY_countWays_198 post J (nI how) (nI x) (nI y) (nI s) (nI l) (nI w) (nI (c w)) mn (nI L) ct tp yr yk ya yf ys yz (za_n LG) (za_n (zy_wp WY s c w)) yn yv yo →
      ((nI how = 6 → ((nI w = 1 → wY_countWays_53 post J (nI how) (nI x) (nI y) (nI s) (nI l) (nI w) 1 mn (nI L) ct tp yr yk ya yf ys yz (za_n LG) (za_n (zy_wp WY s c w)) yn yv yo) ∧ (¬ nI w = 1 → wY_countWays_52 post J (nI how) (nI x) (nI y) (nI s) (nI l) (nI w) mn (nI L) ct tp yr yk ya yf ys yz (za_n LG) (za_n (zy_wp WY s c w)) yn yv yo))) ∧
        (¬ nI how = 6 → wY_countWays_52 post J (nI how) (nI x) (nI y) (nI s) (nI l) (nI w) mn (nI L) ct tp yr yk ya yf ys yz (za_n LG) (za_n (zy_wp WY s c w)) yn yv yo)))
    (hpost : ∀ r, r < 65536 → zm_M r (fun v => 1 ≤ v ∧ v < 2 ^ (L + 1) ∧ 2 ≤ c v) → post (nI r) (mn, nI L, ct, tp, yr, yk, ya, yf, ys, yz, za_n LG, za_n (zy_wp WY s c (2 ^ (L + 1))), yn, yv, yo)) :
    ∀ n w l, 1 ≤ w → w ≤ 2 ^ (L + 1) → 2 ^ (L + 1) - w < n → l < 65536 → zm_M l (fun v => 1 ≤ v ∧ v < w ∧ 2 ≤ c v) →
      wY_countWays_25 post (nI how) (nI x) (nI y) (nI s) mn (nI L) ct tp n (nI l) (nI w) yr yk ya yf ys yz (za_n LG) (za_n (zy_wp WY s c w)) yn yv yo := by
  have p9 : 2 ^ (L + 1) ≤ 2 ^ 9 := za_p2 (by omega)
  intro n
  induction n with
  | zero => intro w l a b; omega
  | succ n ih =>
    intro w l a b d hl hM
    simp only [wY_countWays_25]
    rw [za_sh2 (by omega)]
    refine za_br (za_le (by omega) (by omega)) (fun z => ?_) (fun z => ?_)
    · have e : w = 2 ^ (L + 1) := by omega
      subst e
      exact hpost l hl hM
    · refine hin _ l w a (by omega) (zy_198 (N := 2 ^ (L + 1)) hs a (by omega) (by omega) hl (hc w a (by omega)) hM (fun l' hl' hM' => ?_))
      exact ih (w + 1) l' (by omega) (by omega) (by omega) hl' hM'
theorem zy_cwc {post : Int32 → SY → Prop} {LG WY : Nat → Nat} {how x y s L : Nat} (hh : how = 3 ∨ how = 4) (hx : x < 16) (hy : y < 16) (hs : s < 2) (hL : L ≤ 8) (hLG : ∀ i, LG i < 2)
    (hpost : ∀ r, r < 65536 → zm_M r (fun v => 1 ≤ v ∧ v < 2 ^ (L + 1) ∧ 2 ≤ zy_cat LG x y s v) → post (nI r) (mn, nI L, ct, tp, yr, yk, ya, yf, ys, yz, za_n LG, za_n (zy_wp WY s (zy_cat LG x y s) (2 ^ (L + 1))), yn, yv, yo)) :
    wpY_countWays post (mn, nI L, ct, tp, yr, yk, ya, yf, ys, yz, za_n LG, za_n WY, yn, yv, yo) (nI how) (nI x) (nI y) (nI s) := by
  have n5 : ¬ nI how = 5 := by rcases hh with e | e <;> subst e <;> decide
  have n6 : ¬ nI how = 6 := by rcases hh with e | e <;> subst e <;> decide
  have p9 : 2 ^ (L + 1) ≤ 2 ^ 9 := za_p2 (by omega)
  have p0 := zc_pp (L + 1)
  unfold wpY_countWays
  dsimp only
  refine br_f n6 (Exists.intro (2 ^ (L + 1) + 1) ?_)
  have := zy_25_l (how := how) (x := x) (y := y) (WY := WY) (c := zy_cat LG x y s) hs hL (fun w _ _ => zy_catB LG x y s w) (fun J l w h1 h2 h3 => br_f n6 (by
    unfold wY_countWays_52 wY_countWays_53
    exact br_f n5 (Exists.intro 10 (zy_100c hh hx hy hs (by omega) hLG h3 10 0 (by omega) (by omega))))) hpost (2 ^ (L + 1) + 1) 1 0 (by omega) (by omega) (by omega) (by omega) (zm_0 fun v z => by omega)
  rw [zy_wp1] at this
  exact this
theorem zy_cwu {post : Int32 → SY → Prop} {LG WY : Nat → Nat} {x y s L : Nat} (hx : x < 16) (hy : y < 16) (hs : s < 2) (hL : L ≤ 8) (hLG : ∀ i, LG i < 2)
    (hpost : ∀ r, r < 65536 → zm_M r (fun v => 1 ≤ v ∧ v < 2 ^ (L + 1) ∧ 2 ≤ zy_uni LG x y s v) → post (nI r) (mn, nI L, ct, tp, yr, yk, ya, yf, ys, yz, za_n LG, za_n (zy_wp WY s (zy_uni LG x y s) (2 ^ (L + 1))), yn, yv, yo)) :
    wpY_countWays post (mn, nI L, ct, tp, yr, yk, ya, yf, ys, yz, za_n LG, za_n WY, yn, yv, yo) 5 (nI x) (nI y) (nI s) := by
  have p9 : 2 ^ (L + 1) ≤ 2 ^ 9 := za_p2 (by omega)
  have p0 := zc_pp (L + 1)
  unfold wpY_countWays
  dsimp only
  refine br_f (by decide) (Exists.intro (2 ^ (L + 1) + 1) ?_)
  have := zy_25_l (how := 5) (x := x) (y := y) (WY := WY) (c := zy_uni LG x y s) hs hL (fun w _ _ => zy_uniB LG x y s w) (fun J l w h1 h2 h3 => br_f (by decide) (by
    have done : ∀ v : Nat, v = zy_uni LG x y s w → ∃ n, wY_countWays_100 post J (nI 5) (nI x) (nI y) (nI s) (nI l) (nI w) mn (nI L) ct tp yr yk ya yf ys yz (za_n LG) (za_n (zy_wp WY s (zy_uni LG x y s) w)) yn yv yo n (nI v) 0 := by
      intro v ev
      refine Exists.intro 1 ?_
      simp only [wY_countWays_100]
      rw [ev]
      exact br_f (by decide) (br_t rfl h3)
    have sec : ∀ z0 : Nat, z0 = (zy_h LG x s w).toNat → wY_countWays_77 post J (nI 5) (nI x) (nI y) (nI s) (nI l) (nI w) (nI z0) mn (nI L) ct tp yr yk ya yf ys yz (za_n LG) (za_n (zy_wp WY s (zy_uni LG x y s) w)) yn yv yo := by
      intro z0 ez
      unfold wY_countWays_77
      have eu : zy_uni LG x y s w = 0 + (zy_h LG x s w).toNat + (zy_h LG y s w).toNat := rfl
      refine zy_has hy hs (by omega) hLG (za_brb (fun q => nm_r (e' := nI (z0 + 0)) (za_add z0 0) (done _ ?_)) (fun q => nm_r (nI_1 z0) (done _ ?_)))
      · rw [eu, q, ez]; simp
      · rw [eu, q, ez]; simp
    unfold wY_countWays_52 wY_countWays_53
    refine br_t rfl (zy_has hx hs (by omega) hLG (za_brb (fun q => sec 0 (by rw [q]; rfl)) (fun q => sec 1 (by rw [q]; rfl)))))) hpost (2 ^ (L + 1) + 1) 1 0 (by omega) (by omega) (by omega) (by omega) (zm_0 fun v z => by omega)
  rw [zy_wp1] at this
  exact this
theorem zy_cws {post : Int32 → SY → Prop} {LG WY : Nat → Nat} {x s L y : Nat} (hx : x < 16) (hs : s < 2) (hL : L ≤ 8) (hLG : ∀ i, LG i < 2)
    (h1 : zy_h LG x s 1 = true → post 1 (mn, nI L, ct, tp, yr, yk, ya, yf, ys, yz, za_n LG, za_n WY, yn, yv, yo))
    (hpost : zy_h LG x s 1 = false → ∀ r, r < 65536 → zm_M r (fun v => 1 ≤ v ∧ v < 2 ^ (L + 1) ∧ 2 ≤ zy_sta LG x s v) → post (nI r) (mn, nI L, ct, tp, yr, yk, ya, yf, ys, yz, za_n LG, za_n (zy_wp WY s (zy_sta LG x s) (2 ^ (L + 1))), yn, yv, yo)) :
    wpY_countWays post (mn, nI L, ct, tp, yr, yk, ya, yf, ys, yz, za_n LG, za_n WY, yn, yv, yo) 6 (nI x) (nI y) (nI s) := by
  have p9 : 2 ^ (L + 1) ≤ 2 ^ 9 := za_p2 (by omega)
  have p0 := zc_pp (L + 1)
  unfold wpY_countWays
  dsimp only
  refine br_t rfl (zy_has (w := 1) hx hs (by omega) hLG (za_brb (fun q => Exists.intro (2 ^ (L + 1) + 1) ?_) (fun q => h1 q)))
  have := zy_25_l (how := 6) (x := x) (y := y) (WY := WY) (c := zy_sta LG x s) hs hL (fun w w1 w2 => zy_staB' q w1 (by omega)) (fun J l w w1 w2 h3 => br_t rfl (by
    have hw : ∀ v, 1 ≤ v → v < w → zy_wp WY s (zy_sta LG x s) w (s * 512 + v) = zy_sta LG x s v := fun v a b => zy_wpg a b
    refine za_br (za_eq (b := 1) (by omega) (by omega)) (fun e => ?_) (fun e => ?_)
    · subst e
      unfold wY_countWays_53
      have e0 : zm_sum (zy_sw LG (zy_sta LG x s) x s 1) 9 = 0 := by
        have : zm_sum (zy_sw LG (zy_sta LG x s) x s 1) 9 ≤ 9 * 0 := zm_suml (fun k => by
          unfold zy_sw
          rw [if_neg]
          · exact Nat.le_refl 0
          · intro z
            have := zy_hd q z
            have := Nat.div_le_self 1 (2 ^ k)
            omega) 9
        omega
      refine br_f (by decide) (Exists.intro 10 (zy_100s (W := zy_sta LG x s) (z0 := 1) hx hs (by omega) hLG q hw ?_ 10 0 (by omega) (by omega)))
      rw [e0]
      rw [zy_sta1] at h3
      exact h3
    · unfold wY_countWays_52 wY_countWays_53
      refine br_f (by decide) (Exists.intro 10 ?_)
      have := zy_100s (post := post) (J := J) (l := l) (x3 := nI y) (W := zy_sta LG x s) (z0 := 0) hx hs (by omega) hLG q hw (by
        rw [Nat.zero_add, ← zy_staS q (by omega) (by omega)]
        exact h3) 10 0 (by omega) (by omega)
      rw [Nat.zero_add] at this
      exact this)) (hpost q) (2 ^ (L + 1) + 1) 1 0 (by omega) (by omega) (by omega) (by omega) (zm_0 fun v z => by omega)
  rw [zy_wp1] at this
  exact this
end
end
section
/-! the stack of roots; Y: total, replace -/
def zi_S (RT SZ : Nat → Nat) (i : Nat) : Nat := zm_sum (fun j => SZ (RT j)) i
def zi_St (US D : Nat) (RT SZ : Nat → Nat) : Prop := US = zi_S RT SZ D ∧ ∀ i, i < D → RT i + 1 = zi_S RT SZ (i + 1) ∧ 1 ≤ SZ (RT i)
theorem zi_SS (RT SZ : Nat → Nat) (i : Nat) : zi_S RT SZ (i + 1) = zi_S RT SZ i + SZ (RT i) := rfl
theorem zi_mono {RT SZ : Nat → Nat} {i j : Nat} (h : i ≤ j) : zi_S RT SZ i ≤ zi_S RT SZ j := by
  induction j with
  | zero => have e : i = 0 := by omega
            subst e; exact Nat.le_refl _
  | succ j ih =>
    by_cases e : i = j + 1
    · subst e; exact Nat.le_refl _
    · have := ih (by omega)
      rw [zi_SS]
      omega
theorem zi_ge {US D : Nat} {RT SZ : Nat → Nat} (h : zi_St US D RT SZ) : ∀ i, i ≤ D → i ≤ zi_S RT SZ i := by
  intro i
  induction i with
  | zero => intro _; exact Nat.zero_le _
  | succ i ih =>
    intro hi
    have := ih (by omega)
    have := (h.2 i (by omega)).2
    rw [zi_SS]
    omega
theorem zi_D {US D : Nat} {RT SZ : Nat → Nat} (h : zi_St US D RT SZ) : D ≤ US := by
  have := zi_ge h D (Nat.le_refl D)
  rw [h.1]
  exact this
theorem zi_rt {US D i : Nat} {RT SZ : Nat → Nat} (h : zi_St US D RT SZ) (hi : i < D) : RT i < US := by
  have a := (h.2 i hi).1
  have b := zi_mono (RT := RT) (SZ := SZ) (show i + 1 ≤ D by omega)
  rw [← h.1] at b
  omega
theorem zi_cg {RT SZ RT' SZ' : Nat → Nat} : ∀ k, (∀ i, i < k → SZ' (RT' i) = SZ (RT i)) → zi_S RT' SZ' k = zi_S RT SZ k := fun k h => zm_sumc k h
/-- a new root over what stood at k and above -/
theorem zi_new {US D k : Nat} {RT SZ RT' SZ' : Nat → Nat} (h : zi_St US D RT SZ) (hk : k ≤ D) (h1 : RT' k = US) (h2 : ∀ i, i < k → RT' i = RT i) (h3 : ∀ n, n < US → SZ' n = SZ n) (h4 : SZ' US = 1 + (US - zi_S RT SZ k)) : zi_St (US + 1) (k + 1) RT' SZ' := by
  have low : ∀ i, i ≤ k → zi_S RT' SZ' i = zi_S RT SZ i := fun i hi => zi_cg i fun j hj => by rw [h2 j (by omega), h3 _ (zi_rt h (by omega))]
  have m := zi_mono (RT := RT) (SZ := SZ) hk
  rw [← h.1] at m
  have e : zi_S RT' SZ' (k + 1) = US + 1 := by
    rw [zi_SS, low k (Nat.le_refl k), h1, h4]
    omega
  refine ⟨e.symm, fun i hi => ?_⟩
  by_cases c : i = k
  · subst c
    rw [e, h1, h4]
    exact ⟨rfl, by omega⟩
  · rw [low (i + 1) (by omega), h2 i (by omega), h3 _ (zi_rt h (by omega))]
    exact h.2 i (by omega)
/-- the list of a node, written up to m -/
def zy_lp (LG WY : Nat → Nat) (n m : Nat) : Nat → Nat := fun j => if n * 1024 ≤ j ∧ j < n * 1024 + m then (if WY (j - n * 1024) = 0 then 0 else 1) else LG j
theorem zy_lp0 (LG WY : Nat → Nat) (n : Nat) : zy_lp LG WY n 0 = LG := by
  funext j
  unfold zy_lp
  rw [if_neg (by omega)]
theorem zy_lpS {LG WY : Nat → Nat} {n m : Nat} : za_u (zy_lp LG WY n m) (n * 1024 + m) (if WY m = 0 then 0 else 1) = zy_lp LG WY n (m + 1) := by
  funext j
  by_cases e : j = n * 1024 + m
  · subst e
    rw [za_us]
    unfold zy_lp
    rw [if_pos (show n * 1024 ≤ n * 1024 + m ∧ n * 1024 + m < n * 1024 + (m + 1) by omega), Nat.add_sub_cancel_left]
  · rw [za_un e]
    unfold zy_lp
    by_cases q : n * 1024 ≤ j ∧ j < n * 1024 + m
    · rw [if_pos q, if_pos (show n * 1024 ≤ j ∧ j < n * 1024 + (m + 1) by omega)]
    · rw [if_neg q, if_neg (show ¬ (n * 1024 ≤ j ∧ j < n * 1024 + (m + 1)) by omega)]
theorem zy_lp_h {LG WY : Nat → Nat} {n s w : Nat} (hs : s < 2) (h1 : 1 ≤ w) (h2 : w < 512) : zy_h (zy_lp LG WY n 1024) n s w = true ↔ WY (s * 512 + w) ≠ 0 := by
  rw [zy_h_iff h1 h2]
  unfold zy_lp
  rw [if_pos (by omega), show n * 1024 + s * 512 + w - n * 1024 = s * 512 + w by omega]
  split
  · rename_i z
    exact ⟨fun q => absurd rfl q, fun q => absurd z q⟩
  · rename_i z
    exact ⟨fun _ => z, fun _ => by decide⟩
theorem zy_lp_o {LG WY : Nat → Nat} {n m s w : Nat} (hs : s < 2) (hm : m < n) : zy_h (zy_lp LG WY n 1024) m s w = zy_h LG m s w := by
  unfold zy_h
  by_cases h : 1 ≤ w ∧ w < 512
  · have e : zy_lp LG WY n 1024 (m * 1024 + s * 512 + w) = LG (m * 1024 + s * 512 + w) := by
      unfold zy_lp
      rw [if_neg (by omega)]
    rw [e]
  · rw [decide_eq_false (fun z => h ⟨z.1, z.2.1⟩), decide_eq_false (fun z => h ⟨z.1, z.2.1⟩)]
theorem zy_lp_b {LG WY : Nat → Nat} {n : Nat} (h : ∀ i, LG i < 2) (i : Nat) : zy_lp LG WY n 1024 i < 2 := by
  unfold zy_lp
  split
  · split <;> omega
  · exact h i
section
variable {mn ml ct tp : Int32} {yr yk ya yf ys yz yl yw yn yv yo : Nat → Int32}
theorem zy_tot_l {post : Int32 → Prop} {US D : Nat} {RT SZ : Nat → Nat} (h : zi_St US D RT SZ) (hU : US ≤ 16) (hp : post (nI US)) :
    ∀ n i, i ≤ D → D - i < n → wY_total_4 post mn ml (nI D) tp (za_n RT) yk ya yf ys (za_n SZ) yl yw yn yv yo n (nI (zi_S RT SZ i)) (nI i) := by
  have hD := zi_D h
  intro n
  induction n with
  | zero => intro i a b; omega
  | succ n ih =>
    intro i a b
    simp only [wY_total_4]
    refine za_br (za_le (by omega) (by omega)) (fun z => ?_) (fun z => ?_)
    · have e : i = D := by omega
      subst e
      rw [← h.1]
      exact hp
    · have hr := zi_rt h (show i < D by omega)
      rw [za_cl (show i < 2147483648 by omega), za_ap RT i, za_cl (show RT i < 2147483648 by omega)]
      exact ⟨vp_in_nI (by omega) (by omega), vp_in_nI (by omega) (by omega), nm_r (za_add _ _) (nm_r (nI_1 i) (ih (i + 1) (by omega) (by omega)))⟩
theorem zy_tot {post : Int32 → Prop} {US D : Nat} {RT SZ : Nat → Nat} (h : zi_St US D RT SZ) (hU : US ≤ 16) (hp : post (nI US)) : wpY_total post (mn, ml, nI D, tp, za_n RT, yk, ya, yf, ys, za_n SZ, yl, yw, yn, yv, yo) :=
  Exists.intro (D + 1) (zy_tot_l h hU hp (D + 1) 0 (by omega) (by omega))
theorem zy_rep_e {post : Int32 → SY → Prop} {US D ops k a : Nat} {RT KD AG LF SC SZ WY LG : Nat → Nat} (h : zi_St US D RT SZ) (hU : US < 16) (ho : ops ≤ D)
    (hp : post (nI (D - ops + 1)) (mn, ml, nI (D - ops + 1), tp, za_n (za_u RT (D - ops) US), za_n (za_u KD US k), za_n (za_u AG US a), za_n (za_u LF US (if ops = 0 then 0 else RT (D - ops))), za_n (za_u SC US (if ops = 0 then 0 else RT (D - 1))), za_n (za_u SZ US (1 + (US - zi_S RT SZ (D - ops)))), za_n LG, za_n WY, yn, yv, yo)) :
    ∀ n i, D - ops ≤ i → i ≤ D → D - i < n → wY_replace_63 post (nI ops) (nI k) (nI a) (nI US) mn ml (nI D) tp (za_n RT) (za_n KD) (za_n AG) (za_n LF) (za_n SC) (za_n SZ) (za_n LG) (za_n WY) yn yv yo n (nI (1 + (zi_S RT SZ i - zi_S RT SZ (D - ops)))) (nI i) := by
  have hD := zi_D h
  have iU : vp_in (nI US) 16 := vp_in_nI hU (by omega)
  have cU : (nI US).toNatClampNeg = US := za_cl (by omega)
  intro n
  induction n with
  | zero => intro i a b; omega
  | succ n ih =>
    intro i a1 b c
    simp only [wY_replace_63]
    refine za_br (za_le (by omega) (by omega)) (fun z => ?_) (fun z => ?_)
    · have e : i = D := by omega
      subst e
      have eU := h.1.symm
      rw [eU, cU]
      have fin : ∀ f g : Nat, post (nI (i - ops + 1)) (mn, ml, nI (i - ops + 1), tp, za_n (za_u RT (i - ops) US), za_n (za_u KD US k), za_n (za_u AG US a), za_n (za_u LF US f), za_n (za_u SC US g), za_n (za_u SZ US (1 + (US - zi_S RT SZ (i - ops)))), za_n LG, za_n WY, yn, yv, yo) →
          wY_replace_162 post (nI ops) (nI US) (nI (1 + (US - zi_S RT SZ (i - ops)))) (nI g) (nI US) mn ml (nI i) tp (za_n RT) (za_n (za_u KD US k)) (za_n (za_u AG US a)) (za_n (za_u LF US f)) (za_n SC) (za_n SZ) (za_n LG) (za_n WY) yn yv yo := by
        intro f g q
        unfold wY_replace_162
        rw [cU]
        have e1 : nI i - nI ops + 1 = nI (i - ops + 1) := by rw [za_sub ho, nI_1]
        have e2 : nI (i - ops + 1) - 1 = nI (i - ops) := nI_pred _
        refine ⟨iU, nm_r (za_upd SC US g) ⟨iU, nm_r (za_upd SZ US _) (nm_r e1 ?_)⟩⟩
        rw [e2, za_cl (show i - ops < 2147483648 by omega)]
        exact ⟨vp_in_nI (by omega) (by omega), nm_r (za_upd RT _ US) q⟩
      refine ⟨iU, nm_r (za_upd KD US k) ⟨iU, nm_r (za_upd AG US a) ?_⟩⟩
      by_cases o0 : ops = 0
      · subst o0
        refine br_t (by decide) ?_
        unfold wY_replace_136
        rw [cU]
        refine ⟨iU, nm_r (za_upd LF US 0) (br_t (by decide) (fin 0 0 hp))⟩
      · have ng : ¬ nI ops ≤ 0 := fun z => o0 ((za_le0 (by omega)).mp z)
        rw [if_neg o0, if_neg o0] at hp
        rw [za_sub ho, za_cl (show i - ops < 2147483648 by omega)]
        refine br_f ng ⟨vp_in_nI (by omega) (by omega), ?_⟩
        unfold wY_replace_136
        rw [cU]
        have e1 : nI i - 1 = nI (i - 1) := za_sub (b := 1) (by omega)
        rw [e1, za_cl (show i - 1 < 2147483648 by omega)]
        refine ⟨iU, nm_r (za_upd LF US _) (br_f ng ⟨vp_in_nI (by omega) (by omega), fin _ _ hp⟩)⟩
    · have hr := zi_rt h (show i < D by omega)
      have mo := zi_mono (RT := RT) (SZ := SZ) a1
      rw [za_cl (show i < 2147483648 by omega), za_ap RT i, za_cl (show RT i < 2147483648 by omega)]
      refine ⟨vp_in_nI (by omega) (by omega), vp_in_nI (by omega) (by omega), nm_r (za_add _ _) (nm_r (nI_1 i) ?_)⟩
      have := ih (i + 1) (by omega) (by omega) (by omega)
      rw [zi_SS, show 1 + (zi_S RT SZ i + SZ (RT i) - zi_S RT SZ (D - ops)) = 1 + (zi_S RT SZ i - zi_S RT SZ (D - ops)) + SZ (RT i) by omega] at this
      exact this
theorem zy_rep_l {post : Int32 → SY → Prop} {US D ops k a : Nat} {RT KD AG LF SC SZ WY LG : Nat → Nat} (h : zi_St US D RT SZ) (hU : US < 16) (ho : ops ≤ D) (hW : ∀ i, WY i < 65536)
    (hp : post (nI (D - ops + 1)) (mn, ml, nI (D - ops + 1), tp, za_n (za_u RT (D - ops) US), za_n (za_u KD US k), za_n (za_u AG US a), za_n (za_u LF US (if ops = 0 then 0 else RT (D - ops))), za_n (za_u SC US (if ops = 0 then 0 else RT (D - 1))), za_n (za_u SZ US (1 + (US - zi_S RT SZ (D - ops)))), za_n (zy_lp LG WY US 1024), za_n WY, yn, yv, yo)) :
    ∀ n i, i ≤ 1024 → 1024 - i < n → wY_replace_12 post (nI ops) (nI k) (nI a) (nI US) 1 mn ml (nI D) tp n (nI i) (za_n RT) (za_n KD) (za_n AG) (za_n LF) (za_n SC) (za_n SZ) (za_n (zy_lp LG WY US i)) (za_n WY) yn yv yo := by
  have hD := zi_D h
  intro n
  induction n with
  | zero => intro i a b; omega
  | succ n ih =>
    intro i a1 b
    simp only [wY_replace_12]
    refine za_br (za_le (a := 1024) (by omega) (by omega)) (fun z => nm_r (za_sub ho) ?_) (fun z => ?_)
    · have e : i = 1024 := by omega
      subst e
      have := zy_rep_e (k := k) (a := a) h hU ho hp (ops + 1) (D - ops) (Nat.le_refl _) (by omega) (by omega)
      rw [Nat.sub_self] at this
      exact Exists.intro (ops + 1) this
    · have e : nI US * 1024 + nI i = nI (US * 1024 + i) := by
        show nI US * nI 1024 + nI i = _
        rw [za_mul, za_add]
      have hw := hW i
      have nx := ih (i + 1) (by omega) (by omega)
      rw [e, za_cl (show i < 2147483648 by omega), za_cl (show US * 1024 + i < 2147483648 by omega), za_nb0, za_nb1]
      refine ⟨vp_in_nI (by omega) (by omega), za_br (za_le0 (x := WY i) (by omega)) (fun q => ⟨vp_in_nI (by omega) (by omega), nm_r (e' := za_n (zy_lp LG WY US (i + 1))) ?_ (nm_r (nI_1 i) nx)⟩) (fun q => ⟨vp_in_nI (by omega) (by omega), nm_r (e' := za_n (zy_lp LG WY US (i + 1))) ?_ (nm_r (nI_1 i) nx)⟩)⟩
      · rw [← zy_lpS, if_pos q]
        exact za_upd _ _ 0
      · rw [← zy_lpS, if_neg q]
        exact za_upd _ _ 1
theorem zy_rep {post : Int32 → SY → Prop} {US D ops k a : Nat} {RT KD AG LF SC SZ WY LG : Nat → Nat} (h : zi_St US D RT SZ) (hU : US < 16) (ho : ops ≤ D) (hW : ∀ i, WY i < 65536)
    (hp : post (nI (D - ops + 1)) (mn, ml, nI (D - ops + 1), tp, za_n (za_u RT (D - ops) US), za_n (za_u KD US k), za_n (za_u AG US a), za_n (za_u LF US (if ops = 0 then 0 else RT (D - ops))), za_n (za_u SC US (if ops = 0 then 0 else RT (D - 1))), za_n (za_u SZ US (1 + (US - zi_S RT SZ (D - ops)))), za_n (zy_lp LG WY US 1024), za_n WY, yn, yv, yo)) :
    wpY_replace post (mn, ml, nI D, tp, za_n RT, za_n KD, za_n AG, za_n LF, za_n SC, za_n SZ, za_n LG, za_n WY, yn, yv, yo) (nI ops) (nI k) (nI a) := by
  unfold wpY_replace
  refine zy_tot h (by omega) ?_
  have := zy_rep_l (k := k) (a := a) h hU ho hW hp 1025 0 (by omega) (by omega)
  rw [zy_lp0] at this
  exact Exists.intro 1025 this
end
end
section
/-! the invariant of both states -/
theorem zt_cg {N : Nat} {KD AG LF SZ SC LB LG KD' AG' LF' SZ' SC' LB' LG' : Nat → Nat} {n : Nat} (h : zt_N N KD AG LF SZ SC LB LG n)
    (e1 : KD' n = KD n) (e2 : AG' n = AG n) (e3 : LF' n = LF n) (e4 : ∀ m, m ≤ n → SZ' m = SZ m) (e5 : SC' n = SC n)
    (e6 : ∀ s, s < 2 → LB' (s * 16 + n) = LB (s * 16 + n)) (e7 : ∀ m, m ≤ n → ∀ s, s < 2 → ∀ w, zy_h LG' m s w = zy_h LG m s w) : zt_N N KD' AG' LF' SZ' SC' LB' LG' n := by
  have a1 := e4 n (Nat.le_refl n)
  have a2 := e4 (n - 1) (by omega)
  have b0 := e7 n (Nat.le_refl n) 0 (by omega)
  have b1 := e7 n (Nat.le_refl n) 1 (by omega)
  have c0 := e7 (n - 1) (by omega) 0 (by omega)
  have c1 := e7 (n - 1) (by omega) 1 (by omega)
  have l0 := e6 0 (by omega)
  have l1 := e6 1 (by omega)
  unfold zt_N
  rw [e1, e2, e3]
  rcases h with h | h | h | h | h | h | h
  · left
    unfold zt_leaf at h ⊢
    simp only [a1, l0, l1, b0, b1, e5]
    exact h
  · right; left
    unfold zt_leaf at h ⊢
    simpa only [a1, l0, l1, b0, b1, e5] using h
  · right; right; left
    unfold zt_one zt_era at h ⊢
    simp only [a1, a2, e3, e5, b0, b1, c0]
    exact h
  · right; right; right; left
    have q : LF n ≤ n := by have := h.2.1.2.2.1; omega
    have a3 := e4 (LF n) q
    have d0 := e7 (LF n) q 0 (by omega)
    have d1 := e7 (LF n) q 1 (by omega)
    unfold zt_two zt_cat at h ⊢
    simp only [a1, a2, a3, e3, e5, b0, b1, c0, c1, d0, d1]
    exact h
  · right; right; right; right; left
    have q : LF n ≤ n := by have := h.2.1.2.2.1; omega
    have a3 := e4 (LF n) q
    have d0 := e7 (LF n) q 0 (by omega)
    have d1 := e7 (LF n) q 1 (by omega)
    unfold zt_two zt_cat at h ⊢
    simp only [a1, a2, a3, e3, e5, b0, b1, c0, c1, d0, d1]
    exact h
  · right; right; right; right; right; left
    have q : LF n ≤ n := by have := h.2.1.2.2.1; omega
    have a3 := e4 (LF n) q
    have d0 := e7 (LF n) q 0 (by omega)
    have d1 := e7 (LF n) q 1 (by omega)
    unfold zt_two zt_uni at h ⊢
    simp only [a1, a2, a3, e3, e5, b0, b1, c0, c1, d0, d1]
    exact h
  · right; right; right; right; right; right
    unfold zt_one zt_sta at h ⊢
    simp only [a1, a2, e3, e5, b0, b1, c0, c1]
    exact h
def zi_Inv (NL L US D : Nat) (RT KD AG LF SZ LB NU FI LA FO SC LG WY : Nat → Nat) : Prop :=
  (4 ≤ NL ∧ NL ≤ 16 ∧ 2 ≤ L ∧ L ≤ 8 ∧ US ≤ NL) ∧
  zi_St US D RT SZ ∧
  (∀ n, n < US → zt_N (2 ^ (L + 1)) KD AG LF SZ SC LB LG n) ∧
  (∀ i, i < D → ∀ s, s < 2 → zl_A (2 ^ (L + 1)) LG SZ NU FI LA FO LB s (RT i)) ∧
  ((∀ i, LB i < 4) ∧ (∀ i, NU i < 2) ∧ (∀ i, FI i < 65536) ∧ (∀ i, LA i < 65536) ∧ (∀ i, FO i < 65536)) ∧
  ((∀ i, LG i < 2) ∧ (∀ i, WY i < 65536)) ∧
  (∀ s, s < 2 → ∀ w, 2 ^ (L + 1) ≤ w → w < 512 → WY (s * 512 + w) = 0) ∧
  (∀ n, n < US → ∀ s, s < 2 → ∀ w, 2 ^ (L + 1) ≤ w → w < 512 → zy_h LG n s w = false)
theorem zi_add {NL L US D k kk aa ll sc : Nat} {RT KD AG LF SZ LB NU FI LA FO SC LG WY LB' NU' FI' LA' FO' WY' : Nat → Nat}
    (I : zi_Inv NL L US D RT KD AG LF SZ LB NU FI LA FO SC LG WY) (hU : US < NL) (hk : k ≤ D)
    (b : (∀ i, LB' i < 4) ∧ (∀ i, NU' i < 2) ∧ (∀ i, FI' i < 65536) ∧ (∀ i, LA' i < 65536) ∧ (∀ i, FO' i < 65536)) (bW : ∀ i, WY' i < 65536)
    (hlb : ∀ s, s < 2 → ∀ p, p < US → LB' (s * 16 + p) = LB (s * 16 + p)) (hfi : ∀ s, s < 2 → ∀ p, p < US → FI' (s * 16 + p) = FI (s * 16 + p)) (hla : ∀ s, s < 2 → ∀ p, p < US → LA' (s * 16 + p) = LA (s * 16 + p)) (hnu : ∀ s, s < 2 → ∀ p, p < US → NU' (s * 16 + p) = NU (s * 16 + p))
    (hfo : ∀ s, s < 2 → ∀ p, p < zi_S RT SZ k → FO' (s * 16 + p) = FO (s * 16 + p))
    (hN : zt_N (2 ^ (L + 1)) (za_u KD US kk) (za_u AG US aa) (za_u LF US ll) (za_u SZ US (1 + (US - zi_S RT SZ k))) (za_u SC US sc) LB' (zy_lp LG WY' US 1024) US)
    (hA : ∀ s, s < 2 → zl_A (2 ^ (L + 1)) (zy_lp LG WY' US 1024) (za_u SZ US (1 + (US - zi_S RT SZ k))) NU' FI' LA' FO' LB' s US)
    (hW : ∀ s, s < 2 → ∀ w, 2 ^ (L + 1) ≤ w → w < 512 → WY' (s * 512 + w) = 0) :
    zi_Inv NL L (US + 1) (k + 1) (za_u RT k US) (za_u KD US kk) (za_u AG US aa) (za_u LF US ll) (za_u SZ US (1 + (US - zi_S RT SZ k))) LB' NU' FI' LA' FO' (za_u SC US sc) (zy_lp LG WY' US 1024) WY' := by
  obtain ⟨i1, i2, i3, i4, i5, i6, i7, i8⟩ := I
  have mk := zi_mono (RT := RT) (SZ := SZ) hk
  rw [← i2.1] at mk
  have esz : ∀ n, n < US → za_u SZ US (1 + (US - zi_S RT SZ k)) n = SZ n := fun n hn => za_un (by omega)
  refine ⟨by omega, zi_new i2 hk za_us (fun i hi => za_un (by omega)) esz za_us, ?_, ?_, b, ⟨zy_lp_b i6.1, bW⟩, hW, ?_⟩
  · intro n hn
    by_cases e : n = US
    · subst e
      exact hN
    · exact zt_cg (i3 n (by omega)) (za_un e) (za_un e) (za_un e) (fun m hm => esz m (by omega)) (za_un e) (fun s hs => hlb s hs n (by omega)) (fun m hm s hs w => zy_lp_o hs (by omega))
  · intro i hi s hs
    by_cases e : i = k
    · subst e
      rw [za_us]
      exact hA s hs
    · rw [za_un e]
      have hr := zi_rt i2 (show i < D by omega)
      have hr2 : RT i < zi_S RT SZ k := by
        have a := (i2.2 i (by omega)).1
        have c := zi_mono (RT := RT) (SZ := SZ) (show i + 1 ≤ k by omega)
        omega
      exact zl_cgA (i4 i (by omega) s hs) (esz _ hr) (hfi s hs _ hr) (hla s hs _ hr) (hnu s hs _ hr)
        (fun p hp => hfo s hs p (by have := hp.2.1; omega)) (fun p hp => hlb s hs p (by have := hp.2.1; omega)) (fun w => zy_lp_o hs hr)
  · intro n hn s hs w h1 h2
    by_cases e : n = US
    · subst e
      have := zy_lp_h (LG := LG) (WY := WY') (n := n) (s := s) (w := w) hs (by have := zc_pp (L + 1); omega) h2
      rw [hW s hs w h1 h2] at this
      cases c : zy_h (zy_lp LG WY' n 1024) n s w
      · rfl
      · exact absurd rfl (this.mp c)
    · rw [zy_lp_o hs (by omega)]
      exact i8 n (by omega) s hs w h1 h2
/-- dropping the top lens -/
theorem zi_drop {NL L US D : Nat} {RT KD AG LF SZ LB NU FI LA FO SC LG WY : Nat → Nat} (I : zi_Inv NL L US (D + 1) RT KD AG LF SZ LB NU FI LA FO SC LG WY) :
    SZ (RT D) ≤ US ∧ zi_Inv NL L (US - SZ (RT D)) D RT KD AG LF SZ LB NU FI LA FO SC LG WY := by
  obtain ⟨i1, i2, i3, i4, i5, i6, i7, i8⟩ := I
  have e := i2.1
  rw [zi_SS] at e
  have e2 : US - SZ (RT D) = zi_S RT SZ D := by omega
  refine ⟨by omega, by omega, ⟨e2, fun i hi => i2.2 i (by omega)⟩, fun n hn => i3 n (by omega), fun i hi => i4 i (by omega), i5, i6, i7, fun n hn => i8 n (by omega)⟩
/-- the two top lenses -/
theorem zi_top {US D : Nat} {RT SZ : Nat → Nat} (h : zi_St US (D + 1) RT SZ) : RT D + 1 = US ∧ 1 ≤ SZ (RT D) ∧ zi_S RT SZ D + SZ (RT D) = US := by
  have a := h.2 D (by omega)
  have b := h.1
  rw [← b] at a
  rw [zi_SS] at b
  omega
theorem zi_top2 {US D : Nat} {RT SZ : Nat → Nat} (h : zi_St US (D + 2) RT SZ) : RT (D + 1) + 1 = US ∧ 1 ≤ SZ (RT (D + 1)) ∧ RT D + SZ (RT (D + 1)) + 1 = US ∧ 1 ≤ SZ (RT D) ∧ zi_S RT SZ D + SZ (RT D) + SZ (RT (D + 1)) = US := by
  have a := h.2 (D + 1) (by omega)
  have c := h.2 D (by omega)
  have b := h.1
  rw [← b] at a
  rw [zi_SS] at c
  rw [zi_SS, zi_SS] at b
  omega
end
section
/-! the relation; the constructors; the methods that only read -/
def i_Rel (k : Nat) (u : SX) (v : SY) : Prop := ∃ (NL L US D : Nat) (RT KD AG LF SZ LB NU FI LA FO SC LG WY BE NE EN WD LN : Nat → Nat) (tk ot tp : Int32) (tn tv te ts tz yn yv yo : Nat → Int32), u = (0, 1, 2, 3, 4, 5, 6, nI NL, nI L, nI US, nI D, tk, ot, za_n RT, za_n KD, za_n AG, za_n LF, za_n SZ, za_n LB, za_n NU, za_n FI, za_n LA, za_n FO, za_n BE, za_n NE, za_n EN, za_n WD, za_n LN, tn, tv, te, ts, tz) ∧ v = (nI NL, nI L, nI D, tp, za_n RT, za_n KD, za_n AG, za_n LF, za_n SC, za_n SZ, za_n LG, za_n WY, yn, yv, yo) ∧ zi_Inv NL L US D RT KD AG LF SZ LB NU FI LA FO SC LG WY
theorem i_up {k : Nat} {u : SX} {v : SY} (h : i_Rel k u v) : i_Rel (k + 4) u v := h
theorem zi_el {k : Nat} {u : SX} {v : SY} {P : SX → SY → Prop} (h : ∀ (NL L US D : Nat) (RT KD AG LF SZ LB NU FI LA FO SC LG WY BE NE EN WD LN : Nat → Nat) (tk ot tp : Int32) (tn tv te ts tz yn yv yo : Nat → Int32), zi_Inv NL L US D RT KD AG LF SZ LB NU FI LA FO SC LG WY → P (0, 1, 2, 3, 4, 5, 6, nI NL, nI L, nI US, nI D, tk, ot, za_n RT, za_n KD, za_n AG, za_n LF, za_n SZ, za_n LB, za_n NU, za_n FI, za_n LA, za_n FO, za_n BE, za_n NE, za_n EN, za_n WD, za_n LN, tn, tv, te, ts, tz) (nI NL, nI L, nI D, tp, za_n RT, za_n KD, za_n AG, za_n LF, za_n SC, za_n SZ, za_n LG, za_n WY, yn, yv, yo)) (I : i_Rel k u v) : P u v :=
  I.elim fun NL I => I.elim fun L I => I.elim fun US I => I.elim fun D I => I.elim fun RT I => I.elim fun KD I => I.elim fun AG I => I.elim fun LF I => I.elim fun SZ I => I.elim fun LB I => I.elim fun NU I => I.elim fun FI I => I.elim fun LA I => I.elim fun FO I => I.elim fun SC I => I.elim fun LG I => I.elim fun WY I => I.elim fun BE I => I.elim fun NE I => I.elim fun EN I => I.elim fun WD I => I.elim fun LN I => I.elim fun tk I => I.elim fun ot I => I.elim fun tp I => I.elim fun tn I => I.elim fun tv I => I.elim fun te I => I.elim fun ts I => I.elim fun tz I => I.elim fun yn I => I.elim fun yv I => I.elim fun yo I => (by rw [I.1, I.2.1]; exact h NL L US D RT KD AG LF SZ LB NU FI LA FO SC LG WY BE NE EN WD LN tk ot tp tn tv te ts tz yn yv yo I.2.2)
theorem zi_mk {k : Nat} {NL L US D : Nat} {RT KD AG LF SZ LB NU FI LA FO SC LG WY BE NE EN WD LN : Nat → Nat} {tk ot tp : Int32} {tn tv te ts tz yn yv yo : Nat → Int32} (I : zi_Inv NL L US D RT KD AG LF SZ LB NU FI LA FO SC LG WY) : i_Rel k (0, 1, 2, 3, 4, 5, 6, nI NL, nI L, nI US, nI D, tk, ot, za_n RT, za_n KD, za_n AG, za_n LF, za_n SZ, za_n LB, za_n NU, za_n FI, za_n LA, za_n FO, za_n BE, za_n NE, za_n EN, za_n WD, za_n LN, tn, tv, te, ts, tz) (nI NL, nI L, nI D, tp, za_n RT, za_n KD, za_n AG, za_n LF, za_n SC, za_n SZ, za_n LG, za_n WY, yn, yv, yo) := ⟨NL, L, US, D, RT, KD, AG, LF, SZ, LB, NU, FI, LA, FO, SC, LG, WY, BE, NE, EN, WD, LN, tk, ot, tp, tn, tv, te, ts, tz, yn, yv, yo, rfl, rfl, I⟩
theorem zi_cl (x : Int32) (lo hi : Nat) (h : lo ≤ hi) (h2 : hi < 2147483648) : ∃ j, lo ≤ j ∧ j ≤ hi ∧ ∀ A : Int32 → Prop, A (nI j) → ((nI lo ≤ x → ((x ≤ nI hi → A x) ∧ (¬ x ≤ nI hi → A (nI hi)))) ∧ (¬ nI lo ≤ x → A (nI lo))) := by
  by_cases a : nI lo ≤ x
  · by_cases b : x ≤ nI hi
    · have h0 : ¬ x < 0 := by
        intro z
        have h1 := Int32.lt_of_le_of_lt a z
        exact za_ng (by omega) h1
      obtain ⟨j, hj, rfl⟩ := nI_of h0
      refine ⟨j, (za_le (by omega) hj).mp a, (za_le hj h2).mp b, fun A hA => br_t a (br_t b hA)⟩
    · exact ⟨hi, h, Nat.le_refl _, fun A hA => br_t a (br_f b hA)⟩
  · exact ⟨lo, Nat.le_refl _, h, fun A hA => br_f a hA⟩
theorem zi_init {NL L : Nat} (h1 : 4 ≤ NL) (h2 : NL ≤ 16) (h3 : 2 ≤ L) (h4 : L ≤ 8) : zi_Inv NL L 0 0 (fun _ => 0) (fun _ => 0) (fun _ => 0) (fun _ => 0) (fun _ => 0) (fun _ => 0) (fun _ => 0) (fun _ => 0) (fun _ => 0) (fun _ => 0) (fun _ => 0) (fun _ => 0) (fun _ => 0) :=
  ⟨⟨h1, h2, h3, h4, Nat.zero_le _⟩, ⟨rfl, fun i hi => absurd hi (Nat.not_lt_zero i)⟩, fun n hn => absurd hn (Nat.not_lt_zero n), fun i hi => absurd hi (Nat.not_lt_zero i),
    ⟨fun _ => Nat.zero_lt_succ _, fun _ => Nat.zero_lt_succ _, fun _ => Nat.zero_lt_succ _, fun _ => Nat.zero_lt_succ _, fun _ => Nat.zero_lt_succ _⟩, ⟨fun _ => Nat.zero_lt_succ _, fun _ => Nat.zero_lt_succ _⟩, fun _ _ _ _ _ => rfl, fun n hn => absurd hn (Nat.not_lt_zero n)⟩
theorem i_vc0 (k0 : Int32) (k1 : Int32) : wpX_init (fun u => wpY_init (fun v => i_Rel 2 u v) k0 k1) k0 k1 := by
  obtain ⟨NL, a1, a2, hA⟩ := zi_cl k0 4 16 (by decide) (by decide)
  obtain ⟨L, b1, b2, hB⟩ := zi_cl k1 2 8 (by decide) (by decide)
  have I := zi_init a1 a2 b1 b2
  unfold wpX_init
  refine hA (fun z => wX_init_223 _ k1 z 0 1 2 3 4 5 6 0 0 0 0 0 0 (fun _ => 0) (fun _ => 0) (fun _ => 0) (fun _ => 0) (fun _ => 0) (fun _ => 0) (fun _ => 0) (fun _ => 0) (fun _ => 0) (fun _ => 0) (fun _ => 0) (fun _ => 0) (fun _ => 0) (fun _ => 0) (fun _ => 0) (fun _ => 0) (fun _ => 0) (fun _ => 0) (fun _ => 0) (fun _ => 0)) ?_
  unfold wX_init_223
  refine hB (fun z => wpY_init (fun v => i_Rel 2 (0, 1, 2, 3, 4, 5, 6, nI NL, z, 0, 0, 0, 0, fun _ => 0, fun _ => 0, fun _ => 0, fun _ => 0, fun _ => 0, fun _ => 0, fun _ => 0, fun _ => 0, fun _ => 0, fun _ => 0, fun _ => 0, fun _ => 0, fun _ => 0, fun _ => 0, fun _ => 0, fun _ => 0, fun _ => 0, fun _ => 0, fun _ => 0, fun _ => 0) v) k0 k1) ?_
  unfold wpY_init
  refine hA (fun z => wY_init_116 _ k1 z 0 0 0 0 (fun _ => 0) (fun _ => 0) (fun _ => 0) (fun _ => 0) (fun _ => 0) (fun _ => 0) (fun _ => 0) (fun _ => 0) (fun _ => 0) (fun _ => 0) (fun _ => 0)) ?_
  unfold wY_init_116
  refine hB (fun z => i_Rel 2 _ (nI NL, z, 0, 0, fun _ => 0, fun _ => 0, fun _ => 0, fun _ => 0, fun _ => 0, fun _ => 0, fun _ => 0, fun _ => 0, fun _ => 0, fun _ => 0, fun _ => 0)) ?_
  exact zi_mk (BE := fun _ => 0) (NE := fun _ => 0) (EN := fun _ => 0) (WD := fun _ => 0) (LN := fun _ => 0) I
theorem i_vc_depth {k : Nat} {u : SX} {v : SY} (I : i_Rel k u v) (hk : k + 4 ≤ 2050) : wpX_depth (fun r => wpY_depth (fun r' => r' = r ∧ i_Rel (k + 4) u v) v) u := by
  refine zi_el (P := fun u v => wpX_depth (fun r => wpY_depth (fun r' => r' = r ∧ i_Rel (k + 4) u v) v) u) ?_ I
  intro NL L US D RT KD AG LF SZ LB NU FI LA FO SC LG WY BE NE EN WD LN tk ot tp tn tv te ts tz yn yv yo I
  exact ⟨rfl, zi_mk I⟩
section
variable {kC kI kE kN kS kU kT nl ll us dp tk ot : Int32} {rt kd ag lf sz lb nu fi la fo be ne en wd ln tn tv te ts tz : Nat → Int32} {mn ml ct tp : Int32} {yr yk ya yf ys yz yl yw yn yv yo : Nat → Int32}
theorem zi_ix {D : Nat} (x : Int32) (hD : D ≤ 16) : (x < 0 ∨ (¬ x < 0 ∧ nI D ≤ x)) ∨ ∃ j, j < D ∧ x = nI j := by
  rcases pk_ix x (show D < 2 ^ 31 by omega) with h | h | ⟨j, hj, e⟩
  · exact Or.inl (Or.inl h)
  · by_cases c : x < 0
    · exact Or.inl (Or.inl c)
    · exact Or.inl (Or.inr ⟨c, h⟩)
  · exact Or.inr ⟨j, hj, e⟩
theorem zx_slot {post : Int32 → Prop} {D : Nat} {x : Int32} (hD : D ≤ 16) (h0 : (x < 0 ∨ (¬ x < 0 ∧ nI D ≤ x)) → post 0) (h1 : ∀ j, j < D → x = nI j → post 1) : wpX_isSlot post (kC, kI, kE, kN, kS, kU, kT, nl, ll, us, nI D, tk, ot, rt, kd, ag, lf, sz, lb, nu, fi, la, fo, be, ne, en, wd, ln, tn, tv, te, ts, tz) x := by
  unfold wpX_isSlot
  dsimp only
  rcases zi_ix x hD with (h | h) | ⟨j, hj, e⟩
  · exact br_t h (h0 (Or.inl h))
  · exact br_f h.1 (br_t h.2 (h0 (Or.inr h)))
  · subst e
    exact br_f (za_ng (by omega)) (br_f (fun z => by have := (za_le (by omega) (by omega)).mp z; omega) (h1 j hj rfl))
def zi_code (N : Nat) (x : Int32) : Prop := ∃ w, 1 ≤ w ∧ w < N ∧ x = nI w
theorem zi_cd {N : Nat} (hN : N ≤ 512) (x : Int32) : (x < 1 ∨ (¬ x < 1 ∧ nI N ≤ x)) ∧ ¬ zi_code N x ∨ ∃ w, 1 ≤ w ∧ w < N ∧ x = nI w := by
  by_cases c : x < 1
  · refine Or.inl ⟨Or.inl c, ?_⟩
    rintro ⟨w, h1, h2, rfl⟩
    have := (za_lt (b := 1) (by omega) (by omega)).mp c
    omega
  · rcases pk_ix x (show N < 2 ^ 31 by omega) with h | h | ⟨j, hj, e⟩
    · exact absurd (Int32.lt_of_lt_of_le h (by decide)) c
    · refine Or.inl ⟨Or.inr ⟨c, h⟩, ?_⟩
      rintro ⟨w, h1, h2, rfl⟩
      have := (za_le (by omega) (by omega)).mp h
      omega
    · subst e
      refine Or.inr ⟨j, ?_, hj, rfl⟩
      rcases Nat.eq_zero_or_pos j with z | z
      · subst z
        exact absurd (by decide) c
      · exact z
theorem zx_code {post : Int32 → Prop} {L : Nat} {x : Int32} (hL : L ≤ 8) (h0 : ¬ zi_code (2 ^ (L + 1)) x → post 0) (h1 : ∀ w, 1 ≤ w → w < 2 ^ (L + 1) → x = nI w → post 1) : wpX_isCode post (kC, kI, kE, kN, kS, kU, kT, nl, nI L, us, dp, tk, ot, rt, kd, ag, lf, sz, lb, nu, fi, la, fo, be, ne, en, wd, ln, tn, tv, te, ts, tz) x := by
  have p9 : 2 ^ (L + 1) ≤ 2 ^ 9 := za_p2 (by omega)
  unfold wpX_isCode
  dsimp only
  rw [za_sh2 (by omega)]
  rcases zi_cd (N := 2 ^ (L + 1)) (by omega) x with ⟨h | h, hn⟩ | ⟨w, a, b, e⟩
  · exact br_t h (h0 hn)
  · exact br_f h.1 (br_t h.2 (h0 hn))
  · have f := h1 w a b e
    subst e
    exact br_f (fun z => by have := (za_lt (b := 1) (by omega) (by omega)).mp z; omega) (br_f (fun z => by have := (za_le (by omega) (by omega)).mp z; omega) f)
theorem zy_code {post : Int32 → Prop} {L : Nat} {x : Int32} (hL : L ≤ 8) (h0 : ¬ zi_code (2 ^ (L + 1)) x → post 0) (h1 : ∀ w, 1 ≤ w → w < 2 ^ (L + 1) → x = nI w → post 1) : wpY_isCode post (mn, nI L, ct, tp, yr, yk, ya, yf, ys, yz, yl, yw, yn, yv, yo) x := by
  have p9 : 2 ^ (L + 1) ≤ 2 ^ 9 := za_p2 (by omega)
  unfold wpY_isCode
  dsimp only
  rw [za_sh2 (by omega)]
  rcases zi_cd (N := 2 ^ (L + 1)) (by omega) x with ⟨h | h, hn⟩ | ⟨w, a, b, e⟩
  · exact br_t h (h0 hn)
  · exact br_f h.1 (br_t h.2 (h0 hn))
  · have f := h1 w a b e
    subst e
    exact br_f (fun z => by have := (za_lt (b := 1) (by omega) (by omega)).mp z; omega) (br_f (fun z => by have := (za_le (by omega) (by omega)).mp z; omega) f)
end
end
section
/-! size, drop, inSource, inView -/
theorem i_vc_size {k : Nat} {u : SX} {v : SY} (I : i_Rel k u v) (hk : k + 4 ≤ 2050) (v1 : Int32) : wpX_size (fun r => wpY_size (fun r' => r' = r ∧ i_Rel (k + 4) u v) v v1) u v1 := by
  refine zi_el (P := fun u v => wpX_size (fun r => wpY_size (fun r' => r' = r ∧ i_Rel (k + 4) u v) v v1) u v1) ?_ I
  intro NL L US D RT KD AG LF SZ LB NU FI LA FO SC LG WY BE NE EN WD LN tk ot tp tn tv te ts tz yn yv yo I
  have hU : US ≤ 16 := Nat.le_trans I.1.2.2.2.2 I.1.2.1
  have hD : D ≤ 16 := Nat.le_trans (zi_D I.2.1) hU
  unfold wpX_size
  refine zx_slot hD (fun h => br_t rfl ?_) (fun j hj e => br_f (by decide) ?_)
  · unfold wpY_size
    rcases h with h | h
    · exact br_t h ⟨rfl, zi_mk I⟩
    · exact br_f h.1 (br_f (fun z => Int32.lt_irrefl (Int32.lt_of_le_of_lt h.2 z)) ⟨rfl, zi_mk I⟩)
  subst e
  have hr := zi_rt I.2.1 hj
  have ij : vp_in (nI j) 16 := vp_in_nI (by omega) (by omega)
  have cj : (nI j).toNatClampNeg = j := za_cl (by omega)
  have ir : vp_in (nI (RT j)) 16 := vp_in_nI (by omega) (by omega)
  rw [cj]
  refine ⟨ij, ir, ?_⟩
  unfold wpY_size
  dsimp only
  rw [cj]
  exact br_f (za_ng (by omega)) (br_t ((za_lt (by omega) (by omega)).mpr hj) ⟨ij, ir, rfl, zi_mk I⟩)
theorem i_vc_drop {k : Nat} {u : SX} {v : SY} (I : i_Rel k u v) (hk : k + 4 ≤ 2050) : wpX_drop (fun r u' => wpY_drop (fun r' v' => r' = r ∧ i_Rel (k + 4) u' v') v) u := by
  refine zi_el (P := fun u v => wpX_drop (fun r u' => wpY_drop (fun r' v' => r' = r ∧ i_Rel (k + 4) u' v') v) u) ?_ I
  intro NL L US D RT KD AG LF SZ LB NU FI LA FO SC LG WY BE NE EN WD LN tk ot tp tn tv te ts tz yn yv yo I
  have hU : US ≤ 16 := Nat.le_trans I.1.2.2.2.2 I.1.2.1
  have hD : D ≤ 16 := Nat.le_trans (zi_D I.2.1) hU
  unfold wpX_drop
  dsimp only
  refine za_br (za_le (a := 1) (by omega) (by omega)) (fun h => ?_) (fun h => ?_)
  · obtain ⟨d, rfl⟩ : ∃ d, D = d + 1 := ⟨D - 1, by omega⟩
    have hr := zi_rt I.2.1 (show d < d + 1 by omega)
    obtain ⟨hs, I'⟩ := zi_drop I
    refine nm_r (nI_pred d) ?_
    rw [za_cl (show d < 2147483648 by omega), za_ap RT d, za_cl (show RT d < 2147483648 by omega)]
    refine ⟨vp_in_nI (by omega) (by omega), vp_in_nI (by omega) (by omega), nm_r (za_sub hs) ?_⟩
    unfold wpY_drop
    exact br_t ((za_le (a := 1) (by omega) (by omega)).mpr h) (nm_r (nI_pred d) ⟨rfl, zi_mk I'⟩)
  · unfold wpY_drop
    exact br_f (fun z => h ((za_le (a := 1) (by omega) (by omega)).mp z)) ⟨rfl, zi_mk I⟩
theorem i_vc_inSource {k : Nat} {u : SX} {v : SY} (I : i_Rel k u v) (hk : k + 4 ≤ 2050) (v1 : Int32) (v2 : Int32) : wpX_inSource (fun r u' => wpY_inSource (fun r' => r' = r ∧ i_Rel (k + 4) u' v) v v1 v2) u v1 v2 := by
  refine zi_el (P := fun u v => wpX_inSource (fun r u' => wpY_inSource (fun r' => r' = r ∧ i_Rel (k + 4) u' v) v v1 v2) u v1 v2) ?_ I
  intro NL L US D RT KD AG LF SZ LB NU FI LA FO SC LG WY BE NE EN WD LN tk ot tp tn tv te ts tz yn yv yo I
  have hL : L ≤ 8 := I.1.2.2.2.1
  have hU : US ≤ 16 := Nat.le_trans I.1.2.2.2.2 I.1.2.1
  have hD : D ≤ 16 := Nat.le_trans (zi_D I.2.1) hU
  have p9 : 2 ^ (L + 1) ≤ 2 ^ 9 := za_p2 (by omega)
  unfold wpX_inSource
  refine zx_slot hD (fun h => br_t rfl ?_) (fun j hj e => br_f (by decide) ?_)
  · unfold wpY_inSource
    rcases h with h | h
    · exact br_t h ⟨rfl, zi_mk I⟩
    · exact br_f h.1 (br_t h.2 ⟨rfl, zi_mk I⟩)
  subst e
  have hr := zi_rt I.2.1 hj
  have ng : ¬ nI j < 0 := za_ng (by omega)
  have nd : ¬ nI D ≤ nI j := fun z => by have := (za_le (by omega) (by omega)).mp z; omega
  have ij : vp_in (nI j) 16 := vp_in_nI (by omega) (by omega)
  have cj : (nI j).toNatClampNeg = j := za_cl (by omega)
  refine zx_code hL (fun h => br_t rfl ?_) (fun w w1 w2 e => br_f (by decide) ⟨ij, ?_⟩)
  · unfold wpY_inSource
    exact br_f ng (br_f nd (zy_code hL (fun _ => br_t rfl ⟨rfl, zi_mk I⟩) (fun w a b e => absurd ⟨w, a, b, e⟩ h)))
  subst e
  obtain ⟨len, l1, l2⟩ := zc_len w w1
  have ll : len ≤ L := by
    have := (Nat.pow_lt_pow_iff_right (show 1 < 2 by decide)).mp (Nat.lt_of_le_of_lt l1 w2)
    omega
  rw [cj]
  refine zx_match (s := 0) (LG := LG) (AG := AG) (SC := SC) (N := 2 ^ (L + 1)) (by omega) (by omega) (by omega) l1 l2 (za_p2 (by omega)) (fun n hn => I.2.2.1 n (by omega)) (fun EN' _ _ => ?_)
  have yy : ∀ post : Int32 → Prop, post (za_b (zy_h LG (RT j) 0 w)) → wpY_inSource post (nI NL, nI L, nI D, tp, za_n RT, za_n KD, za_n AG, za_n LF, za_n SC, za_n SZ, za_n LG, za_n WY, yn, yv, yo) (nI j) (nI w) := by
    intro post hp
    unfold wpY_inSource
    refine br_f ng (br_f nd (zy_code hL (fun h => absurd ⟨w, w1, w2, rfl⟩ h) (fun _ _ _ _ => br_f (by decide) ⟨ij, ?_⟩)))
    rw [cj]
    refine zy_has (s := 0) (by omega) (by omega) (by omega) I.2.2.2.2.2.1.1 (za_brb (fun q => ?_) (fun q => ?_))
    · rw [q] at hp; exact hp
    · rw [q] at hp; exact hp
  refine za_brb (fun q => yy _ ?_) (fun q => yy _ ?_)
  · rw [q]
    exact ⟨rfl, zi_mk I⟩
  · rw [q]
    exact ⟨rfl, zi_mk I⟩
theorem i_vc_inView {k : Nat} {u : SX} {v : SY} (I : i_Rel k u v) (hk : k + 4 ≤ 2050) (v1 : Int32) (v2 : Int32) : wpX_inView (fun r u' => wpY_inView (fun r' => r' = r ∧ i_Rel (k + 4) u' v) v v1 v2) u v1 v2 := by
  refine zi_el (P := fun u v => wpX_inView (fun r u' => wpY_inView (fun r' => r' = r ∧ i_Rel (k + 4) u' v) v v1 v2) u v1 v2) ?_ I
  intro NL L US D RT KD AG LF SZ LB NU FI LA FO SC LG WY BE NE EN WD LN tk ot tp tn tv te ts tz yn yv yo I
  have hL : L ≤ 8 := I.1.2.2.2.1
  have hU : US ≤ 16 := Nat.le_trans I.1.2.2.2.2 I.1.2.1
  have hD : D ≤ 16 := Nat.le_trans (zi_D I.2.1) hU
  have p9 : 2 ^ (L + 1) ≤ 2 ^ 9 := za_p2 (by omega)
  unfold wpX_inView
  refine zx_slot hD (fun h => br_t rfl ?_) (fun j hj e => br_f (by decide) ?_)
  · unfold wpY_inView
    rcases h with h | h
    · exact br_t h ⟨rfl, zi_mk I⟩
    · exact br_f h.1 (br_t h.2 ⟨rfl, zi_mk I⟩)
  subst e
  have hr := zi_rt I.2.1 hj
  have ng : ¬ nI j < 0 := za_ng (by omega)
  have nd : ¬ nI D ≤ nI j := fun z => by have := (za_le (by omega) (by omega)).mp z; omega
  have ij : vp_in (nI j) 16 := vp_in_nI (by omega) (by omega)
  have cj : (nI j).toNatClampNeg = j := za_cl (by omega)
  refine zx_code hL (fun h => br_t rfl ?_) (fun w w1 w2 e => br_f (by decide) ⟨ij, ?_⟩)
  · unfold wpY_inView
    exact br_f ng (br_f nd (zy_code hL (fun _ => br_t rfl ⟨rfl, zi_mk I⟩) (fun w a b e => absurd ⟨w, a, b, e⟩ h)))
  subst e
  obtain ⟨len, l1, l2⟩ := zc_len w w1
  have ll : len ≤ L := by
    have := (Nat.pow_lt_pow_iff_right (show 1 < 2 by decide)).mp (Nat.lt_of_le_of_lt l1 w2)
    omega
  rw [cj]
  refine zx_match (s := 1) (LG := LG) (AG := AG) (SC := SC) (N := 2 ^ (L + 1)) (by omega) (by omega) (by omega) l1 l2 (za_p2 (by omega)) (fun n hn => I.2.2.1 n (by omega)) (fun EN' _ _ => ?_)
  have yy : ∀ post : Int32 → Prop, post (za_b (zy_h LG (RT j) 1 w)) → wpY_inView post (nI NL, nI L, nI D, tp, za_n RT, za_n KD, za_n AG, za_n LF, za_n SC, za_n SZ, za_n LG, za_n WY, yn, yv, yo) (nI j) (nI w) := by
    intro post hp
    unfold wpY_inView
    refine br_f ng (br_f nd (zy_code hL (fun h => absurd ⟨w, w1, w2, rfl⟩ h) (fun _ _ _ _ => br_f (by decide) ⟨ij, ?_⟩)))
    rw [cj]
    refine zy_has (s := 1) (by omega) (by omega) (by omega) I.2.2.2.2.2.1.1 (za_brb (fun q => ?_) (fun q => ?_))
    · rw [q] at hp; exact hp
    · rw [q] at hp; exact hp
  refine za_brb (fun q => yy _ ?_) (fun q => yy _ ?_)
  · rw [q]
    exact ⟨rfl, zi_mk I⟩
  · rw [q]
    exact ⟨rfl, zi_mk I⟩
end
section
/-! copy and insert -/
def zt_lc (m w : Nat) : Prop := (m = 0 ∧ w = 1) ∨ (m.testBit 0 = true ∧ w = 2) ∨ (m.testBit 1 = true ∧ w = 3)
theorem za_ule {f : Nat → Nat} {k v b : Nat} (hf : ∀ i, f i < b) (hv : v < b) (i : Nat) : za_u f k v i < b := by
  unfold za_u
  split
  · exact hv
  · exact hf i
theorem zi_leaf {NL L US D kk aa m0 m1 : Nat} {RT KD AG LF SZ LB NU FI LA FO SC LG WY WY' : Nat → Nat} (I : zi_Inv NL L US D RT KD AG LF SZ LB NU FI LA FO SC LG WY) (hU : US < NL) (hm0 : m0 < 4) (hm1 : m1 < 4)
    (hkind : (kk = 0 ∧ aa = m0 ∧ aa = m1) ∨ (kk = 1 ∧ aa < 2 ∧ m0 = 0 ∧ m1 = 2 ^ aa)) (bW : ∀ i, WY' i < 65536)
    (hw0 : ∀ w, 1 ≤ w → w < 512 → (WY' (0 * 512 + w) ≠ 0 ↔ zt_lc m0 w)) (hw1 : ∀ w, 1 ≤ w → w < 512 → (WY' (1 * 512 + w) ≠ 0 ↔ zt_lc m1 w)) :
    zi_Inv NL L (US + 1) (D + 1) (za_u RT D US) (za_u KD US kk) (za_u AG US aa) (za_u LF US 0) (za_u SZ US 1) (za_u (za_u (za_u (za_u LB US 0) (US + 16) 0) (0 * 16 + US) m0) (1 * 16 + US) m1)
      (za_u (za_u NU (0 * 16 + US) (if m0 = 0 then 1 else 0)) (1 * 16 + US) (if m1 = 0 then 1 else 0)) (za_u (za_u FI (0 * 16 + US) (if m0 = 0 then 0 else 2 ^ US)) (1 * 16 + US) (if m1 = 0 then 0 else 2 ^ US))
      (za_u (za_u LA (0 * 16 + US) (if m0 = 0 then 0 else 2 ^ US)) (1 * 16 + US) (if m1 = 0 then 0 else 2 ^ US)) (za_u (za_u FO US 0) (US + 16) 0) (za_u SC US 0) (zy_lp LG WY' US 1024) WY' := by
  have hNL : NL ≤ 16 := I.1.2.1
  have hL2 : 2 ≤ L := I.1.2.2.1
  obtain ⟨bLB, bNU, bFI, bLA, bFO⟩ := I.2.2.2.2.1
  have p3 : 2 ^ 3 ≤ 2 ^ (L + 1) := za_p2 (by omega)
  have eS : 1 + (US - zi_S RT SZ D) = 1 := by rw [← I.2.1.1]; omega
  have pU : 2 ^ US ≤ 2 ^ 15 := za_p2 (by omega)
  have h16 : ∀ m : Nat, (if m = 0 then 0 else 2 ^ US) < 65536 := by intro m; split <;> omega
  have hb : ∀ m : Nat, (if m = 0 then 1 else 0) < 2 := by intro m; split <;> omega
  have lb0 : za_u (za_u (za_u (za_u LB US 0) (US + 16) 0) (0 * 16 + US) m0) (1 * 16 + US) m1 (0 * 16 + US) = m0 := by rw [za_un (by omega), za_us]
  have lb1 : za_u (za_u (za_u (za_u LB US 0) (US + 16) 0) (0 * 16 + US) m0) (1 * 16 + US) m1 (1 * 16 + US) = m1 := za_us
  have lf0 : zt_leaf (za_u (za_u (za_u (za_u LB US 0) (US + 16) 0) (0 * 16 + US) m0) (1 * 16 + US) m1) (zy_lp LG WY' US 1024) 0 US m0 :=
    ⟨lb0, fun w h1 h2 => (zy_lp_h (by omega) h1 h2).trans (hw0 w h1 h2)⟩
  have lf1 : zt_leaf (za_u (za_u (za_u (za_u LB US 0) (US + 16) 0) (0 * 16 + US) m0) (1 * 16 + US) m1) (zy_lp LG WY' US 1024) 1 US m1 :=
    ⟨lb1, fun w h1 h2 => (zy_lp_h (by omega) h1 h2).trans (hw1 w h1 h2)⟩
  have p9 : 2 ^ (L + 1) ≤ 2 ^ 9 := za_p2 (by have := I.1.2.2.2.1; omega)
  have key := zi_add (k := D) (kk := kk) (aa := aa) (ll := 0) (sc := 0)
    (LB' := za_u (za_u (za_u (za_u LB US 0) (US + 16) 0) (0 * 16 + US) m0) (1 * 16 + US) m1)
    (NU' := za_u (za_u NU (0 * 16 + US) (if m0 = 0 then 1 else 0)) (1 * 16 + US) (if m1 = 0 then 1 else 0))
    (FI' := za_u (za_u FI (0 * 16 + US) (if m0 = 0 then 0 else 2 ^ US)) (1 * 16 + US) (if m1 = 0 then 0 else 2 ^ US))
    (LA' := za_u (za_u LA (0 * 16 + US) (if m0 = 0 then 0 else 2 ^ US)) (1 * 16 + US) (if m1 = 0 then 0 else 2 ^ US))
    (FO' := za_u (za_u FO US 0) (US + 16) 0) (WY' := WY') I hU (Nat.le_refl D)
    ⟨za_ule (za_ule (za_ule (za_ule bLB (by omega)) (by omega)) hm0) hm1, za_ule (za_ule bNU (hb _)) (hb _), za_ule (za_ule bFI (h16 _)) (h16 _), za_ule (za_ule bLA (h16 _)) (h16 _), za_ule (za_ule bFO (by omega)) (by omega)⟩ bW
    (fun s hs p hp => by rw [za_un (by omega), za_un (by omega), za_un (by omega), za_un (by omega)])
    (fun s hs p hp => by rw [za_un (by omega), za_un (by omega)])
    (fun s hs p hp => by rw [za_un (by omega), za_un (by omega)])
    (fun s hs p hp => by rw [za_un (by omega), za_un (by omega)])
    (fun s hs p hp => by
      rw [← I.2.1.1] at hp
      rw [za_un (by omega), za_un (by omega)])
    (by
      rcases hkind with ⟨rfl, h1, h2⟩ | ⟨rfl, h1, h2, h3⟩
      · left
        rw [eS]
        refine ⟨za_us, za_us, by rw [za_us]; omega, ?_, ?_, za_us, za_us⟩
        · rw [za_us, h1]; exact lf0
        · rw [za_us, h2]; exact lf1
      · right; left
        rw [eS]
        refine ⟨za_us, za_us, by rw [za_us]; omega, ?_, ?_, za_us, za_us⟩
        · subst h2; exact lf0
        · rw [za_us, ← h3]; exact lf1)
    (by
      rw [eS]
      intro s hs
      rcases (show s = 0 ∨ s = 1 by omega) with rfl | rfl
      · refine zl_leaf (m := m0) (by omega) za_us lb0 hm0 (by rw [za_un (by omega), za_us]) (by rw [za_un (by omega), za_us]) ?_ (by rw [za_un (by omega), Nat.zero_mul, Nat.zero_add]; exact za_us) (fun w h1 h2 => lf0.2 w h1 (by omega))
        rw [za_un (by omega), za_us]
        split
        · rename_i z; exact ⟨fun _ => z, fun _ => by decide⟩
        · rename_i z; exact ⟨fun q => absurd rfl q, fun q => absurd q z⟩
      · refine zl_leaf (m := m1) (by omega) za_us lb1 hm1 za_us za_us ?_ (by rw [show 1 * 16 + US = US + 16 by omega]; exact za_us) (fun w h1 h2 => lf1.2 w h1 (by omega))
        rw [za_us]
        split
        · rename_i z; exact ⟨fun _ => z, fun _ => by decide⟩
        · rename_i z; exact ⟨fun q => absurd rfl q, fun q => absurd q z⟩)
    (by
      intro s hs w h1 h2
      have no : ∀ m, ¬ zt_lc m w := by
        rintro m (z | z | z) <;> omega
      rcases (show s = 0 ∨ s = 1 by omega) with rfl | rfl
      · exact Classical.byContradiction fun q => no m0 ((hw0 w (by omega) h2).mp q)
      · exact Classical.byContradiction fun q => no m1 ((hw1 w (by omega) h2).mp q))
  rw [eS] at key
  exact key

/-- counts written to the scratch up to m -/
def zy_fp (WY f : Nat → Nat) (m : Nat) : Nat → Nat := fun j => if j < m then f j else WY j
theorem zy_fp0 (WY f : Nat → Nat) : zy_fp WY f 0 = WY := by
  funext j
  unfold zy_fp
  rw [if_neg (by omega)]
theorem zy_fpS {WY f : Nat → Nat} {m : Nat} : za_u (zy_fp WY f m) m (f m) = zy_fp WY f (m + 1) := by
  funext j
  by_cases e : j = m
  · subst e
    rw [za_us]
    unfold zy_fp
    rw [if_pos (by omega)]
  · rw [za_un e]
    unfold zy_fp
    by_cases q : j < m
    · rw [if_pos q, if_pos (by omega)]
    · rw [if_neg q, if_neg (by omega)]
theorem zy_fpg {WY f : Nat → Nat} {m j : Nat} (h : j < m) : zy_fp WY f m j = f j := if_pos h
theorem zy_fpb {WY f : Nat → Nat} {m b : Nat} (hW : ∀ i, WY i < b) (hf : ∀ i, f i < b) (i : Nat) : zy_fp WY f m i < b := by
  unfold zy_fp
  split
  · exact hf i
  · exact hW i
def zy_fc (m i : Nat) : Nat := if (m = 0 ∧ i % 512 = 1) ∨ (m.testBit 0 = true ∧ i % 512 = 2) ∨ (m.testBit 1 = true ∧ i % 512 = 3) then 1 else 0
theorem zy_fc1 {m i : Nat} (h : (m = 0 ∧ i % 512 = 1) ∨ (m.testBit 0 = true ∧ i % 512 = 2) ∨ (m.testBit 1 = true ∧ i % 512 = 3)) : zy_fc m i = 1 := if_pos h
theorem zy_fc0 {m i : Nat} (h : ¬ ((m = 0 ∧ i % 512 = 1) ∨ (m.testBit 0 = true ∧ i % 512 = 2) ∨ (m.testBit 1 = true ∧ i % 512 = 3))) : zy_fc m i = 0 := if_neg h
def zy_fi (l i : Nat) : Nat := if i = 1 ∨ i = 514 + l then 1 else 0
section
variable {mn ml ct tp : Int32} {yr yk ya yf ys yz yl yw yn yv yo : Nat → Int32}
theorem zy_rep0 {post : Int32 → SY → Prop} {US D k a : Nat} {RT KD AG LF SC SZ WY LG : Nat → Nat} (h : zi_St US D RT SZ) (hU : US < 16) (hW : ∀ i, WY i < 65536)
    (hp : post (nI (D + 1)) (mn, ml, nI (D + 1), tp, za_n (za_u RT D US), za_n (za_u KD US k), za_n (za_u AG US a), za_n (za_u LF US 0), za_n (za_u SC US 0), za_n (za_u SZ US 1), za_n (zy_lp LG WY US 1024), za_n WY, yn, yv, yo)) :
    wpY_replace post (mn, ml, nI D, tp, za_n RT, za_n KD, za_n AG, za_n LF, za_n SC, za_n SZ, za_n LG, za_n WY, yn, yv, yo) 0 (nI k) (nI a) := by
  have eS : 1 + (US - zi_S RT SZ (D - 0)) = 1 := by rw [Nat.sub_zero, ← h.1]; omega
  refine zy_rep (ops := 0) h hU (Nat.zero_le _) hW ?_
  rw [eS]
  exact hp
theorem zy_copy_l {post : Int32 → SY → Prop} {US D m : Nat} {RT KD AG LF SC SZ WY LG : Nat → Nat} (h : zi_St US D RT SZ) (hU : US < 16) (hW : ∀ i, WY i < 65536) (hm : m < 4)
    (hp : post (nI (D + 1)) (mn, ml, nI (D + 1), tp, za_n (za_u RT D US), za_n (za_u KD US 0), za_n (za_u AG US m), za_n (za_u LF US 0), za_n (za_u SC US 0), za_n (za_u SZ US 1), za_n (zy_lp LG (zy_fp WY (zy_fc m) 1024) US 1024), za_n (zy_fp WY (zy_fc m) 1024), yn, yv, yo)) :
    ∀ n i, i ≤ 1024 → 1024 - i < n → wY_copy_28 post (nI m) mn ml (nI D) tp n (nI i) (za_n RT) (za_n KD) (za_n AG) (za_n LF) (za_n SC) (za_n SZ) (za_n LG) (za_n (zy_fp WY (zy_fc m) i)) yn yv yo := by
  intro n
  induction n with
  | zero => intro i a b; omega
  | succ n ih =>
    intro i a b
    simp only [wY_copy_28]
    refine za_br (za_le (a := 1024) (by omega) (by omega)) (fun z => ?_) (fun z => ?_)
    · have e : i = 1024 := by omega
      subst e
      exact zy_rep0 (k := 0) h hU (zy_fpb hW (fun j => by unfold zy_fc; split <;> omega)) hp
    have e511 : nI i &&& 511 = nI (i % 512) := za_511 (by omega)
    have ii : vp_in (nI i) 1024 := vp_in_nI (by omega) (by omega)
    have nx := ih (i + 1) (by omega) (by omega)
    refine nm_r e511 ?_
    have up : ∀ v, zy_fc m i = v → (vp_in (nI i) 1024 ∧ ∀ x, x = upd (za_n (zy_fp WY (zy_fc m) i)) (nI i).toNatClampNeg (nI v) → ∀ y, y = nI i + 1 → wY_copy_28 post (nI m) mn ml (nI D) tp n y (za_n RT) (za_n KD) (za_n AG) (za_n LF) (za_n SC) (za_n SZ) (za_n LG) x yn yv yo) := by
      intro v ev
      refine ⟨ii, nm_r (e' := za_n (zy_fp WY (zy_fc m) (i + 1))) ?_ (nm_r (nI_1 i) nx)⟩
      rw [za_cl (by omega), za_upd, ← ev, zy_fpS]
    have q1 : nI (i % 512) = 1 ↔ i % 512 = 1 := za_eq (b := 1) (by omega) (by omega)
    have q2 : nI (i % 512) = 2 ↔ i % 512 = 2 := za_eq (b := 2) (by omega) (by omega)
    have q3 : nI (i % 512) = 3 ↔ i % 512 = 3 := za_eq (b := 3) (by omega) (by omega)
    have b0 : (nI m &&& 1 = 0) ↔ m.testBit 0 = false := by
      have : ∀ m, m < 4 → ((nI m &&& 1 = 0) ↔ m.testBit 0 = false) := by decide
      exact this m hm
    have b1 : (nI m &&& 2 = 0) ↔ m.testBit 1 = false := by
      have : ∀ m, m < 4 → ((nI m &&& 2 = 0) ↔ m.testBit 1 = false) := by decide
      exact this m hm
    have s66 : (¬ (m = 0 ∧ i % 512 = 1)) → ¬ (m.testBit 0 = true ∧ i % 512 = 2) → wY_copy_66 post (wY_copy_28 post (nI m) mn ml (nI D) tp n) (nI m) (nI i) (nI (i % 512)) (nI i) mn ml (nI D) tp (za_n RT) (za_n KD) (za_n AG) (za_n LF) (za_n SC) (za_n SZ) (za_n LG) (za_n (zy_fp WY (zy_fc m) i)) yn yv yo := by
      intro n0 n1
      unfold wY_copy_66
      refine za_br0 b1 (fun t => up 0 (zy_fc0 ?_)) (fun t => za_br q3 (fun w => up 1 (zy_fc1 (Or.inr (Or.inr ⟨t, w⟩)))) (fun w => up 0 (zy_fc0 ?_)))
      · rintro (z | z | z)
        · exact n0 z
        · exact n1 z
        · rw [t] at z; cases z.1
      · rintro (z | z | z)
        · exact n0 z
        · exact n1 z
        · exact w z.2
    have s55 : (¬ (m = 0 ∧ i % 512 = 1)) → wY_copy_55 post (wY_copy_28 post (nI m) mn ml (nI D) tp n) (nI m) (nI i) (nI (i % 512)) (nI i) mn ml (nI D) tp (za_n RT) (za_n KD) (za_n AG) (za_n LF) (za_n SC) (za_n SZ) (za_n LG) (za_n (zy_fp WY (zy_fc m) i)) yn yv yo := by
      intro n0
      unfold wY_copy_55
      refine za_br0 b0 (fun t => s66 n0 (fun z => by rw [t] at z; cases z.1)) (fun t => za_br q2 (fun w => up 1 (zy_fc1 (Or.inr (Or.inl ⟨t, w⟩)))) (fun w => s66 n0 (fun z => w z.2)))
    refine za_br (za_e0 (x := m) (by omega)) (fun m0 => za_br q1 (fun w => up 1 (zy_fc1 (Or.inl ⟨m0, w⟩))) (fun w => s55 (fun z => w z.2))) (fun m0 => s55 (fun z => m0 z.1))
theorem zy_ins_l {post : Int32 → SY → Prop} {US D l : Nat} {RT KD AG LF SC SZ WY LG : Nat → Nat} (h : zi_St US D RT SZ) (hU : US < 16) (hW : ∀ i, WY i < 65536) (hl : l < 2)
    (hp : post (nI (D + 1)) (mn, ml, nI (D + 1), tp, za_n (za_u RT D US), za_n (za_u KD US 1), za_n (za_u AG US l), za_n (za_u LF US 0), za_n (za_u SC US 0), za_n (za_u SZ US 1), za_n (zy_lp LG (zy_fp WY (zy_fi l) 1024) US 1024), za_n (zy_fp WY (zy_fi l) 1024), yn, yv, yo)) :
    ∀ n i, i ≤ 1024 → 1024 - i < n → wY_insert_28 post (nI l) mn ml (nI D) tp n (nI i) (za_n RT) (za_n KD) (za_n AG) (za_n LF) (za_n SC) (za_n SZ) (za_n LG) (za_n (zy_fp WY (zy_fi l) i)) yn yv yo := by
  intro n
  induction n with
  | zero => intro i a b; omega
  | succ n ih =>
    intro i a b
    simp only [wY_insert_28]
    refine za_br (za_le (a := 1024) (by omega) (by omega)) (fun z => ?_) (fun z => ?_)
    · have e : i = 1024 := by omega
      subst e
      exact zy_rep0 (k := 1) h hU (zy_fpb hW (fun j => by unfold zy_fi; split <;> omega)) hp
    have ii : vp_in (nI i) 1024 := vp_in_nI (by omega) (by omega)
    have nx := ih (i + 1) (by omega) (by omega)
    have up : ∀ v, zy_fi l i = v → (vp_in (nI i) 1024 ∧ ∀ x, x = upd (za_n (zy_fp WY (zy_fi l) i)) (nI i).toNatClampNeg (nI v) → ∀ y, y = nI i + 1 → wY_insert_28 post (nI l) mn ml (nI D) tp n y (za_n RT) (za_n KD) (za_n AG) (za_n LF) (za_n SC) (za_n SZ) (za_n LG) x yn yv yo) := by
      intro v ev
      refine ⟨ii, nm_r (e' := za_n (zy_fp WY (zy_fi l) (i + 1))) ?_ (nm_r (nI_1 i) nx)⟩
      rw [za_cl (by omega), za_upd, ← ev, zy_fpS]
    have q1 : nI i = 1 ↔ i = 1 := za_eq (b := 1) (by omega) (by omega)
    have q2 : nI i = 514 + nI l ↔ i = 514 + l := by
      have e : (514 : Int32) + nI l = nI (514 + l) := za_add 514 l
      rw [e]
      exact za_eq (by omega) (by omega)
    refine za_br q1 (fun w => up 1 (if_pos (Or.inl w))) (fun w => za_br q2 (fun w2 => up 1 (if_pos (Or.inr w2))) (fun w2 => up 0 (if_neg (fun z => z.elim w w2))))
end
end
section
/-! copy and insert, owed -/
theorem i_vc_copy {k : Nat} {u : SX} {v : SY} (I : i_Rel k u v) (hk : k + 4 ≤ 2050) (v1 : Int32) : wpX_copy (fun r u' => wpY_copy (fun r' v' => r' = r ∧ i_Rel (k + 4) u' v') v v1) u v1 := by
  refine zi_el (P := fun u v => wpX_copy (fun r u' => wpY_copy (fun r' v' => r' = r ∧ i_Rel (k + 4) u' v') v v1) u v1) ?_ I
  intro NL L US D RT KD AG LF SZ LB NU FI LA FO SC LG WY BE NE EN WD LN tk ot tp tn tv te ts tz yn yv yo I
  have hNL : NL ≤ 16 := I.1.2.1
  have hU : US ≤ NL := I.1.2.2.2.2
  have hD := zi_D I.2.1
  unfold wpX_copy
  dsimp only
  by_cases h0 : v1 < 0
  · refine br_t h0 ?_
    unfold wpY_copy
    exact br_t h0 ⟨rfl, zi_mk I⟩
  refine br_f h0 ?_
  by_cases h3 : v1 ≤ 3
  · refine br_t h3 ?_
    obtain ⟨m, hm, rfl⟩ := nI_of2 (n := 3) (by decide) h0 h3
    refine zx_push (k := 0) hNL (fun z => by omega) (by omega) (by omega) hU (fun z => ?_) (fun z => ?_)
    · unfold wpY_copy
      exact br_f h0 (br_t h3 (zy_tot I.2.1 (by omega) (br_f (fun y => by have := (za_lt (by omega) (by omega)).mp y; omega) ⟨rfl, zi_mk I⟩)))
    · unfold wpY_copy
      refine br_f h0 (br_t h3 (zy_tot I.2.1 (by omega) (br_t ((za_lt (by omega) (by omega)).mpr z) (Exists.intro 1025 ?_))))
      have bW : ∀ i, zy_fp WY (zy_fc m) 1024 i < 65536 := zy_fpb I.2.2.2.2.2.1.2 (fun j => by unfold zy_fc; split <;> omega)
      have hw : ∀ s, s < 2 → ∀ w, 1 ≤ w → w < 512 → (zy_fp WY (zy_fc m) 1024 (s * 512 + w) ≠ 0 ↔ zt_lc m w) := by
        intro s hs w w1 w2
        rw [zy_fpg (by omega)]
        have e : (s * 512 + w) % 512 = w := by omega
        unfold zy_fc zt_lc
        rw [e]
        split
        · rename_i c; exact ⟨fun _ => c, fun _ => by decide⟩
        · rename_i c; exact ⟨fun q => absurd rfl q, fun q => absurd q c⟩
      have I' := zi_leaf (kk := 0) (aa := m) (m0 := m) (m1 := m) (WY' := zy_fp WY (zy_fc m) 1024) I z (by omega) (by omega) (Or.inl ⟨rfl, rfl, rfl⟩) bW (hw 0 (by omega)) (hw 1 (by omega))
      have fin := zy_copy_l (post := fun r' v' => r' = nI (D + 1) ∧ i_Rel (k + 4) (0, 1, 2, 3, 4, 5, 6, nI NL, nI L, nI (US + 1), nI (D + 1), tk, ot, za_n (za_u RT D US), za_n (za_u KD US 0), za_n (za_u AG US m), za_n (za_u LF US 0), za_n (za_u SZ US 1), za_n (za_u (za_u (za_u (za_u LB US 0) (US + 16) 0) (0 * 16 + US) m) (1 * 16 + US) m), za_n (za_u (za_u NU (0 * 16 + US) (if m = 0 then 1 else 0)) (1 * 16 + US) (if m = 0 then 1 else 0)), za_n (za_u (za_u FI (0 * 16 + US) (if m = 0 then 0 else 2 ^ US)) (1 * 16 + US) (if m = 0 then 0 else 2 ^ US)), za_n (za_u (za_u LA (0 * 16 + US) (if m = 0 then 0 else 2 ^ US)) (1 * 16 + US) (if m = 0 then 0 else 2 ^ US)), za_n (za_u (za_u FO US 0) (US + 16) 0), za_n BE, za_n NE, za_n EN, za_n WD, za_n LN, tn, tv, te, ts, tz) v') (WY := WY) (LG := LG) (KD := KD) (AG := AG) (LF := LF) (SC := SC) (mn := nI NL) (ml := nI L) (tp := tp) (yn := yn) (yv := yv) (yo := yo) I.2.1 (by omega) I.2.2.2.2.2.1.2 (by omega) ⟨rfl, zi_mk I'⟩ 1025 0 (by omega) (by omega)
      rw [zy_fp0] at fin
      exact fin
  · refine br_f h3 ?_
    unfold wpY_copy
    exact br_f h0 (br_f h3 ⟨rfl, zi_mk I⟩)
theorem i_vc_insert {k : Nat} {u : SX} {v : SY} (I : i_Rel k u v) (hk : k + 4 ≤ 2050) (v1 : Int32) : wpX_insert (fun r u' => wpY_insert (fun r' v' => r' = r ∧ i_Rel (k + 4) u' v') v v1) u v1 := by
  refine zi_el (P := fun u v => wpX_insert (fun r u' => wpY_insert (fun r' v' => r' = r ∧ i_Rel (k + 4) u' v') v v1) u v1) ?_ I
  intro NL L US D RT KD AG LF SZ LB NU FI LA FO SC LG WY BE NE EN WD LN tk ot tp tn tv te ts tz yn yv yo I
  have hNL : NL ≤ 16 := I.1.2.1
  have hU : US ≤ NL := I.1.2.2.2.2
  have hD := zi_D I.2.1
  have main : ∀ l, l < 2 → (∀ post : Int32 → SY → Prop, wY_insert_12 post (nI l) (nI NL) (nI L) (nI D) tp (za_n RT) (za_n KD) (za_n AG) (za_n LF) (za_n SC) (za_n SZ) (za_n LG) (za_n WY) yn yv yo → wpY_insert post (nI NL, nI L, nI D, tp, za_n RT, za_n KD, za_n AG, za_n LF, za_n SC, za_n SZ, za_n LG, za_n WY, yn, yv, yo) (nI l)) → wX_insert_12 (fun r u' => wpY_insert (fun r' v' => r' = r ∧ i_Rel (k + 4) u' v') (nI NL, nI L, nI D, tp, za_n RT, za_n KD, za_n AG, za_n LF, za_n SC, za_n SZ, za_n LG, za_n WY, yn, yv, yo) (nI l)) (nI l) 0 1 2 3 4 5 6 (nI NL) (nI L) (nI US) (nI D) tk ot (za_n RT) (za_n KD) (za_n AG) (za_n LF) (za_n SZ) (za_n LB) (za_n NU) (za_n FI) (za_n LA) (za_n FO) (za_n BE) (za_n NE) (za_n EN) (za_n WD) (za_n LN) tn tv te ts tz := by
    intro l hl hY
    have p2 : 2 ^ l < 4 := by
      rcases (show l = 0 ∨ l = 1 by omega) with e | e <;> subst e <;> decide
    have nz : ¬ 2 ^ l = 0 := by have := zc_pp l; omega
    unfold wX_insert_12
    rw [za_sh1 (by omega)]
    refine zx_push (k := 1) (m0 := 0) hNL (fun z => by omega) (by omega) p2 hU (fun z => hY _ ?_) (fun z => hY _ ?_)
    · unfold wY_insert_12
      exact zy_tot I.2.1 (by omega) (br_f (fun y => by have := (za_lt (by omega) (by omega)).mp y; omega) ⟨rfl, zi_mk I⟩)
    · unfold wY_insert_12
      refine zy_tot I.2.1 (by omega) (br_t ((za_lt (by omega) (by omega)).mpr z) (Exists.intro 1025 ?_))
      have bW : ∀ i, zy_fp WY (zy_fi l) 1024 i < 65536 := zy_fpb I.2.2.2.2.2.1.2 (fun j => by unfold zy_fi; split <;> omega)
      have hw0 : ∀ w, 1 ≤ w → w < 512 → (zy_fp WY (zy_fi l) 1024 (0 * 512 + w) ≠ 0 ↔ zt_lc 0 w) := by
        intro w w1 w2
        rw [zy_fpg (by omega)]
        unfold zy_fi zt_lc
        split
        · rename_i c
          exact ⟨fun _ => Or.inl ⟨rfl, by omega⟩, fun _ => by decide⟩
        · rename_i c
          refine ⟨fun q => absurd rfl q, ?_⟩
          rintro (q | q | q)
          · omega
          · exact absurd q.1 (by decide)
          · exact absurd q.1 (by decide)
      have hw1 : ∀ w, 1 ≤ w → w < 512 → (zy_fp WY (zy_fi l) 1024 (1 * 512 + w) ≠ 0 ↔ zt_lc (2 ^ l) w) := by
        intro w w1 w2
        rw [zy_fpg (by omega)]
        have tl : zt_lc (2 ^ l) w ↔ w = 2 + l := by
          unfold zt_lc
          rcases (show l = 0 ∨ l = 1 by omega) with e | e
          · subst e
            have t0 : (2 ^ 0).testBit 0 = true := by decide
            have t1 : ¬ (2 ^ 0).testBit 1 = true := by decide
            constructor
            · rintro (q | q | q)
              · exact absurd q.1 (by decide)
              · omega
              · exact absurd q.1 t1
            · intro q
              exact Or.inr (Or.inl ⟨t0, by omega⟩)
          · subst e
            have t0 : ¬ (2 ^ 1).testBit 0 = true := by decide
            have t1 : (2 ^ 1).testBit 1 = true := by decide
            constructor
            · rintro (q | q | q)
              · exact absurd q.1 (by decide)
              · exact absurd q.1 t0
              · omega
            · intro q
              exact Or.inr (Or.inr ⟨t1, by omega⟩)
        rw [tl]
        unfold zy_fi
        split
        · rename_i c
          exact ⟨fun _ => by omega, fun _ => by decide⟩
        · rename_i c
          exact ⟨fun q => absurd rfl q, fun q => by omega⟩
      have I' := zi_leaf (kk := 1) (aa := l) (m0 := 0) (m1 := 2 ^ l) (WY' := zy_fp WY (zy_fi l) 1024) I z (by omega) p2 (Or.inr ⟨rfl, hl, rfl, rfl⟩) bW hw0 hw1
      have fin := zy_ins_l (post := fun r' v' => r' = nI (D + 1) ∧ i_Rel (k + 4) (0, 1, 2, 3, 4, 5, 6, nI NL, nI L, nI (US + 1), nI (D + 1), tk, ot, za_n (za_u RT D US), za_n (za_u KD US 1), za_n (za_u AG US l), za_n (za_u LF US 0), za_n (za_u SZ US 1), za_n (za_u (za_u (za_u (za_u LB US 0) (US + 16) 0) (0 * 16 + US) 0) (1 * 16 + US) (2 ^ l)), za_n (za_u (za_u NU (0 * 16 + US) (if 0 = 0 then 1 else 0)) (1 * 16 + US) (if 2 ^ l = 0 then 1 else 0)), za_n (za_u (za_u FI (0 * 16 + US) (if 0 = 0 then 0 else 2 ^ US)) (1 * 16 + US) (if 2 ^ l = 0 then 0 else 2 ^ US)), za_n (za_u (za_u LA (0 * 16 + US) (if 0 = 0 then 0 else 2 ^ US)) (1 * 16 + US) (if 2 ^ l = 0 then 0 else 2 ^ US)), za_n (za_u (za_u FO US 0) (US + 16) 0), za_n BE, za_n NE, za_n EN, za_n WD, za_n LN, tn, tv, te, ts, tz) v') (WY := WY) (LG := LG) (KD := KD) (AG := AG) (LF := LF) (SC := SC) (mn := nI NL) (ml := nI L) (tp := tp) (yn := yn) (yv := yv) (yo := yo) I.2.1 (by omega) I.2.2.2.2.2.1.2 hl ⟨rfl, zi_mk I'⟩ 1025 0 (by omega) (by omega)
      rw [zy_fp0] at fin
      exact fin
  unfold wpX_insert
  dsimp only
  by_cases h0 : v1 = 0
  · subst h0
    exact br_t rfl (main 0 (by omega) (fun post h => by unfold wpY_insert; exact br_t rfl h))
  · by_cases h1 : v1 = 1
    · subst h1
      exact br_f (by decide) (br_t rfl (main 1 (by omega) (fun post h => by unfold wpY_insert; exact br_f (by decide) (br_t rfl h))))
    · refine br_f h0 (br_f h1 ?_)
      unfold wpY_insert
      exact br_f h0 (br_f h1 ⟨rfl, zi_mk I⟩)
end
section
/-! erase -/
theorem zl_cgL2 {NU FI LA FO LB NU' FI' LA' FO' LB' : Nat → Nat} {P : Nat → Prop} {s r r' : Nat} (c : zw_Cl (zx_b (FI (s * 16 + r))) (zl_fo FO s) (zx_b (LA (s * 16 + r))) P)
    (e1 : FI' (s * 16 + r') = FI (s * 16 + r)) (e2 : LA' (s * 16 + r') = LA (s * 16 + r)) (e3 : NU' (s * 16 + r') = NU (s * 16 + r))
    (e4 : ∀ p, P p → FO' (s * 16 + p) = FO (s * 16 + p)) (e5 : ∀ p, P p → LB' (s * 16 + p) = LB (s * 16 + p)) (w : Nat) (h : zl_L NU FI LA FO LB s r w) : zl_L NU' FI' LA' FO' LB' s r' w := by
  obtain ⟨n, p, z, d⟩ := h
  refine ⟨n, p, ?_, ?_⟩
  · refine zr_cg (P := P) (fun _ q h => zw_Cl0 c q h) (fun _ p q hp h => zw_Cl1 c p q hp h) ?_ ?_ ?_ z
    · intro _ q h
      show zr_G _ _ 16 q
      rw [zw_G16, e1]
      exact (zw_G16 q).mp h
    · intro _ p q hp h
      have hp' : p ≠ 16 := by have := c.2.2.2 p hp; omega
      show zr_G _ _ p q
      rw [zw_Gn hp']
      have h' := (zw_Gn hp' q).mp h
      exact ⟨h'.1, by rw [e4 p hp]; exact h'.2⟩
    · intro q c hq h
      exact ⟨h.1, h.2.1, by rw [e5 q hq]; exact h.2.2⟩
  · unfold zl_D at d ⊢
    rw [e2, e3]
    exact d
/-- a node over one child: positions -/
theorem zl_P1 {SZ SZ' : Nat → Nat} {a r p : Nat} (hr : r < 16) (e : a + 1 = r) (hs : SZ' r = 1 + SZ a) (h1 : SZ a ≤ r) : zl_P SZ' r p ↔ zl_P SZ a p ∨ p = r := by
  unfold zl_P
  rw [hs]
  omega
theorem zl_copy {N : Nat} {LG LG' SZ SZ' NU FI LA FO LB NU' FI' LA' FO' LB' : Nat → Nat} {s a r : Nat} (h : zl_A N LG SZ NU FI LA FO LB s a) (hr : r < 16) (e : a + 1 = r) (hs : SZ' r = 1 + SZ a) (hz : SZ a ≤ r)
    (e1 : FI' (s * 16 + r) = FI (s * 16 + a)) (e2 : LA' (s * 16 + r) = LA (s * 16 + a)) (e3 : NU' (s * 16 + r) = NU (s * 16 + a))
    (e4 : ∀ p, zl_P SZ a p → FO' (s * 16 + p) = FO (s * 16 + p)) (e4' : FO' (s * 16 + r) = 0) (e5 : ∀ p, zl_P SZ a p → LB' (s * 16 + p) = LB (s * 16 + p))
    (e6 : ∀ w, 1 ≤ w → w < N → zy_h LG' r s w = zy_h LG a s w) : zl_A N LG' SZ' NU' FI' LA' FO' LB' s r := by
  have eP := fun p => zl_P1 (p := p) hr e hs hz
  have c := h.1
  have c' : zw_Cl (zx_b (FI' (s * 16 + r))) (zl_fo FO' s) (zx_b (LA' (s * 16 + r))) (zl_P SZ a) := by
    rw [e1, e2]
    refine ⟨c.1, fun p q hp hq => c.2.1 p q hp ⟨hq.1, ?_⟩, c.2.2.1, c.2.2.2⟩
    rw [← e4 p hp]
    exact hq.2
  refine ⟨⟨fun q hq => (eP q).mpr (Or.inl (c'.1 q hq)), fun p q hp hq => ?_, fun q hq => (eP q).mpr (Or.inl (c'.2.2.1 q hq)), fun q hq => hq.2.2⟩, fun w w1 w2 => ?_⟩
  · rcases (eP p).mp hp with z | z
    · exact (eP q).mpr (Or.inl (c'.2.1 p q z hq))
    · subst z
      have := hq.2
      rw [e4'] at this
      exact absurd this (zl_b0 q)
  · rw [e6 w w1 w2, ← h.2 w w1 w2]
    constructor
    · exact zl_cgL2 c' e1.symm e2.symm e3.symm (fun p hp => (e4 p hp).symm) (fun p hp => (e5 p hp).symm) w
    · exact zl_cgL2 c e1 e2 e3 e4 e5 w
def zy_fe (LG : Nat → Nat) (a i : Nat) : Nat := if i = 513 ∨ zy_h LG a 0 i = true then 1 else 0
theorem zy_hb {LG : Nat → Nat} {a s i : Nat} (h : zy_h LG a s i = true) : 1 ≤ i ∧ i < 512 := by
  unfold zy_h at h
  rw [decide_eq_true_iff] at h
  exact ⟨h.1, h.2.1⟩
theorem zi_erase {NL L US d w : Nat} {RT KD AG LF SZ LB NU FI LA FO SC LG WY : Nat → Nat} (I : zi_Inv NL L US (d + 1) RT KD AG LF SZ LB NU FI LA FO SC LG WY) (hU : US < NL) (hw1 : 1 ≤ w) (hw2 : w < 2 ^ (L + 1)) :
    zi_Inv NL L (US + 1) (d + 1) (za_u RT d US) (za_u KD US 2) (za_u AG US w) (za_u LF US (RT d)) (za_u SZ US (1 + SZ (RT d))) (za_u (za_u LB US 0) (US + 16) 0)
      (za_u (za_u NU US (NU (RT d))) (16 + US) 1) (za_u (za_u FI US (FI (RT d))) (16 + US) 0) (za_u (za_u LA US (LA (RT d))) (16 + US) 0) (za_u (za_u FO US 0) (US + 16) 0) (za_u SC US (RT d)) (zy_lp LG (zy_fp WY (zy_fe LG (RT d)) 1024) US 1024) (zy_fp WY (zy_fe LG (RT d)) 1024) := by
  have hNL : NL ≤ 16 := I.1.2.1
  have hL2 : 2 ≤ L := I.1.2.2.1
  obtain ⟨bLB, bNU, bFI, bLA, bFO⟩ := I.2.2.2.2.1
  obtain ⟨t1, t2, t3⟩ := zi_top I.2.1
  have hsz := zt_sz (I.2.2.1 (RT d) (by omega))
  have eS : 1 + (US - zi_S RT SZ d) = 1 + SZ (RT d) := by omega
  have p9 : 2 ^ (L + 1) ≤ 2 ^ 9 := za_p2 (by have := I.1.2.2.2.1; omega)
  have p3 : 2 ^ 3 ≤ 2 ^ (L + 1) := za_p2 (by omega)
  have hf : ∀ i, zy_fe LG (RT d) i < 2 := fun i => by unfold zy_fe; split <;> omega
  have bW : ∀ i, zy_fp WY (zy_fe LG (RT d)) 1024 i < 65536 := zy_fpb I.2.2.2.2.2.1.2 (fun j => by have := hf j; omega)
  have w0 : ∀ v, 1 ≤ v → v < 512 → (zy_fp WY (zy_fe LG (RT d)) 1024 (0 * 512 + v) ≠ 0 ↔ zy_h LG (RT d) 0 v = true) := by
    intro v v1 v2
    rw [zy_fpg (by omega), Nat.zero_mul, Nat.zero_add]
    unfold zy_fe
    split
    · rename_i c
      exact ⟨fun _ => c.elim (fun z => by omega) id, fun _ => by decide⟩
    · rename_i c
      exact ⟨fun q => absurd rfl q, fun q => absurd (Or.inr q) c⟩
  have w1 : ∀ v, 1 ≤ v → v < 512 → (zy_fp WY (zy_fe LG (RT d)) 1024 (1 * 512 + v) ≠ 0 ↔ v = 1) := by
    intro v v1 v2
    rw [zy_fpg (by omega)]
    unfold zy_fe
    split
    · rename_i c
      refine ⟨fun _ => ?_, fun _ => by decide⟩
      rcases c with z | z
      · omega
      · have := zy_hb z
        omega
    · rename_i c
      exact ⟨fun q => absurd rfl q, fun q => absurd (Or.inl (by omega)) c⟩
  have A0 := I.2.2.2.1 d (by omega) 0 (by omega)
  have A1 := I.2.2.2.1 d (by omega) 1 (by omega)
  have e1 : US - 1 = RT d := by omega
  have key := zi_add (k := d) (kk := 2) (aa := w) (ll := RT d) (sc := RT d)
    (LB' := za_u (za_u LB US 0) (US + 16) 0)
    (NU' := za_u (za_u NU US (NU (RT d))) (16 + US) 1)
    (FI' := za_u (za_u FI US (FI (RT d))) (16 + US) 0)
    (LA' := za_u (za_u LA US (LA (RT d))) (16 + US) 0)
    (FO' := za_u (za_u FO US 0) (US + 16) 0) (WY' := zy_fp WY (zy_fe LG (RT d)) 1024) I hU (by omega)
    ⟨za_ule (za_ule bLB (by omega)) (by omega), za_ule (za_ule bNU (bNU _)) (by omega), za_ule (za_ule bFI (bFI _)) (by omega), za_ule (za_ule bLA (bLA _)) (by omega), za_ule (za_ule bFO (by omega)) (by omega)⟩ bW
    (fun s hs p hp => by rw [za_un (by omega), za_un (by omega)])
    (fun s hs p hp => by rw [za_un (by omega), za_un (by omega)])
    (fun s hs p hp => by rw [za_un (by omega), za_un (by omega)])
    (fun s hs p hp => by rw [za_un (by omega), za_un (by omega)])
    (fun s hs p hp => by rw [za_un (by omega), za_un (by omega)])
    (by
      rw [eS]
      refine Or.inr (Or.inr (Or.inl ⟨za_us, ⟨by omega, by rw [za_us, e1], by rw [za_us, e1], by rw [za_us, za_un (by omega), e1], ?_, ?_⟩, by rw [za_us]; omega, by rw [za_us]; omega, ?_, ?_⟩))
      · rw [za_un (by omega), e1]; omega
      · rw [za_un (by omega), e1]; omega
      · intro v v1 v2
        rw [zy_lp_o (m := US - 1) (by omega) (by omega), e1]
        apply zt_bool
        rw [zy_lp_h (by omega) v1 (by omega)]
        exact w0 v v1 (by omega)
      · intro v v1 v2
        rw [zy_lp_h (by omega) v1 (by omega)]
        exact w1 v v1 (by omega))
    (by
      rw [eS]
      intro s hs
      rcases (show s = 0 ∨ s = 1 by omega) with rfl | rfl
      · refine zl_copy A0 (by omega) t1 za_us (by omega) ?_ ?_ ?_ (fun p hp => ?_) ?_ (fun p hp => ?_) (fun v v1 v2 => ?_)
        · rw [Nat.zero_mul, Nat.zero_add, Nat.zero_add, za_un (by omega), za_us]
        · rw [Nat.zero_mul, Nat.zero_add, Nat.zero_add, za_un (by omega), za_us]
        · rw [Nat.zero_mul, Nat.zero_add, Nat.zero_add, za_un (by omega), za_us]
        · have := hp.2.1
          rw [za_un (by omega), za_un (by omega)]
        · rw [Nat.zero_mul, Nat.zero_add, za_un (by omega), za_us]
        · have := hp.2.1
          rw [za_un (by omega), za_un (by omega)]
        · apply zt_bool
          rw [zy_lp_h (by omega) v1 (by omega)]
          exact w0 v v1 (by omega)
      · have eP := fun p => zl_P1 (SZ := SZ) (SZ' := za_u SZ US (1 + SZ (RT d))) (a := RT d) (r := US) (p := p) (by omega) t1 za_us (by omega)
        refine zl_eps (by rw [show 1 * 16 + US = 16 + US by omega]; exact za_us) (by rw [show 1 * 16 + US = 16 + US by omega]; exact za_us) (by rw [show 1 * 16 + US = 16 + US by omega, za_us]; decide) (fun p q hp hq => ?_) (fun v v1 v2 => ?_)
        · rcases (eP p).mp hp with z | z
          · refine (eP q).mpr (Or.inl (A1.1.2.1 p q z ⟨hq.1, ?_⟩))
            have h2 := hq.2
            have := z.2.1
            rw [za_un (by omega), za_un (by omega)] at h2
            exact h2
          · subst z
            have h2 := hq.2
            rw [show 1 * 16 + p = p + 16 by omega, za_us] at h2
            exact absurd h2 (zl_b0 q)
        · rw [zy_lp_h (by omega) v1 (by omega)]
          exact w1 v v1 (by omega))
    (by
      intro s hs v v1 v2
      rcases (show s = 0 ∨ s = 1 by omega) with rfl | rfl
      · refine Classical.byContradiction fun q => ?_
        have := (w0 v (by omega) v2).mp q
        rw [I.2.2.2.2.2.2.2 (RT d) (by omega) 0 (by omega) v v1 v2] at this
        cases this
      · refine Classical.byContradiction fun q => ?_
        have := (w1 v (by omega) v2).mp q
        omega)
  rw [eS] at key
  exact key
end
section
/-! erase, walked -/
section
variable {mn ml ct tp : Int32} {yr yk ya yf ys yz yl yw yn yv yo : Nat → Int32}
theorem zy_rep1 {post : Int32 → SY → Prop} {US d k a : Nat} {RT KD AG LF SC SZ WY LG : Nat → Nat} (h : zi_St US (d + 1) RT SZ) (hU : US < 16) (hW : ∀ i, WY i < 65536)
    (hp : post (nI (d + 1)) (mn, ml, nI (d + 1), tp, za_n (za_u RT d US), za_n (za_u KD US k), za_n (za_u AG US a), za_n (za_u LF US (RT d)), za_n (za_u SC US (RT d)), za_n (za_u SZ US (1 + SZ (RT d))), za_n (zy_lp LG WY US 1024), za_n WY, yn, yv, yo)) :
    wpY_replace post (mn, ml, nI (d + 1), tp, za_n RT, za_n KD, za_n AG, za_n LF, za_n SC, za_n SZ, za_n LG, za_n WY, yn, yv, yo) 1 (nI k) (nI a) := by
  have t := zi_top h
  have e0 : d + 1 - 1 = d := by omega
  have eS : 1 + (US - zi_S RT SZ d) = 1 + SZ (RT d) := by omega
  refine zy_rep (ops := 1) h hU (by omega) hW ?_
  rw [e0, eS]
  exact hp
theorem zy_rep2 {post : Int32 → SY → Prop} {US d k a : Nat} {RT KD AG LF SC SZ WY LG : Nat → Nat} (h : zi_St US (d + 2) RT SZ) (hU : US < 16) (hW : ∀ i, WY i < 65536)
    (hp : post (nI (d + 1)) (mn, ml, nI (d + 1), tp, za_n (za_u RT d US), za_n (za_u KD US k), za_n (za_u AG US a), za_n (za_u LF US (RT d)), za_n (za_u SC US (RT (d + 1))), za_n (za_u SZ US (1 + SZ (RT d) + SZ (RT (d + 1)))), za_n (zy_lp LG WY US 1024), za_n WY, yn, yv, yo)) :
    wpY_replace post (mn, ml, nI (d + 2), tp, za_n RT, za_n KD, za_n AG, za_n LF, za_n SC, za_n SZ, za_n LG, za_n WY, yn, yv, yo) 2 (nI k) (nI a) := by
  have t := zi_top2 h
  have e0 : d + 2 - 2 = d := by omega
  have e1 : d + 2 - 1 = d + 1 := by omega
  have eS : 1 + (US - zi_S RT SZ d) = 1 + SZ (RT d) + SZ (RT (d + 1)) := by omega
  refine zy_rep (ops := 2) h hU (by omega) hW ?_
  rw [e0, e1, eS]
  exact hp
theorem zy_era_l {post : Int32 → SY → Prop} {US d w : Nat} {RT KD AG LF SC SZ WY LG : Nat → Nat} (h : zi_St US (d + 1) RT SZ) (hU : US < 16) (hW : ∀ i, WY i < 65536) (hLG : ∀ i, LG i < 2)
    (hp : post (nI (d + 1)) (mn, ml, nI (d + 1), tp, za_n (za_u RT d US), za_n (za_u KD US 2), za_n (za_u AG US w), za_n (za_u LF US (RT d)), za_n (za_u SC US (RT d)), za_n (za_u SZ US (1 + SZ (RT d))), za_n (zy_lp LG (zy_fp WY (zy_fe LG (RT d)) 1024) US 1024), za_n (zy_fp WY (zy_fe LG (RT d)) 1024), yn, yv, yo)) :
    ∀ n i, i ≤ 1024 → 1024 - i < n → wY_erase_62 post (nI w) (nI (RT d)) mn ml (nI (d + 1)) tp n (nI i) (za_n RT) (za_n KD) (za_n AG) (za_n LF) (za_n SC) (za_n SZ) (za_n LG) (za_n (zy_fp WY (zy_fe LG (RT d)) i)) yn yv yo := by
  have hr := zi_rt h (show d < d + 1 by omega)
  intro n
  induction n with
  | zero => intro i a b; omega
  | succ n ih =>
    intro i a b
    simp only [wY_erase_62]
    refine za_br (za_le (a := 1024) (by omega) (by omega)) (fun z => ?_) (fun z => ?_)
    · have e : i = 1024 := by omega
      subst e
      exact zy_rep1 (k := 2) h hU (zy_fpb hW (fun j => by unfold zy_fe; split <;> omega)) hp
    have ii : vp_in (nI i) 1024 := vp_in_nI (by omega) (by omega)
    have nx := ih (i + 1) (by omega) (by omega)
    have up : ∀ v, zy_fe LG (RT d) i = v → (vp_in (nI i) 1024 ∧ ∀ x, x = upd (za_n (zy_fp WY (zy_fe LG (RT d)) i)) (nI i).toNatClampNeg (nI v) → ∀ y, y = nI i + 1 → wY_erase_62 post (nI w) (nI (RT d)) mn ml (nI (d + 1)) tp n y (za_n RT) (za_n KD) (za_n AG) (za_n LF) (za_n SC) (za_n SZ) (za_n LG) x yn yv yo) := by
      intro v ev
      refine ⟨ii, nm_r (e' := za_n (zy_fp WY (zy_fe LG (RT d)) (i + 1))) ?_ (nm_r (nI_1 i) nx)⟩
      rw [za_cl (by omega), za_upd, ← ev, zy_fpS]
    have q1 : nI i = 513 ↔ i = 513 := za_eq (b := 513) (by omega) (by omega)
    refine za_br q1 (fun e => up 1 (if_pos (Or.inl e))) (fun e => ?_)
    refine zy_has (s := 0) (by omega) (by omega) (by omega) hLG (za_brb (fun q => up 0 (if_neg (fun z => z.elim e (fun y => by rw [q] at y; cases y)))) (fun q => up 1 (if_pos (Or.inr q))))
/-- Y's erase, once the word is a code -/
theorem zy_eraC {post : Int32 → SY → Prop} {L : Nat} {x : Int32} (hL : L ≤ 8) (h : ¬ zi_code (2 ^ (L + 1)) x) (hp : post (-3) (mn, nI L, ct, tp, yr, yk, ya, yf, ys, yz, yl, yw, yn, yv, yo)) : wpY_erase post (mn, nI L, ct, tp, yr, yk, ya, yf, ys, yz, yl, yw, yn, yv, yo) x := by
  unfold wpY_erase
  exact zy_code hL (fun _ => br_t rfl hp) (fun w a b e => absurd ⟨w, a, b, e⟩ h)
theorem zy_era1 {post : Int32 → SY → Prop} {L w : Nat} (hL : L ≤ 8) (w1 : 1 ≤ w) (w2 : w < 2 ^ (L + 1)) (hp : post (-1) (mn, nI L, 0, tp, yr, yk, ya, yf, ys, yz, yl, yw, yn, yv, yo)) : wpY_erase post (mn, nI L, 0, tp, yr, yk, ya, yf, ys, yz, yl, yw, yn, yv, yo) (nI w) := by
  unfold wpY_erase
  exact zy_code hL (fun h => absurd ⟨w, w1, w2, rfl⟩ h) (fun _ _ _ _ => br_f (by decide) (br_f (by decide) hp))
theorem zy_era2 {post : Int32 → SY → Prop} {NL L US d w : Nat} {RT SZ : Nat → Nat} (hL : L ≤ 8) (w1 : 1 ≤ w) (w2 : w < 2 ^ (L + 1)) (hs : zi_St US (d + 1) RT SZ) (hU : US ≤ 16) (hN : NL ≤ US) (hp : post (-2) (nI NL, nI L, nI (d + 1), tp, za_n RT, yk, ya, yf, ys, za_n SZ, yl, yw, yn, yv, yo)) : wpY_erase post (nI NL, nI L, nI (d + 1), tp, za_n RT, yk, ya, yf, ys, za_n SZ, yl, yw, yn, yv, yo) (nI w) := by
  have hD := zi_D hs
  unfold wpY_erase
  exact zy_code hL (fun h => absurd ⟨w, w1, w2, rfl⟩ h) (fun _ _ _ _ => br_f (by decide) (br_t ((za_le (a := 1) (by omega) (by omega)).mpr (by omega)) (zy_tot hs hU (br_f (fun y => by have := (za_lt (by omega) (by omega)).mp y; omega) hp))))
theorem zy_era4 {post : Int32 → SY → Prop} {NL L US d w : Nat} {RT SZ LG : Nat → Nat} (hL : L ≤ 8) (w1 : 1 ≤ w) (w2 : w < 2 ^ (L + 1)) (hs : zi_St US (d + 1) RT SZ) (hU : US < NL) (hN : NL ≤ 16) (hLG : ∀ i, LG i < 2)
    (h0 : zy_h LG (RT d) 0 w = false → post (-4) (nI NL, nI L, nI (d + 1), tp, za_n RT, yk, ya, yf, ys, za_n SZ, za_n LG, yw, yn, yv, yo))
    (h1 : zy_h LG (RT d) 0 w = true → ∃ n62 : Nat, wY_erase_62 post (nI w) (nI (RT d)) (nI NL) (nI L) (nI (d + 1)) tp n62 0 (za_n RT) yk ya yf ys (za_n SZ) (za_n LG) yw yn yv yo) :
    wpY_erase post (nI NL, nI L, nI (d + 1), tp, za_n RT, yk, ya, yf, ys, za_n SZ, za_n LG, yw, yn, yv, yo) (nI w) := by
  have hD := zi_D hs
  have p9 : 2 ^ (L + 1) ≤ 2 ^ 9 := za_p2 (by omega)
  have t := zi_top hs
  unfold wpY_erase
  refine zy_code hL (fun h => absurd ⟨w, w1, w2, rfl⟩ h) (fun _ _ _ _ => br_f (by decide) (br_t ((za_le (a := 1) (by omega) (by omega)).mpr (by omega)) (zy_tot hs (by omega) (br_t ((za_lt (by omega) (by omega)).mpr hU) ?_))))
  rw [nI_pred, za_cl (show d < 2147483648 by omega)]
  refine ⟨vp_in_nI (by omega) (by omega), nm_e ?_⟩
  exact zy_has (s := 0) (by omega) (by omega) (by omega) hLG (za_brb h0 h1)
end
section
theorem zx_erase {post : Int32 → SX → Prop} {NL L US D : Nat} {RT KD AG LF SZ LB NU FI LA FO SC LG WY BE NE EN WD LN : Nat → Nat} {tk ot : Int32} {tn tv te ts tz : Nat → Int32} (I : zi_Inv NL L US D RT KD AG LF SZ LB NU FI LA FO SC LG WY) {x : Int32}
    (h3 : ¬ zi_code (2 ^ (L + 1)) x → post (-3) (0, 1, 2, 3, 4, 5, 6, nI NL, nI L, nI US, nI D, tk, ot, za_n RT, za_n KD, za_n AG, za_n LF, za_n SZ, za_n LB, za_n NU, za_n FI, za_n LA, za_n FO, za_n BE, za_n NE, za_n EN, za_n WD, za_n LN, tn, tv, te, ts, tz))
    (h1 : ∀ w, 1 ≤ w → w < 2 ^ (L + 1) → x = nI w → D = 0 → post (-1) (0, 1, 2, 3, 4, 5, 6, nI NL, nI L, nI US, nI D, tk, ot, za_n RT, za_n KD, za_n AG, za_n LF, za_n SZ, za_n LB, za_n NU, za_n FI, za_n LA, za_n FO, za_n BE, za_n NE, za_n EN, za_n WD, za_n LN, tn, tv, te, ts, tz))
    (h2 : ∀ w, 1 ≤ w → w < 2 ^ (L + 1) → x = nI w → ∀ d, D = d + 1 → NL ≤ US → post (-2) (0, 1, 2, 3, 4, 5, 6, nI NL, nI L, nI US, nI D, tk, ot, za_n RT, za_n KD, za_n AG, za_n LF, za_n SZ, za_n LB, za_n NU, za_n FI, za_n LA, za_n FO, za_n BE, za_n NE, za_n EN, za_n WD, za_n LN, tn, tv, te, ts, tz))
    (h4 : ∀ w, 1 ≤ w → w < 2 ^ (L + 1) → x = nI w → ∀ d, D = d + 1 → US < NL → zy_h LG (RT d) 0 w = false → ∀ EN WD LN : Nat → Nat, post (-4) (0, 1, 2, 3, 4, 5, 6, nI NL, nI L, nI US, nI D, tk, ot, za_n RT, za_n KD, za_n AG, za_n LF, za_n SZ, za_n LB, za_n NU, za_n FI, za_n LA, za_n FO, za_n BE, za_n NE, za_n EN, za_n WD, za_n LN, tn, tv, te, ts, tz))
    (h5 : ∀ w, 1 ≤ w → w < 2 ^ (L + 1) → x = nI w → ∀ d, D = d + 1 → US < NL → zy_h LG (RT d) 0 w = true → ∀ EN WD LN : Nat → Nat, post (nI (d + 1)) (0, 1, 2, 3, 4, 5, 6, nI NL, nI L, nI (US + 1), nI (d + 1), tk, ot, za_n (za_u RT d US), za_n (za_u KD US 2), za_n (za_u AG US w), za_n (za_u LF US (RT d)), za_n (za_u SZ US (1 + SZ (RT d))), za_n (za_u (za_u LB US 0) (US + 16) 0), za_n (za_u (za_u NU US (NU (RT d))) (16 + US) 1), za_n (za_u (za_u FI US (FI (RT d))) (16 + US) 0), za_n (za_u (za_u LA US (LA (RT d))) (16 + US) 0), za_n (za_u (za_u FO US 0) (US + 16) 0), za_n BE, za_n NE, za_n EN, za_n WD, za_n LN, tn, tv, te, ts, tz)) :
    wpX_erase post (0, 1, 2, 3, 4, 5, 6, nI NL, nI L, nI US, nI D, tk, ot, za_n RT, za_n KD, za_n AG, za_n LF, za_n SZ, za_n LB, za_n NU, za_n FI, za_n LA, za_n FO, za_n BE, za_n NE, za_n EN, za_n WD, za_n LN, tn, tv, te, ts, tz) x := by
  have hL : L ≤ 8 := I.1.2.2.2.1
  have hNL : NL ≤ 16 := I.1.2.1
  have hU : US ≤ NL := I.1.2.2.2.2
  have hD := zi_D I.2.1
  have p9 : 2 ^ (L + 1) ≤ 2 ^ 9 := za_p2 (by omega)
  unfold wpX_erase
  refine zx_code hL (fun h => br_t rfl (h3 h)) (fun w w1 w2 e => br_f (by decide) ?_)
  refine za_br (za_le (a := 1) (by omega) (by omega)) (fun hd => ?_) (fun hd => h1 w w1 w2 e (by omega))
  obtain ⟨d, rfl⟩ : ∃ d, D = d + 1 := ⟨D - 1, by omega⟩
  refine za_br (za_lt (by omega) (by omega)) (fun hu => ?_) (fun hu => h2 w w1 w2 e d rfl (by omega))
  have h4' := h4 w w1 w2 e d rfl hu
  have h5' := h5 w w1 w2 e d rfl hu
  clear h1 h2 h3 h4 h5
  subst e
  obtain ⟨t1, t2, t3⟩ := zi_top I.2.1
  have ed : nI (d + 1) - 1 = nI d := nI_pred d
  have cd : (nI d).toNatClampNeg = d := za_cl (by omega)
  have id' : vp_in (nI d) 16 := vp_in_nI (by omega) (by omega)
  rw [ed, cd]
  refine ⟨id', nm_e ?_⟩
  obtain ⟨len, l1, l2⟩ := zc_len w w1
  have ll : len ≤ L := by
    have := (Nat.pow_lt_pow_iff_right (show 1 < 2 by decide)).mp (Nat.lt_of_le_of_lt l1 w2)
    omega
  refine zx_match (s := 0) (LG := LG) (AG := AG) (SC := SC) (N := 2 ^ (L + 1)) (by omega) (by omega) (by omega) l1 l2 (za_p2 (by omega)) (fun n hn => I.2.2.1 n (by omega)) (fun EN' _ _ => ?_)
  refine za_brb (fun q => h4' q EN' _ _) (fun q => ?_)
  have ir : vp_in (nI (RT d)) 16 := vp_in_nI (by omega) (by omega)
  have ir2 : vp_in (nI (RT d)) 32 := vp_in_nI (by omega) (by omega)
  have cr : (nI (RT d)).toNatClampNeg = RT d := za_cl (by omega)
  have e1 : (1 : Int32) + nI (SZ (RT d)) = nI (1 + SZ (RT d)) := za_add 1 _
  rw [za_ap RT d, cr, za_ap SZ, e1]
  refine ⟨ir, zx_addn (k := 2) (by omega) ⟨ir2, ir2, ir2, ?_⟩⟩
  have bNU := I.2.2.2.2.1.2.1
  have e16 : (16 : Int32) + nI US = nI (16 + US) := za_add 16 US
  rw [e16]
  refine zx_setl (c := US) (b := NU (RT d)) (f := FI (RT d)) (l := LA (RT d)) (by omega) (bNU _) ?_
  refine zx_setl (c := 16 + US) (b := 1) (f := 0) (l := 0) (by omega) (by omega) ?_
  dsimp only
  rw [ed, cd]
  exact ⟨id', nm_r (za_upd RT d US) (h5' q EN' _ _)⟩
end
theorem i_vc_erase {k : Nat} {u : SX} {v : SY} (I : i_Rel k u v) (hk : k + 4 ≤ 2050) (v1 : Int32) : wpX_erase (fun r u' => wpY_erase (fun r' v' => r' = r ∧ i_Rel (k + 4) u' v') v v1) u v1 := by
  refine zi_el (P := fun u v => wpX_erase (fun r u' => wpY_erase (fun r' v' => r' = r ∧ i_Rel (k + 4) u' v') v v1) u v1) ?_ I
  intro NL L US D RT KD AG LF SZ LB NU FI LA FO SC LG WY BE NE EN WD LN tk ot tp tn tv te ts tz yn yv yo I
  have hL : L ≤ 8 := I.1.2.2.2.1
  have hNL : NL ≤ 16 := I.1.2.1
  have hU : US ≤ NL := I.1.2.2.2.2
  have bL := I.2.2.2.2.2.1.1
  have bW := I.2.2.2.2.2.1.2
  refine zx_erase I (fun h => zy_eraC hL h ⟨rfl, zi_mk I⟩) ?_ ?_ ?_ ?_
  · rintro w w1 w2 rfl rfl
    exact zy_era1 hL w1 w2 ⟨rfl, zi_mk I⟩
  · rintro w w1 w2 rfl d rfl hu
    exact zy_era2 hL w1 w2 I.2.1 (by omega) hu ⟨rfl, zi_mk I⟩
  · rintro w w1 w2 rfl d rfl hu q EN WD LN
    exact zy_era4 hL w1 w2 I.2.1 hu hNL bL (fun _ => ⟨rfl, zi_mk I⟩) (fun z => by rw [q] at z; cases z)
  · rintro w w1 w2 rfl d rfl hu q EN WD LN
    refine zy_era4 hL w1 w2 I.2.1 hu hNL bL (fun z => by rw [q] at z; cases z) (fun _ => Exists.intro 1025 ?_)
    have fin := fun (post : Int32 → SY → Prop) hp => zy_era_l (post := post) (w := w) (WY := WY) (LG := LG) (KD := KD) (AG := AG) (LF := LF) (SC := SC) (mn := nI NL) (ml := nI L) (tp := tp) (yn := yn) (yv := yv) (yo := yo) I.2.1 (by omega) bW bL hp 1025 0 (by omega) (by omega)
    rw [zy_fp0] at fin
    exact fin _ ⟨rfl, zi_mk (zi_erase I hu w1 w2)⟩
end
section
/-! the automaton of a node over two, or over one -/
def zl_z (FO : Nat → Nat) (i : Nat) : Nat → Nat := fun j => if j = i then 0 else FO j
theorem zl_nu {N : Nat} {LG SZ NU FI LA FO LB : Nat → Nat} {s x : Nat} (h : zl_A N LG SZ NU FI LA FO LB s x) (hN : 2 ≤ N) : NU (s * 16 + x) ≠ 0 ↔ zy_h LG x s 1 = true := by
  rw [← h.2 1 (by omega) (by omega)]
  exact zr_L1.symm
theorem zl_seqA {N : Nat} {LG LG' SZ SZ' NU NU' FI FI' LA LA' FO FO' LB LB' : Nat → Nat} {s x y r : Nat} (hN1 : 2 ≤ N) (hN : N ≤ 512) (hx : zl_A N LG SZ NU FI LA FO LB s x) (hy : zl_A N LG SZ NU FI LA FO LB s y)
    (nx : ∀ p, zl_P SZ x p → p ≠ r) (ny : ∀ p, zl_P SZ y p → p ≠ r) (eP : ∀ p, zl_P SZ' r p ↔ zl_P SZ x p ∨ zl_P SZ y p ∨ p = r) (dj : ∀ q, zl_P SZ x q → zl_P SZ y q → False)
    (eLB : ∀ p, p < 16 → p ≠ r → LB' (s * 16 + p) = LB (s * 16 + p))
    (eFO : ∀ p, p < 16 → FO' (s * 16 + p) = if p = r then 0 else if (LA (s * 16 + x)).testBit p = true then FO (s * 16 + p) ||| FI (s * 16 + y) else FO (s * 16 + p))
    (eFI : FI' (s * 16 + r) = if NU (s * 16 + x) = 0 then FI (s * 16 + x) else FI (s * 16 + x) ||| FI (s * 16 + y))
    (eLA : LA' (s * 16 + r) = if NU (s * 16 + y) = 0 then LA (s * 16 + y) else LA (s * 16 + x) ||| LA (s * 16 + y))
    (eNU : NU' (s * 16 + r) ≠ 0 ↔ NU (s * 16 + x) ≠ 0 ∧ NU (s * 16 + y) ≠ 0)
    (eLG : ∀ w, 1 ≤ w → w < N → (zy_h LG' r s w = true ↔ 1 ≤ zy_cat LG x y s w)) : zl_A N LG' SZ' NU' FI' LA' FO' LB' s r := by
  have hx1 : zl_A N LG SZ NU FI LA (zl_z FO (s * 16 + r)) LB' s x := zl_cgA hx rfl rfl rfl rfl (fun p hp => by
    have := nx p hp
    exact if_neg (by omega)) (fun p hp => eLB p hp.2.2 (nx p hp)) (fun _ => rfl)
  have hy1 : zl_A N LG SZ NU FI LA (zl_z FO (s * 16 + r)) LB' s y := zl_cgA hy rfl rfl rfl rfl (fun p hp => by
    have := ny p hp
    exact if_neg (by omega)) (fun p hp => eLB p hp.2.2 (ny p hp)) (fun _ => rfl)
  have hFO : ∀ p q, p < 16 → (zx_b (FO' (s * 16 + p)) q ↔ zx_b (zl_z FO (s * 16 + r) (s * 16 + p)) q ∨ (zx_b (LA (s * 16 + x)) p ∧ zx_b (FI (s * 16 + y)) q)) := by
    intro p q hp
    rw [eFO p hp]
    by_cases e : p = r
    · subst e
      rw [if_pos rfl]
      have ez : zl_z FO (s * 16 + p) (s * 16 + p) = 0 := if_pos rfl
      rw [ez]
      constructor
      · intro z
        exact absurd z (zl_b0 q)
      · rintro (z | z)
        · exact z
        · exact absurd rfl (nx p (hx.1.2.2.1 p z.1))
    · rw [if_neg e]
      have ez : zl_z FO (s * 16 + r) (s * 16 + p) = FO (s * 16 + p) := if_neg (by omega)
      rw [ez]
      by_cases c : (LA (s * 16 + x)).testBit p = true
      · rw [if_pos c, zl_bor]
        exact ⟨fun z => z.imp id (fun z => ⟨⟨hp, c⟩, z⟩), fun z => z.imp id (fun z => z.2)⟩
      · rw [if_neg c]
        exact ⟨Or.inl, fun z => z.elim id (fun z => absurd z.1.2 c)⟩
  have hFI : ∀ q, zx_b (FI' (s * 16 + r)) q ↔ zx_b (FI (s * 16 + x)) q ∨ zx_b (if NU (s * 16 + x) = 0 then 0 else FI (s * 16 + y)) q := by
    intro q
    rw [eFI]
    by_cases c : NU (s * 16 + x) = 0
    · rw [if_pos c, if_pos c]
      exact ⟨Or.inl, fun z => z.elim id (fun z => absurd z (zl_b0 q))⟩
    · rw [if_neg c, if_neg c, zl_bor]
  refine zl_new (FO := zl_z FO (s * 16 + r)) (W := zy_cat LG x y s) hFI eLA hFO (fun w h2 hw => zl_catC hN hx1 hy1 dj rfl rfl h2 hw) ?_ eLG ⟨?_, ?_, ?_, fun q hq => hq.2.2⟩
  · rw [eNU, zl_nu hx hN1, zl_nu hy hN1]
    unfold zy_cat
    rw [zm_sum1]
    constructor
    · rintro ⟨a, b⟩
      refine ⟨0, by omega, ?_⟩
      unfold zy_cw
      rw [Nat.pow_zero, Nat.div_one, zc_tl0, a, b]
      decide
    · rintro ⟨k, hk, h⟩
      unfold zy_cw at h
      rcases Nat.eq_zero_or_pos k with e | e
      · subst e
        rw [Nat.pow_zero, Nat.div_one, zc_tl0] at h
        cases c1 : zy_h LG x s 1 <;> cases c2 : zy_h LG y s 1 <;> rw [c1, c2] at h <;> first | exact absurd h (by decide) | exact ⟨rfl, rfl⟩
      · have e0 : 1 / 2 ^ k = 0 := by
          have : 2 ^ 1 ≤ 2 ^ k := za_p2 e
          exact Nat.div_eq_of_lt (by omega)
        rw [e0, zy_h0, Bool.false_and] at h
        exact absurd h (by decide)
  · intro q hq
    rcases (hFI q).mp hq with z | z
    · exact (eP q).mpr (Or.inl (hx.1.1 q z))
    · by_cases c : NU (s * 16 + x) = 0
      · rw [if_pos c] at z
        exact absurd z (zl_b0 q)
      · rw [if_neg c] at z
        exact (eP q).mpr (Or.inr (Or.inl (hy.1.1 q z)))
  · intro p q hp hq
    rcases (hFO p q hq.1).mp hq.2 with z | z
    · rcases (eP p).mp hp with y1 | y1 | y1
      · exact (eP q).mpr (Or.inl (hx1.1.2.1 p q y1 ⟨hq.1, z⟩))
      · exact (eP q).mpr (Or.inr (Or.inl (hy1.1.2.1 p q y1 ⟨hq.1, z⟩)))
      · subst y1
        have ez : zl_z FO (s * 16 + p) (s * 16 + p) = 0 := if_pos rfl
        rw [ez] at z
        exact absurd z (zl_b0 q)
    · exact (eP q).mpr (Or.inr (Or.inl (hy.1.1 q z.2)))
  · intro q hq
    rw [eLA] at hq
    by_cases c : NU (s * 16 + y) = 0
    · rw [if_pos c] at hq
      exact (eP q).mpr (Or.inr (Or.inl (hy.1.2.2.1 q hq)))
    · rw [if_neg c, zl_bor] at hq
      rcases hq with z | z
      · exact (eP q).mpr (Or.inl (hx.1.2.2.1 q z))
      · exact (eP q).mpr (Or.inr (Or.inl (hy.1.2.2.1 q z)))
theorem zl_uniA {N : Nat} {LG LG' SZ SZ' NU NU' FI FI' LA LA' FO FO' LB LB' : Nat → Nat} {s x y r : Nat} (hN1 : 2 ≤ N) (hx : zl_A N LG SZ NU FI LA FO LB s x) (hy : zl_A N LG SZ NU FI LA FO LB s y)
    (nx : ∀ p, zl_P SZ x p → p ≠ r) (ny : ∀ p, zl_P SZ y p → p ≠ r) (eP : ∀ p, zl_P SZ' r p ↔ zl_P SZ x p ∨ zl_P SZ y p ∨ p = r) (dj : ∀ q, zl_P SZ x q → zl_P SZ y q → False)
    (eLB : ∀ p, p < 16 → p ≠ r → LB' (s * 16 + p) = LB (s * 16 + p))
    (eFO : ∀ p, p < 16 → FO' (s * 16 + p) = if p = r then 0 else FO (s * 16 + p))
    (eFI : FI' (s * 16 + r) = FI (s * 16 + x) ||| FI (s * 16 + y))
    (eLA : LA' (s * 16 + r) = LA (s * 16 + x) ||| LA (s * 16 + y))
    (eNU : NU' (s * 16 + r) ≠ 0 ↔ NU (s * 16 + x) ≠ 0 ∨ NU (s * 16 + y) ≠ 0)
    (eLG : ∀ w, 1 ≤ w → w < N → (zy_h LG' r s w = true ↔ 1 ≤ zy_uni LG x y s w)) : zl_A N LG' SZ' NU' FI' LA' FO' LB' s r := by
  have hx1 : zl_A N LG SZ NU FI LA (zl_z FO (s * 16 + r)) LB' s x := zl_cgA hx rfl rfl rfl rfl (fun p hp => by
    have := nx p hp
    exact if_neg (by omega)) (fun p hp => eLB p hp.2.2 (nx p hp)) (fun _ => rfl)
  have hy1 : zl_A N LG SZ NU FI LA (zl_z FO (s * 16 + r)) LB' s y := zl_cgA hy rfl rfl rfl rfl (fun p hp => by
    have := ny p hp
    exact if_neg (by omega)) (fun p hp => eLB p hp.2.2 (ny p hp)) (fun _ => rfl)
  have hFO : ∀ p q, p < 16 → (zx_b (FO' (s * 16 + p)) q ↔ zx_b (zl_z FO (s * 16 + r) (s * 16 + p)) q ∨ (zx_b 0 p ∧ zx_b 0 q)) := by
    intro p q hp
    have ez : FO' (s * 16 + p) = zl_z FO (s * 16 + r) (s * 16 + p) := by
      rw [eFO p hp]
      unfold zl_z
      by_cases e : p = r
      · rw [if_pos e, if_pos (by omega)]
      · rw [if_neg e, if_neg (by omega)]
    rw [ez]
    exact ⟨Or.inl, fun z => z.elim id (fun z => absurd z.1 (zl_b0 p))⟩
  have hFI : ∀ q, zx_b (FI' (s * 16 + r)) q ↔ zx_b (FI (s * 16 + x)) q ∨ zx_b (FI (s * 16 + y)) q := by
    intro q
    rw [eFI, zl_bor]
  refine zl_new (FO := zl_z FO (s * 16 + r)) (W := zy_uni LG x y s) hFI eLA hFO (fun w h2 hw => zl_uniC hx1 hy1 dj h2 hw) ?_ eLG ⟨?_, ?_, ?_, fun q hq => hq.2.2⟩
  · rw [eNU, zl_nu hx hN1, zl_nu hy hN1]
    have eu : zy_uni LG x y s 1 = 0 + (zy_h LG x s 1).toNat + (zy_h LG y s 1).toNat := rfl
    rw [eu]
    cases zy_h LG x s 1 <;> cases zy_h LG y s 1 <;> decide
  · intro q hq
    rcases (hFI q).mp hq with z | z
    · exact (eP q).mpr (Or.inl (hx.1.1 q z))
    · exact (eP q).mpr (Or.inr (Or.inl (hy.1.1 q z)))
  · intro p q hp hq
    rcases (hFO p q hq.1).mp hq.2 with z | z
    · rcases (eP p).mp hp with y1 | y1 | y1
      · exact (eP q).mpr (Or.inl (hx1.1.2.1 p q y1 ⟨hq.1, z⟩))
      · exact (eP q).mpr (Or.inr (Or.inl (hy1.1.2.1 p q y1 ⟨hq.1, z⟩)))
      · subst y1
        have ez : zl_z FO (s * 16 + p) (s * 16 + p) = 0 := if_pos rfl
        rw [ez] at z
        exact absurd z (zl_b0 q)
    · exact absurd z.1 (zl_b0 p)
  · intro q hq
    rw [eLA, zl_bor] at hq
    rcases hq with z | z
    · exact (eP q).mpr (Or.inl (hx.1.2.2.1 q z))
    · exact (eP q).mpr (Or.inr (Or.inl (hy.1.2.2.1 q z)))
theorem zl_staA {N : Nat} {LG LG' SZ SZ' NU NU' FI FI' LA LA' FO FO' LB LB' : Nat → Nat} {s x r : Nat} (hN : N ≤ 512) (hx : zl_A N LG SZ NU FI LA FO LB s x) (h0 : NU (s * 16 + x) = 0) (h1 : zy_h LG x s 1 = false)
    (nx : ∀ p, zl_P SZ x p → p ≠ r) (eP : ∀ p, zl_P SZ' r p ↔ zl_P SZ x p ∨ p = r)
    (eLB : ∀ p, p < 16 → p ≠ r → LB' (s * 16 + p) = LB (s * 16 + p))
    (eFO : ∀ p, p < 16 → FO' (s * 16 + p) = if p = r then 0 else if (LA (s * 16 + x)).testBit p = true then FO (s * 16 + p) ||| FI (s * 16 + x) else FO (s * 16 + p))
    (eFI : FI' (s * 16 + r) = FI (s * 16 + x)) (eLA : LA' (s * 16 + r) = LA (s * 16 + x)) (eNU : NU' (s * 16 + r) ≠ 0)
    (eLG : ∀ w, 1 ≤ w → w < N → (zy_h LG' r s w = true ↔ 1 ≤ zy_sta LG x s w)) : zl_A N LG' SZ' NU' FI' LA' FO' LB' s r := by
  have hx1 : zl_A N LG SZ NU FI LA (zl_z FO (s * 16 + r)) LB' s x := zl_cgA hx rfl rfl rfl rfl (fun p hp => by
    have := nx p hp
    exact if_neg (by omega)) (fun p hp => eLB p hp.2.2 (nx p hp)) (fun _ => rfl)
  have hFO : ∀ p q, p < 16 → (zx_b (FO' (s * 16 + p)) q ↔ zx_b (zl_z FO (s * 16 + r) (s * 16 + p)) q ∨ (zx_b (LA (s * 16 + x)) p ∧ zx_b (FI (s * 16 + x)) q)) := by
    intro p q hp
    rw [eFO p hp]
    by_cases e : p = r
    · subst e
      rw [if_pos rfl]
      have ez : zl_z FO (s * 16 + p) (s * 16 + p) = 0 := if_pos rfl
      rw [ez]
      constructor
      · intro z
        exact absurd z (zl_b0 q)
      · rintro (z | z)
        · exact z
        · exact absurd rfl (nx p (hx.1.2.2.1 p z.1))
    · rw [if_neg e]
      have ez : zl_z FO (s * 16 + r) (s * 16 + p) = FO (s * 16 + p) := if_neg (by omega)
      rw [ez]
      by_cases c : (LA (s * 16 + x)).testBit p = true
      · rw [if_pos c, zl_bor]
        exact ⟨fun z => z.imp id (fun z => ⟨⟨hp, c⟩, z⟩), fun z => z.imp id (fun z => z.2)⟩
      · rw [if_neg c]
        exact ⟨Or.inl, fun z => z.elim id (fun z => absurd z.1.2 c)⟩
  have hFI : ∀ q, zx_b (FI' (s * 16 + r)) q ↔ zx_b (FI (s * 16 + x)) q ∨ zx_b 0 q := by
    intro q
    rw [eFI]
    exact ⟨Or.inl, fun z => z.elim id (fun z => absurd z (zl_b0 q))⟩
  refine zl_new (FO := zl_z FO (s * 16 + r)) (W := zy_sta LG x s) hFI eLA hFO (fun w h2 hw => zl_staC hN hx1 h0 (zy_sta1 LG x s) (fun w h2 hw => zy_staS h1 h2 (by omega)) w h2 hw) ?_ eLG ⟨?_, ?_, ?_, fun q hq => hq.2.2⟩
  · rw [zy_sta1]
    exact ⟨fun _ => Nat.le_refl 1, fun _ => eNU⟩
  · intro q hq
    rw [eFI] at hq
    exact (eP q).mpr (Or.inl (hx.1.1 q hq))
  · intro p q hp hq
    rcases (hFO p q hq.1).mp hq.2 with z | z
    · rcases (eP p).mp hp with y1 | y1
      · exact (eP q).mpr (Or.inl (hx1.1.2.1 p q y1 ⟨hq.1, z⟩))
      · subst y1
        have ez : zl_z FO (s * 16 + p) (s * 16 + p) = 0 := if_pos rfl
        rw [ez] at z
        exact absurd z (zl_b0 q)
    · exact (eP q).mpr (Or.inl (hx.1.1 q z.2))
  · intro q hq
    rw [eLA] at hq
    exact (eP q).mpr (Or.inl (hx.1.2.2.1 q hq))
end
section
/-! the invariant behind concat, swap, union, star -/
def zx_sN (NU : Nat → Nat) (s n x y : Nat) : Nat → Nat := za_u NU (s * 16 + n) (if NU (s * 16 + x) = 0 then 0 else if NU (s * 16 + y) = 0 then 0 else 1)
def zx_sF (NU FI : Nat → Nat) (s n x y : Nat) : Nat → Nat := za_u FI (s * 16 + n) (if NU (s * 16 + x) = 0 then FI (s * 16 + x) else FI (s * 16 + x) ||| FI (s * 16 + y))
def zx_sL (NU LA : Nat → Nat) (s n x y : Nat) : Nat → Nat := za_u LA (s * 16 + n) (if NU (s * 16 + y) = 0 then LA (s * 16 + y) else LA (s * 16 + x) ||| LA (s * 16 + y))
theorem zx_sNb {NU : Nat → Nat} {s n x y : Nat} (h : ∀ i, NU i < 2) : ∀ i, zx_sN NU s n x y i < 2 := by
  apply za_ule h
  split
  · omega
  · split <;> omega
theorem zx_sFb {NU FI : Nat → Nat} {s n x y : Nat} (h : ∀ i, FI i < 65536) : ∀ i, zx_sF NU FI s n x y i < 65536 := by
  apply za_ule h
  split
  · exact h _
  · exact za_or16 (h _) (h _)
theorem zx_sLb {NU LA : Nat → Nat} {s n x y : Nat} (h : ∀ i, LA i < 65536) : ∀ i, zx_sL NU LA s n x y i < 65536 := by
  apply za_ule h
  split
  · exact h _
  · exact za_or16 (h _) (h _)
theorem zx_lk_in {FO : Nat → Nat} {s F T p : Nat} (hp : p < 16) : zx_lk FO s F T (s * 16 + p) = if F.testBit p = true then FO (s * 16 + p) ||| T else FO (s * 16 + p) := by
  unfold zx_lk zx_lkp
  by_cases c : F.testBit p = true
  · rw [if_pos c, if_pos ⟨by omega, by omega, by rw [Nat.add_sub_cancel_left]; exact c⟩]
  · rw [if_neg c, if_neg (fun z => c (by have := z.2.2; rw [Nat.add_sub_cancel_left] at this; exact this))]
theorem zx_lk_out {FO : Nat → Nat} {s F T j : Nat} (h : j < s * 16 ∨ s * 16 + 16 ≤ j) : zx_lk FO s F T j = FO j := by
  unfold zx_lk zx_lkp
  rw [if_neg (by omega)]
theorem zx_lk_b {FO : Nat → Nat} {s F T : Nat} (h : ∀ i, FO i < 65536) (hT : T < 65536) (i : Nat) : zx_lk FO s F T i < 65536 := by
  unfold zx_lk zx_lkp
  split
  · exact za_or16 (h i) hT
  · exact h i
theorem zl_P2 {SZ SZ' : Nat → Nat} {a b r p : Nat} (hr : r < 16) (e1 : b + 1 = r) (e2 : a + SZ b + 1 = r) (hs : SZ' r = 1 + SZ a + SZ b) (h1 : SZ a ≤ a + 1) : zl_P SZ' r p ↔ zl_P SZ a p ∨ zl_P SZ b p ∨ p = r := by
  unfold zl_P
  rw [hs]
  omega
theorem zl_Pd {SZ : Nat → Nat} {a b r : Nat} (e1 : b + 1 = r) (e2 : a + SZ b + 1 = r) (q : Nat) (ha : zl_P SZ a q) (hb : zl_P SZ b q) : False := by
  unfold zl_P at ha hb
  omega
theorem zy_cat_ex {LG : Nat → Nat} {x y s w : Nat} (hw : w < 512) : 1 ≤ zy_cat LG x y s w ↔ ∃ k, zy_h LG x s (w / 2 ^ k) = true ∧ zy_h LG y s (zc_tl w k) = true := by
  unfold zy_cat
  rw [zm_sum1]
  constructor
  · rintro ⟨k, hk, h⟩
    refine ⟨k, ?_⟩
    unfold zy_cw at h
    cases c1 : zy_h LG x s (w / 2 ^ k) <;> cases c2 : zy_h LG y s (zc_tl w k) <;> rw [c1, c2] at h <;> first | exact absurd h (by decide) | exact ⟨rfl, rfl⟩
  · rintro ⟨k, a, b⟩
    refine ⟨k, ?_, ?_⟩
    · rcases Nat.lt_or_ge k 9 with z | z
      · exact z
      · have e : w / 2 ^ k = 0 := Nat.div_eq_of_lt (Nat.lt_of_lt_of_le hw (za_p2 z))
        rw [e, zy_h0] at a
        cases a
    · unfold zy_cw
      rw [a, b]
      decide
theorem zy_uni_ex {LG : Nat → Nat} {x y s w : Nat} : 1 ≤ zy_uni LG x y s w ↔ zy_h LG x s w = true ∨ zy_h LG y s w = true := by
  have eu : zy_uni LG x y s w = 0 + (zy_h LG x s w).toNat + (zy_h LG y s w).toNat := rfl
  rw [eu]
  cases zy_h LG x s w <;> cases zy_h LG y s w <;> decide
theorem zy_sta_ex {LG : Nat → Nat} {x s w : Nat} (h1 : zy_h LG x s 1 = false) (w1 : 1 ≤ w) (hw : w < 512) : 1 ≤ zy_sta LG x s w ↔ w = 1 ∨ ∃ k, zy_h LG x s (w / 2 ^ k) = true ∧ 1 ≤ zy_sta LG x s (zc_tl w k) := by
  rcases Nat.lt_or_ge w 2 with z | z
  · have e : w = 1 := by omega
    subst e
    rw [zy_sta1]
    exact ⟨fun _ => Or.inl rfl, fun _ => Nat.le_refl 1⟩
  · rw [zy_staS h1 z hw, zm_sum1]
    constructor
    · rintro ⟨k, hk, h⟩
      right
      unfold zy_sw at h
      by_cases c : zy_h LG x s (w / 2 ^ k) = true
      · rw [if_pos c] at h
        exact ⟨k, c, h⟩
      · rw [if_neg c] at h
        omega
    · rintro (e | ⟨k, a, b⟩)
      · omega
      · refine ⟨k, ?_, ?_⟩
        · rcases Nat.lt_or_ge k 9 with y | y
          · exact y
          · have e : w / 2 ^ k = 0 := Nat.div_eq_of_lt (Nat.lt_of_lt_of_le hw (za_p2 y))
            rw [e, zy_h0] at a
            cases a
        · unfold zy_sw
          rw [if_pos a]
          exact b
/-- both sides' counts written -/
def zy_w2 (WY : Nat → Nat) (N : Nat) (c0 c1 : Nat → Nat) : Nat → Nat := zy_wp (zy_wp WY 0 c0 N) 1 c1 N
theorem zy_w2g {WY c0 c1 : Nat → Nat} {N w : Nat} (hN : N ≤ 512) (h1 : 1 ≤ w) (h2 : w < N) : zy_w2 WY N c0 c1 (0 * 512 + w) = c0 w ∧ zy_w2 WY N c0 c1 (1 * 512 + w) = c1 w := by
  unfold zy_w2
  refine ⟨?_, zy_wpg h1 h2⟩
  have : zy_wp (zy_wp WY 0 c0 N) 1 c1 N (0 * 512 + w) = zy_wp WY 0 c0 N (0 * 512 + w) := if_neg (by omega)
  rw [this]
  exact zy_wpg h1 h2
theorem zy_w2z {WY c0 c1 : Nat → Nat} {N s w : Nat} (hs : s < 2) (hN : N ≤ 512) (h1 : N ≤ w) (h2 : w < 512) : zy_w2 WY N c0 c1 (s * 512 + w) = WY (s * 512 + w) := by
  unfold zy_w2 zy_wp
  rw [if_neg (by omega), if_neg (by omega)]
theorem zy_w2b {WY c0 c1 : Nat → Nat} {N : Nat} (hW : ∀ i, WY i < 65536) (h0 : ∀ w, 1 ≤ w → w < N → c0 w < 65536) (h1 : ∀ w, 1 ≤ w → w < N → c1 w < 65536) (i : Nat) : zy_w2 WY N c0 c1 i < 65536 := by
  unfold zy_w2 zy_wp
  split
  · exact h1 _ (by omega) (by omega)
  · split
    · exact h0 _ (by omega) (by omega)
    · exact hW i
theorem zi_join {NL L US d kk x y : Nat} {RT KD AG LF SZ LB NU FI LA FO SC LG WY : Nat → Nat} (I : zi_Inv NL L US (d + 2) RT KD AG LF SZ LB NU FI LA FO SC LG WY) (hU : US < NL)
    (hxy : (kk = 3 ∧ x = RT d ∧ y = RT (d + 1)) ∨ (kk = 4 ∧ x = RT (d + 1) ∧ y = RT d)) :
    zi_Inv NL L (US + 1) (d + 1) (za_u RT d US) (za_u KD US kk) (za_u AG US 0) (za_u LF US (RT d)) (za_u SZ US (1 + SZ (RT d) + SZ (RT (d + 1)))) (za_u (za_u LB US 0) (US + 16) 0)
      (zx_sN (zx_sN NU 0 US (RT d) (RT (d + 1))) 1 US x y) (zx_sF (zx_sN NU 0 US (RT d) (RT (d + 1))) (zx_sF NU FI 0 US (RT d) (RT (d + 1))) 1 US x y) (zx_sL (zx_sN NU 0 US (RT d) (RT (d + 1))) (zx_sL NU LA 0 US (RT d) (RT (d + 1))) 1 US x y)
      (zx_lk (zx_lk (za_u (za_u FO US 0) (US + 16) 0) 0 (LA (0 * 16 + RT d)) (FI (0 * 16 + RT (d + 1)))) 1 (zx_sL NU LA 0 US (RT d) (RT (d + 1)) (1 * 16 + x)) (zx_sF NU FI 0 US (RT d) (RT (d + 1)) (1 * 16 + y)))
      (za_u SC US (RT (d + 1))) (zy_lp LG (zy_w2 WY (2 ^ (L + 1)) (zy_cat LG (RT d) (RT (d + 1)) 0) (zy_cat LG x y 1)) US 1024) (zy_w2 WY (2 ^ (L + 1)) (zy_cat LG (RT d) (RT (d + 1)) 0) (zy_cat LG x y 1)) := by
  have hNL : NL ≤ 16 := I.1.2.1
  have hL2 : 2 ≤ L := I.1.2.2.1
  obtain ⟨bLB, bNU, bFI, bLA, bFO⟩ := I.2.2.2.2.1
  obtain ⟨t1, t2, t3, t4, t5⟩ := zi_top2 I.2.1
  have ha := zi_rt I.2.1 (show d < d + 2 by omega)
  have hsa := zt_sz (I.2.2.1 (RT d) ha)
  have eS : 1 + (US - zi_S RT SZ d) = 1 + SZ (RT d) + SZ (RT (d + 1)) := by omega
  have p9 : 2 ^ (L + 1) ≤ 2 ^ 9 := za_p2 (by have := I.1.2.2.2.1; omega)
  have p3 : 2 ^ 3 ≤ 2 ^ (L + 1) := za_p2 (by omega)
  have Aa := I.2.2.2.1 d (by omega)
  have Ab := I.2.2.2.1 (d + 1) (by omega)
  have hxr : x < US ∧ y < US := by omega
  have Ax : zl_A (2 ^ (L + 1)) LG SZ NU FI LA FO LB 1 x := by
    rcases hxy with ⟨_, e, _⟩ | ⟨_, e, _⟩ <;> rw [e]
    · exact Aa 1 (by omega)
    · exact Ab 1 (by omega)
  have Ay : zl_A (2 ^ (L + 1)) LG SZ NU FI LA FO LB 1 y := by
    rcases hxy with ⟨_, _, e⟩ | ⟨_, _, e⟩ <;> rw [e]
    · exact Ab 1 (by omega)
    · exact Aa 1 (by omega)
  have dj := fun q => zl_Pd (SZ := SZ) (a := RT d) (b := RT (d + 1)) (r := US) t1 t3 q
  have djx : ∀ q, zl_P SZ x q → zl_P SZ y q → False := by
    intro q h1 h2
    rcases hxy with ⟨_, e, e'⟩ | ⟨_, e, e'⟩
    · subst e e'; exact dj q h1 h2
    · subst e e'; exact dj q h2 h1
  have eP := fun p => zl_P2 (SZ := SZ) (SZ' := za_u SZ US (1 + SZ (RT d) + SZ (RT (d + 1)))) (a := RT d) (b := RT (d + 1)) (r := US) (p := p) (by omega) t1 t3 za_us hsa.2
  have ePx : ∀ p, zl_P (za_u SZ US (1 + SZ (RT d) + SZ (RT (d + 1)))) US p ↔ zl_P SZ x p ∨ zl_P SZ y p ∨ p = US := by
    intro p
    rcases hxy with ⟨_, e, e'⟩ | ⟨_, e, e'⟩
    · subst e e'; exact eP p
    · subst e e'
      rw [eP p]
      exact ⟨fun z => z.elim (fun z => Or.inr (Or.inl z)) (fun z => z.elim Or.inl (fun z => Or.inr (Or.inr z))), fun z => z.elim (fun z => Or.inr (Or.inl z)) (fun z => z.elim Or.inl (fun z => Or.inr (Or.inr z)))⟩
  have bN0 : ∀ i, zx_sN NU 0 US (RT d) (RT (d + 1)) i < 2 := zx_sNb bNU
  have bF0 : ∀ i, zx_sF NU FI 0 US (RT d) (RT (d + 1)) i < 65536 := zx_sFb bFI
  have bL0 : ∀ i, zx_sL NU LA 0 US (RT d) (RT (d + 1)) i < 65536 := zx_sLb bLA
  have nX : ∀ z, z < US → zx_sN NU 0 US (RT d) (RT (d + 1)) (1 * 16 + z) = NU (1 * 16 + z) := fun z hz => za_un (by omega)
  have fX : ∀ z, z < US → zx_sF NU FI 0 US (RT d) (RT (d + 1)) (1 * 16 + z) = FI (1 * 16 + z) := fun z hz => za_un (by omega)
  have lX : ∀ z, z < US → zx_sL NU LA 0 US (RT d) (RT (d + 1)) (1 * 16 + z) = LA (1 * 16 + z) := fun z hz => za_un (by omega)
  have g2 := fun w h1 h2 => zy_w2g (WY := WY) (c0 := zy_cat LG (RT d) (RT (d + 1)) 0) (c1 := zy_cat LG x y 1) (N := 2 ^ (L + 1)) (w := w) (by omega) h1 h2
  have LG0 : ∀ w, 1 ≤ w → w < 2 ^ (L + 1) → (zy_h (zy_lp LG (zy_w2 WY (2 ^ (L + 1)) (zy_cat LG (RT d) (RT (d + 1)) 0) (zy_cat LG x y 1)) US 1024) US 0 w = true ↔ 1 ≤ zy_cat LG (RT d) (RT (d + 1)) 0 w) := by
    intro w h1 h2
    rw [zy_lp_h (by omega) h1 (by omega), (g2 w h1 h2).1]
    omega
  have LG1 : ∀ w, 1 ≤ w → w < 2 ^ (L + 1) → (zy_h (zy_lp LG (zy_w2 WY (2 ^ (L + 1)) (zy_cat LG (RT d) (RT (d + 1)) 0) (zy_cat LG x y 1)) US 1024) US 1 w = true ↔ 1 ≤ zy_cat LG x y 1 w) := by
    intro w h1 h2
    rw [zy_lp_h (by omega) h1 (by omega), (g2 w h1 h2).2]
    omega
  have cat0 : zt_cat (2 ^ (L + 1)) (zy_lp LG (zy_w2 WY (2 ^ (L + 1)) (zy_cat LG (RT d) (RT (d + 1)) 0) (zy_cat LG x y 1)) US 1024) 0 US (RT d) (RT (d + 1)) := by
    intro w h1 h2
    rw [LG0 w h1 h2, zy_cat_ex (by omega)]
    constructor
    · rintro ⟨k, a, b⟩
      exact ⟨k, by rw [zy_lp_o (by omega) ha]; exact a, by rw [zy_lp_o (by omega) (by omega)]; exact b⟩
    · rintro ⟨k, a, b⟩
      rw [zy_lp_o (by omega) ha] at a
      rw [zy_lp_o (by omega) (by omega)] at b
      exact ⟨k, a, b⟩
  have cat1 : zt_cat (2 ^ (L + 1)) (zy_lp LG (zy_w2 WY (2 ^ (L + 1)) (zy_cat LG (RT d) (RT (d + 1)) 0) (zy_cat LG x y 1)) US 1024) 1 US x y := by
    intro w h1 h2
    rw [LG1 w h1 h2, zy_cat_ex (by omega)]
    constructor
    · rintro ⟨k, a, b⟩
      exact ⟨k, by rw [zy_lp_o (by omega) hxr.1]; exact a, by rw [zy_lp_o (by omega) hxr.2]; exact b⟩
    · rintro ⟨k, a, b⟩
      rw [zy_lp_o (by omega) hxr.1] at a
      rw [zy_lp_o (by omega) hxr.2] at b
      exact ⟨k, a, b⟩
  have e1 : US - 1 = RT (d + 1) := by omega
  have two : zt_two (za_u LF US (RT d)) (za_u SZ US (1 + SZ (RT d) + SZ (RT (d + 1)))) (za_u SC US (RT (d + 1))) US := by
    refine ⟨by omega, by rw [za_us, e1], ?_, ?_, ?_, ?_, ?_⟩
    · rw [za_us, za_un (by omega), e1]; omega
    · rw [za_us, za_us, za_un (by omega), za_un (by omega), e1]
    · rw [za_un (by omega), e1]; exact t2
    · rw [za_us, za_un (by omega)]; exact t4
    · rw [za_us, za_un (by omega)]; exact hsa.2
  have mS := zi_mono (RT := RT) (SZ := SZ) (show d ≤ d + 2 by omega)
  rw [← I.2.1.1] at mS
  have noF : ∀ s x, s < 2 → zl_C SZ FI LA FO s x → (∀ q, zl_P SZ x q → zi_S RT SZ d ≤ q) → ∀ p, p < zi_S RT SZ d → ¬ (LA (s * 16 + x)).testBit p = true := by
    intro s x hs c h p hp z
    have := h p (c.2.2.1 p ⟨by omega, z⟩)
    omega
  have lowa : ∀ q, zl_P SZ (RT d) q → zi_S RT SZ d ≤ q := by
    intro q h
    unfold zl_P at h
    omega
  have lowb : ∀ q, zl_P SZ (RT (d + 1)) q → zi_S RT SZ d ≤ q := by
    intro q h
    unfold zl_P at h
    omega
  have lowx : ∀ q, zl_P SZ x q → zi_S RT SZ d ≤ q := by
    rcases hxy with ⟨_, e, _⟩ | ⟨_, e, _⟩ <;> rw [e]
    · exact lowa
    · exact lowb
  have key := zi_add (k := d) (kk := kk) (aa := 0) (ll := RT d) (sc := RT (d + 1))
    (LB' := za_u (za_u LB US 0) (US + 16) 0)
    (NU' := zx_sN (zx_sN NU 0 US (RT d) (RT (d + 1))) 1 US x y)
    (FI' := zx_sF (zx_sN NU 0 US (RT d) (RT (d + 1))) (zx_sF NU FI 0 US (RT d) (RT (d + 1))) 1 US x y)
    (LA' := zx_sL (zx_sN NU 0 US (RT d) (RT (d + 1))) (zx_sL NU LA 0 US (RT d) (RT (d + 1))) 1 US x y)
    (FO' := zx_lk (zx_lk (za_u (za_u FO US 0) (US + 16) 0) 0 (LA (0 * 16 + RT d)) (FI (0 * 16 + RT (d + 1)))) 1 (zx_sL NU LA 0 US (RT d) (RT (d + 1)) (1 * 16 + x)) (zx_sF NU FI 0 US (RT d) (RT (d + 1)) (1 * 16 + y)))
    (WY' := zy_w2 WY (2 ^ (L + 1)) (zy_cat LG (RT d) (RT (d + 1)) 0) (zy_cat LG x y 1)) I hU (by omega)
    ⟨za_ule (za_ule bLB (by omega)) (by omega), zx_sNb bN0, zx_sFb bF0, zx_sLb bL0, zx_lk_b (zx_lk_b (za_ule (za_ule bFO (by omega)) (by omega)) (bFI _)) (bF0 _)⟩
    (zy_w2b I.2.2.2.2.2.1.2 (fun w _ _ => zy_catB _ _ _ _ _) (fun w _ _ => zy_catB _ _ _ _ _))
    (fun s hs p hp => by rw [za_un (by omega), za_un (by omega)])
    (fun s hs p hp => by unfold zx_sF; rw [za_un (by omega), za_un (by omega)])
    (fun s hs p hp => by unfold zx_sL; rw [za_un (by omega), za_un (by omega)])
    (fun s hs p hp => by unfold zx_sN; rw [za_un (by omega), za_un (by omega)])
    (fun s hs p hp => by
      rcases (show s = 0 ∨ s = 1 by omega) with rfl | rfl
      · rw [zx_lk_out (by omega), zx_lk_in (by omega), if_neg (noF 0 _ (by omega) (Aa 0 (by omega)).1 lowa p hp), za_un (by omega), za_un (by omega)]
      · rw [zx_lk_in (by omega), lX x hxr.1, if_neg (noF 1 _ (by omega) Ax.1 lowx p hp), zx_lk_out (by omega), za_un (by omega), za_un (by omega)])
    (by
      rw [eS]
      rcases hxy with ⟨ek, e, e'⟩ | ⟨ek, e, e'⟩
      · right; right; right; left
        refine ⟨by rw [za_us]; exact ek, two, ?_, ?_⟩
        · rw [za_us, e1]; exact cat0
        · rw [za_us, e1]; rw [e, e'] at cat1 ⊢; exact cat1
      · right; right; right; right; left
        refine ⟨by rw [za_us]; exact ek, two, ?_, ?_⟩
        · rw [za_us, e1]; exact cat0
        · rw [za_us, e1]; rw [e, e'] at cat1 ⊢; exact cat1)
    (by
      rw [eS]
      intro s hs
      rcases (show s = 0 ∨ s = 1 by omega) with rfl | rfl
      · refine zl_seqA (by omega) (by omega) (Aa 0 (by omega)) (Ab 0 (by omega)) (fun p hp => by have := hp.2.1; omega) (fun p hp => by have := hp.2.1; omega) eP dj ?_ ?_ ?_ ?_ ?_ LG0
        · intro p hp hn
          rw [za_un (by omega), za_un (by omega)]
        · intro p hp
          rw [zx_lk_out (by omega), zx_lk_in hp]
          by_cases e : p = US
          · subst e
            have hb : ¬ (LA (0 * 16 + RT d)).testBit p = true := fun z => by
              have := ((Aa 0 (by omega)).1.2.2.1 p ⟨hp, z⟩).2.1
              omega
            rw [if_pos rfl, if_neg hb, Nat.zero_mul, Nat.zero_add, za_un (by omega), za_us]
          · rw [if_neg e, za_un (by omega), za_un (by omega)]
        · unfold zx_sF
          rw [za_un (by omega), za_us]
        · unfold zx_sL
          rw [za_un (by omega), za_us]
        · unfold zx_sN
          rw [za_un (by omega), za_us]
          have u1 := bNU (0 * 16 + RT d)
          have u2 := bNU (0 * 16 + RT (d + 1))
          split
          · rename_i c
            exact ⟨fun z => absurd rfl z, fun z => absurd c z.1⟩
          · rename_i c
            split
            · rename_i c2
              exact ⟨fun z => absurd rfl z, fun z => absurd c2 z.2⟩
            · rename_i c2
              exact ⟨fun _ => ⟨c, c2⟩, fun _ => by decide⟩
      · refine zl_seqA (by omega) (by omega) Ax Ay (fun p hp => by have := hp.2.1; omega) (fun p hp => by have := hp.2.1; omega) ePx djx ?_ ?_ ?_ ?_ ?_ LG1
        · intro p hp hn
          rw [za_un (by omega), za_un (by omega)]
        · intro p hp
          rw [zx_lk_in hp, lX x hxr.1, fX y hxr.2, zx_lk_out (by omega)]
          by_cases e : p = US
          · subst e
            have hb : ¬ (LA (1 * 16 + x)).testBit p = true := fun z => by
              have := (Ax.1.2.2.1 p ⟨hp, z⟩).2.1
              omega
            rw [if_pos rfl, if_neg hb, show 1 * 16 + p = p + 16 by omega, za_us]
          · rw [if_neg e, za_un (by omega), za_un (by omega)]
        · rw [← nX x hxr.1, ← fX x hxr.1, ← fX y hxr.2]
          exact za_us
        · rw [← nX y hxr.2, ← lX x hxr.1, ← lX y hxr.2]
          exact za_us
        · rw [← nX x hxr.1, ← nX y hxr.2]
          have ez : zx_sN (zx_sN NU 0 US (RT d) (RT (d + 1))) 1 US x y (1 * 16 + US) = _ := za_us
          rw [ez]
          split
          · rename_i c
            exact ⟨fun z => absurd rfl z, fun z => absurd c z.1⟩
          · rename_i c
            split
            · rename_i c2
              exact ⟨fun z => absurd rfl z, fun z => absurd c2 z.2⟩
            · rename_i c2
              exact ⟨fun _ => ⟨c, c2⟩, fun _ => by decide⟩)
    (by
      intro s hs w h1 h2
      rw [zy_w2z hs (by omega) h1 h2]
      exact I.2.2.2.2.2.2.1 s hs w h1 h2)
  rw [eS] at key
  exact key
end
section
/-! the invariant behind union and star -/
def zx_uN (NU : Nat → Nat) (s n x y : Nat) : Nat → Nat := za_u NU (s * 16 + n) (if NU (s * 16 + x) = 0 then (if NU (s * 16 + y) = 0 then 0 else 1) else 1)
def zx_uF (FI : Nat → Nat) (s n x y : Nat) : Nat → Nat := za_u FI (s * 16 + n) (FI (s * 16 + x) ||| FI (s * 16 + y))
def zx_cF (FI : Nat → Nat) (s n x : Nat) : Nat → Nat := za_u FI (s * 16 + n) (FI (s * 16 + x))
def zx_cN (NU : Nat → Nat) (s n : Nat) : Nat → Nat := za_u NU (s * 16 + n) 1
theorem zx_uNb {NU : Nat → Nat} {s n x y : Nat} (h : ∀ i, NU i < 2) : ∀ i, zx_uN NU s n x y i < 2 := by
  apply za_ule h
  split
  · split <;> omega
  · omega
theorem zx_uFb {FI : Nat → Nat} {s n x y : Nat} (h : ∀ i, FI i < 65536) : ∀ i, zx_uF FI s n x y i < 65536 := za_ule h (za_or16 (h _) (h _))
theorem zx_cFb {FI : Nat → Nat} {s n x : Nat} (h : ∀ i, FI i < 65536) : ∀ i, zx_cF FI s n x i < 65536 := za_ule h (h _)
theorem zx_cNb {NU : Nat → Nat} {s n : Nat} (h : ∀ i, NU i < 2) : ∀ i, zx_cN NU s n i < 2 := za_ule h (by decide)
theorem zi_uni {NL L US d : Nat} {RT KD AG LF SZ LB NU FI LA FO SC LG WY : Nat → Nat} (I : zi_Inv NL L US (d + 2) RT KD AG LF SZ LB NU FI LA FO SC LG WY) (hU : US < NL) :
    zi_Inv NL L (US + 1) (d + 1) (za_u RT d US) (za_u KD US 5) (za_u AG US 0) (za_u LF US (RT d)) (za_u SZ US (1 + SZ (RT d) + SZ (RT (d + 1)))) (za_u (za_u LB US 0) (US + 16) 0)
      (zx_uN (zx_uN NU 0 US (RT d) (RT (d + 1))) 1 US (RT d) (RT (d + 1))) (zx_uF (zx_uF FI 0 US (RT d) (RT (d + 1))) 1 US (RT d) (RT (d + 1))) (zx_uF (zx_uF LA 0 US (RT d) (RT (d + 1))) 1 US (RT d) (RT (d + 1)))
      (za_u (za_u FO US 0) (US + 16) 0)
      (za_u SC US (RT (d + 1))) (zy_lp LG (zy_w2 WY (2 ^ (L + 1)) (zy_uni LG (RT d) (RT (d + 1)) 0) (zy_uni LG (RT d) (RT (d + 1)) 1)) US 1024) (zy_w2 WY (2 ^ (L + 1)) (zy_uni LG (RT d) (RT (d + 1)) 0) (zy_uni LG (RT d) (RT (d + 1)) 1)) := by
  have hNL : NL ≤ 16 := I.1.2.1
  have hL2 : 2 ≤ L := I.1.2.2.1
  obtain ⟨bLB, bNU, bFI, bLA, bFO⟩ := I.2.2.2.2.1
  obtain ⟨t1, t2, t3, t4, t5⟩ := zi_top2 I.2.1
  have ha := zi_rt I.2.1 (show d < d + 2 by omega)
  have hsa := zt_sz (I.2.2.1 (RT d) ha)
  have eS : 1 + (US - zi_S RT SZ d) = 1 + SZ (RT d) + SZ (RT (d + 1)) := by omega
  have p9 : 2 ^ (L + 1) ≤ 2 ^ 9 := za_p2 (by have := I.1.2.2.2.1; omega)
  have p3 : 2 ^ 3 ≤ 2 ^ (L + 1) := za_p2 (by omega)
  have Aa := I.2.2.2.1 d (by omega)
  have Ab := I.2.2.2.1 (d + 1) (by omega)
  have dj := fun q => zl_Pd (SZ := SZ) (a := RT d) (b := RT (d + 1)) (r := US) t1 t3 q
  have eP := fun p => zl_P2 (SZ := SZ) (SZ' := za_u SZ US (1 + SZ (RT d) + SZ (RT (d + 1)))) (a := RT d) (b := RT (d + 1)) (r := US) (p := p) (by omega) t1 t3 za_us hsa.2
  have nX : ∀ z, z < US → zx_uN NU 0 US (RT d) (RT (d + 1)) (1 * 16 + z) = NU (1 * 16 + z) := fun z hz => za_un (by omega)
  have fX : ∀ z, z < US → zx_uF FI 0 US (RT d) (RT (d + 1)) (1 * 16 + z) = FI (1 * 16 + z) := fun z hz => za_un (by omega)
  have lX : ∀ z, z < US → zx_uF LA 0 US (RT d) (RT (d + 1)) (1 * 16 + z) = LA (1 * 16 + z) := fun z hz => za_un (by omega)
  have g2 := fun w h1 h2 => zy_w2g (WY := WY) (c0 := zy_uni LG (RT d) (RT (d + 1)) 0) (c1 := zy_uni LG (RT d) (RT (d + 1)) 1) (N := 2 ^ (L + 1)) (w := w) (by omega) h1 h2
  have LGs : ∀ s, s < 2 → ∀ w, 1 ≤ w → w < 2 ^ (L + 1) → (zy_h (zy_lp LG (zy_w2 WY (2 ^ (L + 1)) (zy_uni LG (RT d) (RT (d + 1)) 0) (zy_uni LG (RT d) (RT (d + 1)) 1)) US 1024) US s w = true ↔ 1 ≤ zy_uni LG (RT d) (RT (d + 1)) s w) := by
    intro s hs w h1 h2
    rw [zy_lp_h hs h1 (by omega)]
    rcases (show s = 0 ∨ s = 1 by omega) with rfl | rfl
    · rw [(g2 w h1 h2).1]
      omega
    · rw [(g2 w h1 h2).2]
      omega
  have uns : ∀ s, s < 2 → zt_uni (2 ^ (L + 1)) (zy_lp LG (zy_w2 WY (2 ^ (L + 1)) (zy_uni LG (RT d) (RT (d + 1)) 0) (zy_uni LG (RT d) (RT (d + 1)) 1)) US 1024) s US (RT d) (RT (d + 1)) := by
    intro s hs w h1 h2
    rw [LGs s hs w h1 h2, zy_uni_ex, zy_lp_o hs ha, zy_lp_o hs (by omega)]
  have e1 : US - 1 = RT (d + 1) := by omega
  have two : zt_two (za_u LF US (RT d)) (za_u SZ US (1 + SZ (RT d) + SZ (RT (d + 1)))) (za_u SC US (RT (d + 1))) US := by
    refine ⟨by omega, by rw [za_us, e1], ?_, ?_, ?_, ?_, ?_⟩
    · rw [za_us, za_un (by omega), e1]; omega
    · rw [za_us, za_us, za_un (by omega), za_un (by omega), e1]
    · rw [za_un (by omega), e1]; exact t2
    · rw [za_us, za_un (by omega)]; exact t4
    · rw [za_us, za_un (by omega)]; exact hsa.2
  have key := zi_add (k := d) (kk := 5) (aa := 0) (ll := RT d) (sc := RT (d + 1))
    (LB' := za_u (za_u LB US 0) (US + 16) 0)
    (NU' := zx_uN (zx_uN NU 0 US (RT d) (RT (d + 1))) 1 US (RT d) (RT (d + 1)))
    (FI' := zx_uF (zx_uF FI 0 US (RT d) (RT (d + 1))) 1 US (RT d) (RT (d + 1)))
    (LA' := zx_uF (zx_uF LA 0 US (RT d) (RT (d + 1))) 1 US (RT d) (RT (d + 1)))
    (FO' := za_u (za_u FO US 0) (US + 16) 0)
    (WY' := zy_w2 WY (2 ^ (L + 1)) (zy_uni LG (RT d) (RT (d + 1)) 0) (zy_uni LG (RT d) (RT (d + 1)) 1)) I hU (by omega)
    ⟨za_ule (za_ule bLB (by omega)) (by omega), zx_uNb (zx_uNb bNU), zx_uFb (zx_uFb bFI), zx_uFb (zx_uFb bLA), za_ule (za_ule bFO (by omega)) (by omega)⟩
    (zy_w2b I.2.2.2.2.2.1.2 (fun w _ _ => zy_uniB _ _ _ _ _) (fun w _ _ => zy_uniB _ _ _ _ _))
    (fun s hs p hp => by rw [za_un (by omega), za_un (by omega)])
    (fun s hs p hp => by unfold zx_uF; rw [za_un (by omega), za_un (by omega)])
    (fun s hs p hp => by unfold zx_uF; rw [za_un (by omega), za_un (by omega)])
    (fun s hs p hp => by unfold zx_uN; rw [za_un (by omega), za_un (by omega)])
    (fun s hs p hp => by rw [za_un (by omega), za_un (by omega)])
    (by
      rw [eS]
      right; right; right; right; right; left
      refine ⟨za_us, two, ?_, ?_⟩
      · rw [za_us, e1]; exact uns 0 (by omega)
      · rw [za_us, e1]; exact uns 1 (by omega))
    (by
      rw [eS]
      intro s hs
      refine zl_uniA (by omega) (Aa s hs) (Ab s hs) (fun p hp => by have := hp.2.1; omega) (fun p hp => by have := hp.2.1; omega) eP dj ?_ ?_ ?_ ?_ ?_ (LGs s hs)
      · intro p hp hn
        rw [za_un (by omega), za_un (by omega)]
      · intro p hp
        by_cases e : p = US
        · subst e
          rw [if_pos rfl]
          rcases (show s = 0 ∨ s = 1 by omega) with rfl | rfl
          · rw [Nat.zero_mul, Nat.zero_add, za_un (by omega), za_us]
          · rw [show 1 * 16 + p = p + 16 by omega, za_us]
        · rw [if_neg e, za_un (by omega), za_un (by omega)]
      · rcases (show s = 0 ∨ s = 1 by omega) with rfl | rfl
        · unfold zx_uF
          rw [za_un (by omega), za_us]
        · rw [← fX _ ha, ← fX (RT (d + 1)) (by omega)]
          exact za_us
      · rcases (show s = 0 ∨ s = 1 by omega) with rfl | rfl
        · unfold zx_uF
          rw [za_un (by omega), za_us]
        · rw [← lX _ ha, ← lX (RT (d + 1)) (by omega)]
          exact za_us
      · have ev : zx_uN (zx_uN NU 0 US (RT d) (RT (d + 1))) 1 US (RT d) (RT (d + 1)) (s * 16 + US) = if NU (s * 16 + RT d) = 0 then (if NU (s * 16 + RT (d + 1)) = 0 then 0 else 1) else 1 := by
          rcases (show s = 0 ∨ s = 1 by omega) with rfl | rfl
          · unfold zx_uN
            rw [za_un (by omega), za_us]
          · rw [← nX _ ha, ← nX (RT (d + 1)) (by omega)]
            exact za_us
        rw [ev]
        split
        · rename_i c
          split
          · rename_i c2
            exact ⟨fun z => absurd rfl z, fun z => z.elim (fun z => absurd c z) (fun z => absurd c2 z)⟩
          · rename_i c2
            exact ⟨fun _ => Or.inr c2, fun _ => by decide⟩
        · rename_i c
          exact ⟨fun _ => Or.inl c, fun _ => by decide⟩)
    (by
      intro s hs w h1 h2
      rw [zy_w2z hs (by omega) h1 h2]
      exact I.2.2.2.2.2.2.1 s hs w h1 h2)
  rw [eS] at key
  exact key
theorem zi_sta {NL L US d : Nat} {RT KD AG LF SZ LB NU FI LA FO SC LG WY : Nat → Nat} (I : zi_Inv NL L US (d + 1) RT KD AG LF SZ LB NU FI LA FO SC LG WY) (hU : US < NL)
    (h0 : ∀ s, s < 2 → zy_h LG (RT d) s 1 = false) :
    zi_Inv NL L (US + 1) (d + 1) (za_u RT d US) (za_u KD US 6) (za_u AG US 0) (za_u LF US (RT d)) (za_u SZ US (1 + SZ (RT d))) (za_u (za_u LB US 0) (US + 16) 0)
      (zx_cN (zx_cN NU 0 US) 1 US) (zx_cF (zx_cF FI 0 US (RT d)) 1 US (RT d)) (zx_cF (zx_cF LA 0 US (RT d)) 1 US (RT d))
      (zx_lk (zx_lk (za_u (za_u FO US 0) (US + 16) 0) 0 (LA (0 * 16 + RT d)) (FI (0 * 16 + RT d))) 1 (zx_cF LA 0 US (RT d) (1 * 16 + RT d)) (zx_cF FI 0 US (RT d) (1 * 16 + RT d)))
      (za_u SC US (RT d)) (zy_lp LG (zy_w2 WY (2 ^ (L + 1)) (zy_sta LG (RT d) 0) (zy_sta LG (RT d) 1)) US 1024) (zy_w2 WY (2 ^ (L + 1)) (zy_sta LG (RT d) 0) (zy_sta LG (RT d) 1)) := by
  have hNL : NL ≤ 16 := I.1.2.1
  have hL2 : 2 ≤ L := I.1.2.2.1
  obtain ⟨bLB, bNU, bFI, bLA, bFO⟩ := I.2.2.2.2.1
  obtain ⟨t1, t2, t3⟩ := zi_top I.2.1
  have hsz := zt_sz (I.2.2.1 (RT d) (by omega))
  have eS : 1 + (US - zi_S RT SZ d) = 1 + SZ (RT d) := by omega
  have p9 : 2 ^ (L + 1) ≤ 2 ^ 9 := za_p2 (by have := I.1.2.2.2.1; omega)
  have p3 : 2 ^ 3 ≤ 2 ^ (L + 1) := za_p2 (by omega)
  have A := I.2.2.2.1 d (by omega)
  have eP := fun p => zl_P1 (SZ := SZ) (SZ' := za_u SZ US (1 + SZ (RT d))) (a := RT d) (r := US) (p := p) (by omega) t1 za_us (by omega)
  have fX : zx_cF FI 0 US (RT d) (1 * 16 + RT d) = FI (1 * 16 + RT d) := za_un (by omega)
  have lX : zx_cF LA 0 US (RT d) (1 * 16 + RT d) = LA (1 * 16 + RT d) := za_un (by omega)
  have g2 := fun w h1 h2 => zy_w2g (WY := WY) (c0 := zy_sta LG (RT d) 0) (c1 := zy_sta LG (RT d) 1) (N := 2 ^ (L + 1)) (w := w) (by omega) h1 h2
  have LGs : ∀ s, s < 2 → ∀ w, 1 ≤ w → w < 2 ^ (L + 1) → (zy_h (zy_lp LG (zy_w2 WY (2 ^ (L + 1)) (zy_sta LG (RT d) 0) (zy_sta LG (RT d) 1)) US 1024) US s w = true ↔ 1 ≤ zy_sta LG (RT d) s w) := by
    intro s hs w h1 h2
    rw [zy_lp_h hs h1 (by omega)]
    rcases (show s = 0 ∨ s = 1 by omega) with rfl | rfl
    · rw [(g2 w h1 h2).1]
      omega
    · rw [(g2 w h1 h2).2]
      omega
  have e1 : US - 1 = RT d := by omega
  have sts : ∀ s, s < 2 → zt_sta (2 ^ (L + 1)) (zy_lp LG (zy_w2 WY (2 ^ (L + 1)) (zy_sta LG (RT d) 0) (zy_sta LG (RT d) 1)) US 1024) s US := by
    intro s hs
    refine ⟨by rw [zy_lp_o hs (by omega), e1]; exact h0 s hs, fun w h1 h2 => ?_⟩
    rw [LGs s hs w h1 h2, zy_sta_ex (h0 s hs) h1 (by omega)]
    constructor
    · rintro (z | ⟨k, a, b⟩)
      · exact Or.inl z
      · have q := zc_tl_lt_w (zy_hd (h0 s hs) a)
        exact Or.inr ⟨k, by rw [zy_lp_o hs (by omega), e1]; exact a, (LGs s hs _ (zc_tl_pos _ _) (by omega)).mpr b⟩
    · rintro (z | ⟨k, a, b⟩)
      · exact Or.inl z
      · rw [zy_lp_o hs (by omega), e1] at a
        have q := zc_tl_lt_w (zy_hd (h0 s hs) a)
        exact Or.inr ⟨k, a, (LGs s hs _ (zc_tl_pos _ _) (by omega)).mp b⟩
  have nu0 : ∀ s, s < 2 → NU (s * 16 + RT d) = 0 := by
    intro s hs
    refine Classical.byContradiction fun z => ?_
    have := (zl_nu (A s hs) (by omega)).mp z
    rw [h0 s hs] at this
    cases this
  have low : ∀ q, zl_P SZ (RT d) q → zi_S RT SZ d ≤ q := by
    intro q h
    unfold zl_P at h
    omega
  have noF : ∀ s, s < 2 → ∀ p, p < zi_S RT SZ d → ¬ (LA (s * 16 + RT d)).testBit p = true := by
    intro s hs p hp z
    have := low p ((A s hs).1.2.2.1 p ⟨by omega, z⟩)
    omega
  have key := zi_add (k := d) (kk := 6) (aa := 0) (ll := RT d) (sc := RT d)
    (LB' := za_u (za_u LB US 0) (US + 16) 0)
    (NU' := zx_cN (zx_cN NU 0 US) 1 US)
    (FI' := zx_cF (zx_cF FI 0 US (RT d)) 1 US (RT d))
    (LA' := zx_cF (zx_cF LA 0 US (RT d)) 1 US (RT d))
    (FO' := zx_lk (zx_lk (za_u (za_u FO US 0) (US + 16) 0) 0 (LA (0 * 16 + RT d)) (FI (0 * 16 + RT d))) 1 (zx_cF LA 0 US (RT d) (1 * 16 + RT d)) (zx_cF FI 0 US (RT d) (1 * 16 + RT d)))
    (WY' := zy_w2 WY (2 ^ (L + 1)) (zy_sta LG (RT d) 0) (zy_sta LG (RT d) 1)) I hU (by omega)
    ⟨za_ule (za_ule bLB (by omega)) (by omega), zx_cNb (zx_cNb bNU), zx_cFb (zx_cFb bFI), zx_cFb (zx_cFb bLA), zx_lk_b (zx_lk_b (za_ule (za_ule bFO (by omega)) (by omega)) (bFI _)) (zx_cFb bFI _)⟩
    (zy_w2b I.2.2.2.2.2.1.2 (fun w h1 h2 => zy_staB' (h0 0 (by omega)) h1 (by omega)) (fun w h1 h2 => zy_staB' (h0 1 (by omega)) h1 (by omega)))
    (fun s hs p hp => by rw [za_un (by omega), za_un (by omega)])
    (fun s hs p hp => by unfold zx_cF; rw [za_un (by omega), za_un (by omega)])
    (fun s hs p hp => by unfold zx_cF; rw [za_un (by omega), za_un (by omega)])
    (fun s hs p hp => by unfold zx_cN; rw [za_un (by omega), za_un (by omega)])
    (fun s hs p hp => by
      rcases (show s = 0 ∨ s = 1 by omega) with rfl | rfl
      · rw [zx_lk_out (by omega), zx_lk_in (by omega), if_neg (noF 0 (by omega) p hp), za_un (by omega), za_un (by omega)]
      · rw [zx_lk_in (by omega), lX, if_neg (noF 1 (by omega) p hp), zx_lk_out (by omega), za_un (by omega), za_un (by omega)])
    (by
      rw [eS]
      right; right; right; right; right; right
      refine ⟨za_us, ⟨by omega, by rw [za_us, e1], by rw [za_us, e1], by rw [za_us, za_un (by omega), e1], ?_, ?_⟩, sts 0 (by omega), sts 1 (by omega)⟩
      · rw [za_un (by omega), e1]; omega
      · rw [za_un (by omega), e1]; omega)
    (by
      rw [eS]
      intro s hs
      refine zl_staA (by omega) (A s hs) (nu0 s hs) (h0 s hs) (fun p hp => by have := hp.2.1; omega) eP ?_ ?_ ?_ ?_ ?_ (LGs s hs)
      · intro p hp hn
        rw [za_un (by omega), za_un (by omega)]
      · intro p hp
        have hb : p = US → ¬ (LA (s * 16 + RT d)).testBit p = true := fun e z => by
          have := ((A s hs).1.2.2.1 p ⟨hp, z⟩).2.1
          omega
        rcases (show s = 0 ∨ s = 1 by omega) with rfl | rfl
        · rw [zx_lk_out (by omega), zx_lk_in hp]
          by_cases e : p = US
          · rw [if_pos e, if_neg (hb e)]
            subst e
            rw [Nat.zero_mul, Nat.zero_add, za_un (by omega), za_us]
          · rw [if_neg e, za_un (by omega), za_un (by omega)]
        · rw [zx_lk_in hp, lX, fX, zx_lk_out (by omega)]
          by_cases e : p = US
          · rw [if_pos e, if_neg (hb e)]
            subst e
            rw [show 1 * 16 + p = p + 16 by omega, za_us]
          · rw [if_neg e, za_un (by omega), za_un (by omega)]
      · rcases (show s = 0 ∨ s = 1 by omega) with rfl | rfl
        · unfold zx_cF
          rw [za_un (by omega), za_us]
        · rw [← fX]
          exact za_us
      · rcases (show s = 0 ∨ s = 1 by omega) with rfl | rfl
        · unfold zx_cF
          rw [za_un (by omega), za_us]
        · rw [← lX]
          exact za_us
      · rcases (show s = 0 ∨ s = 1 by omega) with rfl | rfl
        · unfold zx_cN
          rw [za_un (by omega), za_us]
          decide
        · unfold zx_cN
          rw [za_us]
          decide)
    (by
      intro s hs w h1 h2
      rw [zy_w2z hs (by omega) h1 h2]
      exact I.2.2.2.2.2.2.1 s hs w h1 h2)
  rw [eS] at key
  exact key
end
section
/-! X: join, walked -/
def zx_sp' (L : Nat) (NU FI LA FO LB : Nat → Nat) (s x y : Nat) : Nat → Prop :=
  zx_Cl (zx_E (FI (s * 16 + x)) (if NU (s * 16 + x) = 0 then 0 else FI (s * 16 + y)) (LA (s * 16 + x)) (FI (s * 16 + y)) FO s) (zx_lb LB s) (if NU (s * 16 + y) = 0 then LA (s * 16 + y) else LA (s * 16 + x) ||| LA (s * 16 + y)) (2 ^ (L + 1))
section
theorem zx_join91 {post : Int32 → SX → Prop} {NL L US D : Nat} {RT KD AG LF SZ LB NU FI LA FO SC LG WY BE NE EN WD LN : Nat → Nat} {tk ot : Int32} {tn tv te ts tz : Nat → Int32} {d kk x y : Nat} (I : zi_Inv NL L US (d + 2) RT KD AG LF SZ LB NU FI LA FO SC LG WY) (hu : US < NL) (hx : x < US) (hy : y < US)
    (h4 : ∀ r BE NE, r < 65536 → r ≠ 0 → zm_M r (zx_sp' L NU FI LA FO LB 1 x y) → post (-2000 - nI r) (0, 1, 2, 3, 4, 5, 6, nI NL, nI L, nI US, nI (d + 2), tk, ot, za_n RT, za_n KD, za_n AG, za_n LF, za_n SZ, za_n LB, za_n NU, za_n FI, za_n LA, za_n FO, za_n BE, za_n NE, za_n EN, za_n WD, za_n LN, tn, tv, te, ts, tz))
    (h5 : ∀ BE NE, zm_M 0 (zx_sp' L NU FI LA FO LB 1 x y) → post (nI (d + 1)) (0, 1, 2, 3, 4, 5, 6, nI NL, nI L, nI (US + 1), nI (d + 1), tk, ot, za_n (za_u RT d US), za_n (za_u KD US kk), za_n (za_u AG US 0), za_n (za_u LF US (RT d)), za_n (za_u SZ US (1 + SZ (RT d) + SZ (RT (d + 1)))), za_n (za_u (za_u LB US 0) (US + 16) 0), za_n (zx_sN (zx_sN NU 0 US (RT d) (RT (d + 1))) 1 US x y), za_n (zx_sF (zx_sN NU 0 US (RT d) (RT (d + 1))) (zx_sF NU FI 0 US (RT d) (RT (d + 1))) 1 US x y), za_n (zx_sL (zx_sN NU 0 US (RT d) (RT (d + 1))) (zx_sL NU LA 0 US (RT d) (RT (d + 1))) 1 US x y), za_n (zx_lk (zx_lk (za_u (za_u FO US 0) (US + 16) 0) 0 (LA (0 * 16 + RT d)) (FI (0 * 16 + RT (d + 1)))) 1 (zx_sL NU LA 0 US (RT d) (RT (d + 1)) (1 * 16 + x)) (zx_sF NU FI 0 US (RT d) (RT (d + 1)) (1 * 16 + y))), za_n BE, za_n NE, za_n EN, za_n WD, za_n LN, tn, tv, te, ts, tz)) :
    wX_join_91 post (nI kk) (nI (RT (d + 1))) (nI (RT d)) (nI x) (nI y) 0 1 2 3 4 5 6 (nI NL) (nI L) (nI US) (nI (d + 2)) tk ot (za_n RT) (za_n KD) (za_n AG) (za_n LF) (za_n SZ) (za_n LB) (za_n NU) (za_n FI) (za_n LA) (za_n FO) (za_n BE) (za_n NE) (za_n EN) (za_n WD) (za_n LN) tn tv te ts tz := by
  have hL : L ≤ 8 := I.1.2.2.2.1
  have hL2 : 2 ≤ L := I.1.2.2.1
  have hNL : NL ≤ 16 := I.1.2.1
  obtain ⟨bLB, bNU, bFI, bLA, bFO⟩ := I.2.2.2.2.1
  obtain ⟨t1, t2, t3, t4, t5⟩ := zi_top2 I.2.1
  unfold wX_join_91
  refine zx_split (s := 1) (by omega) (by omega) (by omega) (by omega) hL bLB bNU bFI bLA bFO (fun r BE NE hr hM => ?_)
  refine za_br (za_le0 (by omega)) (fun r0 => ?_) (fun r0 => h4 r BE NE hr r0 hM)
  subst r0
  have e1 : (1 : Int32) + nI (SZ (RT d)) + nI (SZ (RT (d + 1))) = nI (1 + SZ (RT d) + SZ (RT (d + 1))) := by
    show nI 1 + _ + _ = _
    rw [za_add, za_add]
  have ca : (nI (RT d)).toNatClampNeg = RT d := za_cl (by omega)
  have cb : (nI (RT (d + 1))).toNatClampNeg = RT (d + 1) := za_cl (by omega)
  rw [ca, cb, za_ap SZ, za_ap SZ, e1]
  refine ⟨vp_in_nI (by omega) (by omega), vp_in_nI (by omega) (by omega), zx_addn (a := 0) (by omega) ?_⟩
  refine zx_seq (s := 0) (by omega) (by omega) (by omega) (by omega) (by omega) (by omega) bNU bLA ?_
  refine zx_seq (s := 1) (NU := zx_sN NU 0 US (RT d) (RT (d + 1))) (FI := zx_sF NU FI 0 US (RT d) (RT (d + 1))) (LA := zx_sL NU LA 0 US (RT d) (RT (d + 1))) (by omega) (by omega) (by omega) (by omega) (by omega) (by omega) (zx_sNb bNU) (zx_sLb bLA) ?_
  have e2 : nI (d + 2) - 1 = nI (d + 1) := nI_pred (d + 1)
  have e3 : nI (d + 1) - 1 = nI d := nI_pred d
  have cd : (nI d).toNatClampNeg = d := za_cl (by have := zi_D I.2.1; omega)
  show wpX_replaceTwo _ _ _
  unfold wpX_replaceTwo
  refine nm_r e2 ?_
  rw [e3, cd]
  exact ⟨vp_in_nI (by have := zi_D I.2.1; omega) (by omega), nm_r (za_upd RT d US) (h5 BE NE hM)⟩
theorem zx_join {post : Int32 → SX → Prop} {NL L US D : Nat} {RT KD AG LF SZ LB NU FI LA FO SC LG WY BE NE EN WD LN : Nat → Nat} {tk ot : Int32} {tn tv te ts tz : Nat → Int32} {kk : Nat} (hkk : kk = 3 ∨ kk = 4) (I : zi_Inv NL L US D RT KD AG LF SZ LB NU FI LA FO SC LG WY)
    (h1 : D < 2 → post (-1) (0, 1, 2, 3, 4, 5, 6, nI NL, nI L, nI US, nI D, tk, ot, za_n RT, za_n KD, za_n AG, za_n LF, za_n SZ, za_n LB, za_n NU, za_n FI, za_n LA, za_n FO, za_n BE, za_n NE, za_n EN, za_n WD, za_n LN, tn, tv, te, ts, tz))
    (h2 : ∀ d, D = d + 2 → NL ≤ US → post (-2) (0, 1, 2, 3, 4, 5, 6, nI NL, nI L, nI US, nI D, tk, ot, za_n RT, za_n KD, za_n AG, za_n LF, za_n SZ, za_n LB, za_n NU, za_n FI, za_n LA, za_n FO, za_n BE, za_n NE, za_n EN, za_n WD, za_n LN, tn, tv, te, ts, tz))
    (h3 : ∀ d, D = d + 2 → US < NL → ∀ r BE NE, r < 65536 → r ≠ 0 → zm_M r (zx_sp' L NU FI LA FO LB 0 (RT d) (RT (d + 1))) → post (-1000 - nI r) (0, 1, 2, 3, 4, 5, 6, nI NL, nI L, nI US, nI D, tk, ot, za_n RT, za_n KD, za_n AG, za_n LF, za_n SZ, za_n LB, za_n NU, za_n FI, za_n LA, za_n FO, za_n BE, za_n NE, za_n EN, za_n WD, za_n LN, tn, tv, te, ts, tz))
    (h4 : ∀ d, D = d + 2 → US < NL → zm_M 0 (zx_sp' L NU FI LA FO LB 0 (RT d) (RT (d + 1))) → ∀ x y, ((kk = 3 ∧ x = RT d ∧ y = RT (d + 1)) ∨ (kk = 4 ∧ x = RT (d + 1) ∧ y = RT d)) → ∀ r BE NE, r < 65536 → r ≠ 0 → zm_M r (zx_sp' L NU FI LA FO LB 1 x y) → post (-2000 - nI r) (0, 1, 2, 3, 4, 5, 6, nI NL, nI L, nI US, nI D, tk, ot, za_n RT, za_n KD, za_n AG, za_n LF, za_n SZ, za_n LB, za_n NU, za_n FI, za_n LA, za_n FO, za_n BE, za_n NE, za_n EN, za_n WD, za_n LN, tn, tv, te, ts, tz))
    (h5 : ∀ d, D = d + 2 → US < NL → zm_M 0 (zx_sp' L NU FI LA FO LB 0 (RT d) (RT (d + 1))) → ∀ x y, ((kk = 3 ∧ x = RT d ∧ y = RT (d + 1)) ∨ (kk = 4 ∧ x = RT (d + 1) ∧ y = RT d)) → ∀ BE NE, zm_M 0 (zx_sp' L NU FI LA FO LB 1 x y) → post (nI (d + 1)) (0, 1, 2, 3, 4, 5, 6, nI NL, nI L, nI (US + 1), nI (d + 1), tk, ot, za_n (za_u RT d US), za_n (za_u KD US kk), za_n (za_u AG US 0), za_n (za_u LF US (RT d)), za_n (za_u SZ US (1 + SZ (RT d) + SZ (RT (d + 1)))), za_n (za_u (za_u LB US 0) (US + 16) 0), za_n (zx_sN (zx_sN NU 0 US (RT d) (RT (d + 1))) 1 US x y), za_n (zx_sF (zx_sN NU 0 US (RT d) (RT (d + 1))) (zx_sF NU FI 0 US (RT d) (RT (d + 1))) 1 US x y), za_n (zx_sL (zx_sN NU 0 US (RT d) (RT (d + 1))) (zx_sL NU LA 0 US (RT d) (RT (d + 1))) 1 US x y), za_n (zx_lk (zx_lk (za_u (za_u FO US 0) (US + 16) 0) 0 (LA (0 * 16 + RT d)) (FI (0 * 16 + RT (d + 1)))) 1 (zx_sL NU LA 0 US (RT d) (RT (d + 1)) (1 * 16 + x)) (zx_sF NU FI 0 US (RT d) (RT (d + 1)) (1 * 16 + y))), za_n BE, za_n NE, za_n EN, za_n WD, za_n LN, tn, tv, te, ts, tz)) :
    wpX_join post (0, 1, 2, 3, 4, 5, 6, nI NL, nI L, nI US, nI D, tk, ot, za_n RT, za_n KD, za_n AG, za_n LF, za_n SZ, za_n LB, za_n NU, za_n FI, za_n LA, za_n FO, za_n BE, za_n NE, za_n EN, za_n WD, za_n LN, tn, tv, te, ts, tz) (nI kk) := by
  have hL : L ≤ 8 := I.1.2.2.2.1
  have hL2 : 2 ≤ L := I.1.2.2.1
  have hNL : NL ≤ 16 := I.1.2.1
  have hU : US ≤ NL := I.1.2.2.2.2
  have hD := zi_D I.2.1
  obtain ⟨bLB, bNU, bFI, bLA, bFO⟩ := I.2.2.2.2.1
  unfold wpX_join
  refine za_br (za_le (a := 2) (by omega) (by omega)) (fun hd => ?_) (fun hd => h1 (by omega))
  obtain ⟨d, rfl⟩ : ∃ d, D = d + 2 := ⟨D - 2, by omega⟩
  refine za_br (za_lt (by omega) (by omega)) (fun hu => ?_) (fun hu => h2 d rfl (by omega))
  have h3' := h3 d rfl hu
  have h4' := h4 d rfl hu
  have h5' := h5 d rfl hu
  clear h1 h2 h3 h4 h5
  obtain ⟨t1, t2, t3, t4, t5⟩ := zi_top2 I.2.1
  have e2 : nI (d + 2) - 1 = nI (d + 1) := nI_pred (d + 1)
  have e3 : nI (d + 2) - 2 = nI d := by
    have := za_sub (a := d + 2) (b := 2) (by omega)
    exact this
  have cd : (nI d).toNatClampNeg = d := za_cl (by omega)
  have cd1 : (nI (d + 1)).toNatClampNeg = d + 1 := za_cl (by omega)
  rw [e2, e3, cd, cd1]
  refine ⟨vp_in_nI (by omega) (by omega), nm_e ⟨vp_in_nI (by omega) (by omega), nm_e ?_⟩⟩
  refine zx_split (s := 0) (by omega) (by omega) (by omega) (by omega) hL bLB bNU bFI bLA bFO (fun r BE NE hr hM => ?_)
  refine za_br (za_le0 (by omega)) (fun r0 => ?_) (fun r0 => h3' r BE NE hr r0 hM)
  subst r0
  have h4'' := h4' hM
  have h5'' := h5' hM
  rcases hkk with rfl | rfl
  · refine br_f (by decide) ?_
    unfold wX_join_79
    refine br_f (by decide) ?_
    exact zx_join91 (D := 0) I hu (by omega) (by omega) (h4'' _ _ (Or.inl ⟨rfl, rfl, rfl⟩)) (h5'' _ _ (Or.inl ⟨rfl, rfl, rfl⟩))
  · refine br_t rfl ?_
    unfold wX_join_79
    refine br_t rfl ?_
    exact zx_join91 (D := 0) I hu (by omega) (by omega) (h4'' _ _ (Or.inr ⟨rfl, rfl, rfl⟩)) (h5'' _ _ (Or.inr ⟨rfl, rfl, rfl⟩))
end
end
section
/-! Y: combine, walked -/
theorem zy_cat1 (LG : Nat → Nat) (x y s : Nat) : zy_cat LG x y s 1 ≤ 1 := by
  rcases Nat.lt_or_ge 1 (zy_cat LG x y s 1) with z | z
  · unfold zy_cat at z
    have c1 : ∀ k, zy_cw LG x y s 1 k ≤ 1 := fun k => Bool.toNat_le _
    have c0 : ∀ k, 1 ≤ zy_cw LG x y s 1 k → k = 0 := by
      intro k h
      rcases Nat.eq_zero_or_pos k with e | e
      · exact e
      · have e0 : 1 / 2 ^ k = 0 := by
          have : 2 ^ 1 ≤ 2 ^ k := za_p2 e
          exact Nat.div_eq_of_lt (by omega)
        unfold zy_cw at h
        rw [e0, zy_h0, Bool.false_and] at h
        exact absurd h (by decide)
    rcases (zm_sum2 _ _).mp z with ⟨k, _, h⟩ | ⟨k, l, _, _, hn, h1, h2⟩
    · have := c1 k
      omega
    · exact absurd ((c0 k h1).trans (c0 l h2).symm) hn
  · omega
theorem zi_wy {NL L US D : Nat} {RT KD AG LF SZ LB NU FI LA FO SC LG WY WY' : Nat → Nat} (I : zi_Inv NL L US D RT KD AG LF SZ LB NU FI LA FO SC LG WY) (b : ∀ i, WY' i < 65536) (h : ∀ s, s < 2 → ∀ w, 2 ^ (L + 1) ≤ w → w < 512 → WY' (s * 512 + w) = 0) :
    zi_Inv NL L US D RT KD AG LF SZ LB NU FI LA FO SC LG WY' := ⟨I.1, I.2.1, I.2.2.1, I.2.2.2.1, I.2.2.2.2.1, ⟨I.2.2.2.2.2.1.1, b⟩, h, I.2.2.2.2.2.2.2⟩
theorem zi_wp {NL L US D : Nat} {RT KD AG LF SZ LB NU FI LA FO SC LG WY c : Nat → Nat} (I : zi_Inv NL L US D RT KD AG LF SZ LB NU FI LA FO SC LG WY) (hc : ∀ w, 1 ≤ w → w < 2 ^ (L + 1) → c w < 65536) (t : Nat) (ht : t < 2) :
    zi_Inv NL L US D RT KD AG LF SZ LB NU FI LA FO SC LG (zy_wp WY t c (2 ^ (L + 1))) := by
  have p9 : 2 ^ (L + 1) ≤ 2 ^ 9 := za_p2 (by have := I.1.2.2.2.1; omega)
  refine zi_wy I (fun i => ?_) (fun s hs w h1 h2 => ?_)
  · unfold zy_wp
    split
    · exact hc _ (by omega) (by omega)
    · exact I.2.2.2.2.2.1.2 i
  · unfold zy_wp
    rw [if_neg (by omega)]
    exact I.2.2.2.2.2.2.1 s hs w h1 h2
section
theorem zy_comb1 {post : Int32 → SY → Prop} {NL L US D : Nat} {RT KD AG LF SZ LB NU FI LA FO SC LG WY : Nat → Nat} {tp : Int32} {yn yv yo : Nat → Int32} {p0 p1 : Int32} (_ : zi_Inv NL L US D RT KD AG LF SZ LB NU FI LA FO SC LG WY) (h : ¬ p1 ≤ nI D) (hp : post (-1) (nI NL, nI L, nI D, tp, za_n RT, za_n KD, za_n AG, za_n LF, za_n SC, za_n SZ, za_n LG, za_n WY, yn, yv, yo)) : wpY_combine post (nI NL, nI L, nI D, tp, za_n RT, za_n KD, za_n AG, za_n LF, za_n SC, za_n SZ, za_n LG, za_n WY, yn, yv, yo) p0 p1 := by
  unfold wpY_combine
  exact br_f h hp
theorem zy_comb2 {post : Int32 → SY → Prop} {NL L US D : Nat} {RT KD AG LF SZ LB NU FI LA FO SC LG WY : Nat → Nat} {tp : Int32} {yn yv yo : Nat → Int32} {p0 p1 : Int32} (I : zi_Inv NL L US D RT KD AG LF SZ LB NU FI LA FO SC LG WY) (h : p1 ≤ nI D) (hN : NL ≤ US) (hp : post (-2) (nI NL, nI L, nI D, tp, za_n RT, za_n KD, za_n AG, za_n LF, za_n SC, za_n SZ, za_n LG, za_n WY, yn, yv, yo)) : wpY_combine post (nI NL, nI L, nI D, tp, za_n RT, za_n KD, za_n AG, za_n LF, za_n SC, za_n SZ, za_n LG, za_n WY, yn, yv, yo) p0 p1 := by
  have hNL : NL ≤ 16 := I.1.2.1
  have hU : US ≤ NL := I.1.2.2.2.2
  unfold wpY_combine
  exact br_t h (zy_tot I.2.1 (by omega) (br_f (fun y => by have := (za_lt (by omega) (by omega)).mp y; omega) hp))
theorem zy_combC {post : Int32 → SY → Prop} {NL L US d : Nat} {RT KD AG LF SZ LB NU FI LA FO SC LG WY : Nat → Nat} {tp : Int32} {yn yv yo : Nat → Int32} {kk x y : Nat} (I : zi_Inv NL L US (d + 2) RT KD AG LF SZ LB NU FI LA FO SC LG WY) (hu : US < NL)
    (hxy : (kk = 3 ∧ x = RT d ∧ y = RT (d + 1)) ∨ (kk = 4 ∧ x = RT (d + 1) ∧ y = RT d))
    (h3 : ∀ r, zm_M r (fun v => 1 ≤ v ∧ v < 2 ^ (L + 1) ∧ 2 ≤ zy_cat LG (RT d) (RT (d + 1)) 0 v) → r ≠ 0 → post (-1000 - nI r) (nI NL, nI L, nI (d + 2), tp, za_n RT, za_n KD, za_n AG, za_n LF, za_n SC, za_n SZ, za_n LG, za_n (zy_wp WY 0 (zy_cat LG (RT d) (RT (d + 1)) 0) (2 ^ (L + 1))), yn, yv, yo))
    (h4 : zm_M 0 (fun v => 1 ≤ v ∧ v < 2 ^ (L + 1) ∧ 2 ≤ zy_cat LG (RT d) (RT (d + 1)) 0 v) → ∀ r, zm_M r (fun v => 1 ≤ v ∧ v < 2 ^ (L + 1) ∧ 2 ≤ zy_cat LG x y 1 v) → r ≠ 0 → post (-2000 - nI r) (nI NL, nI L, nI (d + 2), tp, za_n RT, za_n KD, za_n AG, za_n LF, za_n SC, za_n SZ, za_n LG, za_n (zy_w2 WY (2 ^ (L + 1)) (zy_cat LG (RT d) (RT (d + 1)) 0) (zy_cat LG x y 1)), yn, yv, yo))
    (h5 : zm_M 0 (fun v => 1 ≤ v ∧ v < 2 ^ (L + 1) ∧ 2 ≤ zy_cat LG (RT d) (RT (d + 1)) 0 v) → zm_M 0 (fun v => 1 ≤ v ∧ v < 2 ^ (L + 1) ∧ 2 ≤ zy_cat LG x y 1 v) → post (nI (d + 1)) (nI NL, nI L, nI (d + 1), tp, za_n (za_u RT d US), za_n (za_u KD US kk), za_n (za_u AG US 0), za_n (za_u LF US (RT d)), za_n (za_u SC US (RT (d + 1))), za_n (za_u SZ US (1 + SZ (RT d) + SZ (RT (d + 1)))), za_n (zy_lp LG (zy_w2 WY (2 ^ (L + 1)) (zy_cat LG (RT d) (RT (d + 1)) 0) (zy_cat LG x y 1)) US 1024), za_n (zy_w2 WY (2 ^ (L + 1)) (zy_cat LG (RT d) (RT (d + 1)) 0) (zy_cat LG x y 1)), yn, yv, yo)) :
    wpY_combine post (nI NL, nI L, nI (d + 2), tp, za_n RT, za_n KD, za_n AG, za_n LF, za_n SC, za_n SZ, za_n LG, za_n WY, yn, yv, yo) (nI kk) 2 := by
  have hL : L ≤ 8 := I.1.2.2.2.1
  have hNL : NL ≤ 16 := I.1.2.1
  have hD := zi_D I.2.1
  have bG := I.2.2.2.2.2.1.1
  have bW := I.2.2.2.2.2.1.2
  obtain ⟨t1, t2, t3, t4, t5⟩ := zi_top2 I.2.1
  have e2 : nI (d + 2) - 1 = nI (d + 1) := nI_pred (d + 1)
  have e3 : nI (d + 2) - 2 = nI d := za_sub (a := d + 2) (b := 2) (by omega)
  have cd : (nI d).toNatClampNeg = d := za_cl (by omega)
  have cd1 : (nI (d + 1)).toNatClampNeg = d + 1 := za_cl (by omega)
  have hkk : kk = 3 ∨ kk = 4 := hxy.elim (fun z => Or.inl z.1) (fun z => Or.inr z.1)
  have n5 : ¬ nI kk = 5 := by rcases hkk with e | e <;> subst e <;> decide
  have bW2 : ∀ i, zy_w2 WY (2 ^ (L + 1)) (zy_cat LG (RT d) (RT (d + 1)) 0) (zy_cat LG x y 1) i < 65536 := zy_w2b bW (fun w _ _ => zy_catB _ _ _ _ _) (fun w _ _ => zy_catB _ _ _ _ _)
  have last : zm_M 0 (fun v => 1 ≤ v ∧ v < 2 ^ (L + 1) ∧ 2 ≤ zy_cat LG (RT d) (RT (d + 1)) 0 v) → ∀ r, r < 65536 → zm_M r (fun v => 1 ≤ v ∧ v < 2 ^ (L + 1) ∧ 2 ≤ zy_cat LG x y 1 v) → wY_combine_98 post (nI kk) 2 (nI r) (nI NL) (nI L) (nI (d + 2)) tp (za_n RT) (za_n KD) (za_n AG) (za_n LF) (za_n SC) (za_n SZ) (za_n LG) (za_n (zy_w2 WY (2 ^ (L + 1)) (zy_cat LG (RT d) (RT (d + 1)) 0) (zy_cat LG x y 1))) yn yv yo := by
    intro m0 r hr m1
    unfold wY_combine_98
    refine za_br (za_le0 (by omega)) (fun r0 => ?_) (fun r0 => br_f n5 (h4 m0 r m1 r0))
    subst r0
    unfold wY_combine_117
    exact zy_rep2 (a := 0) I.2.1 (by omega) bW2 (h5 m0 m1)
  unfold wpY_combine
  refine br_t ((za_le (a := 2) (by omega) (by omega)).mpr (by omega)) (zy_tot I.2.1 (by omega) (br_t ((za_lt (by omega) (by omega)).mpr hu) ?_))
  rw [e2, e3, cd, cd1]
  refine ⟨vp_in_nI (by omega) (by omega), nm_e ⟨vp_in_nI (by omega) (by omega), nm_e ?_⟩⟩
  refine zy_cwc (s := 0) hkk (by omega) (by omega) (by omega) hL bG (fun r hr hM => ?_)
  refine za_br (za_le0 (by omega)) (fun r0 => ?_) (fun r0 => h3 r hM r0)
  subst r0
  rcases hxy with ⟨rfl, rfl, rfl⟩ | ⟨rfl, rfl, rfl⟩
  · refine br_f (by decide) ?_
    exact zy_cwc (s := 1) (Or.inl rfl) (by omega) (by omega) (by omega) hL bG (fun r hr hM1 => last hM r hr hM1)
  · refine br_t rfl ?_
    exact zy_cwc (s := 1) (Or.inr rfl) (by omega) (by omega) (by omega) hL bG (fun r hr hM1 => last hM r hr hM1)
end
/-- X's and Y's clash of a join are the same -/
theorem zi_clC {NL L US d s x y r r' : Nat} {RT KD AG LF SZ LB NU FI LA FO SC LG WY : Nat → Nat} (I : zi_Inv NL L US (d + 2) RT KD AG LF SZ LB NU FI LA FO SC LG WY) (hs : s < 2) (hxy : (x = RT d ∧ y = RT (d + 1)) ∨ (x = RT (d + 1) ∧ y = RT d))
    (hX : zm_M r (zx_sp' L NU FI LA FO LB s x y)) (hY : zm_M r' (fun v => 1 ≤ v ∧ v < 2 ^ (L + 1) ∧ 2 ≤ zy_cat LG x y s v)) : r' = r := by
  have p9 : 2 ^ (L + 1) ≤ 2 ^ 9 := za_p2 (by have := I.1.2.2.2.1; omega)
  obtain ⟨t1, t2, t3, t4, t5⟩ := zi_top2 I.2.1
  have Aa := I.2.2.2.1 d (by omega) s hs
  have Ab := I.2.2.2.1 (d + 1) (by omega) s hs
  have dj := fun q => zl_Pd (SZ := SZ) (a := RT d) (b := RT (d + 1)) (r := US) t1 t3 q
  refine zl_clash (W := zy_cat LG x y s) (fun w h2 hw => ?_) hX (zy_cat1 LG x y s) hY
  rcases hxy with ⟨rfl, rfl⟩ | ⟨rfl, rfl⟩
  · exact zl_catC (by omega) Aa Ab dj rfl rfl h2 hw
  · exact zl_catC (by omega) Ab Aa (fun q h1 h2 => dj q h2 h1) rfl rfl h2 hw
end
section
/-! concat and swap, owed -/
theorem i_vc_concat {k : Nat} {u : SX} {v : SY} (I : i_Rel k u v) (hk : k + 4 ≤ 2050) : wpX_concat (fun r u' => wpY_concat (fun r' v' => r' = r ∧ i_Rel (k + 4) u' v') v) u := by
  refine zi_el (P := fun u v => wpX_concat (fun r u' => wpY_concat (fun r' v' => r' = r ∧ i_Rel (k + 4) u' v') v) u) ?_ I
  intro NL L US D RT KD AG LF SZ LB NU FI LA FO SC LG WY BE NE EN WD LN tk ot tp tn tv te ts tz yn yv yo I
  have hNL : NL ≤ 16 := I.1.2.1
  have hU : US ≤ NL := I.1.2.2.2.2
  have hD := zi_D I.2.1
  unfold wpX_concat
  refine zx_join (kk := 3) (Or.inl rfl) I ?_ ?_ ?_ ?_ ?_
  · intro h
    show wpY_concat _ _
    unfold wpY_concat
    exact zy_comb1 I (fun z => by have := (za_le (a := 2) (by omega) (by omega)).mp z; omega) ⟨rfl, zi_mk I⟩
  · rintro d rfl h
    show wpY_concat _ _
    unfold wpY_concat
    exact zy_comb2 I ((za_le (a := 2) (by omega) (by omega)).mpr (by omega)) h ⟨rfl, zi_mk I⟩
  · rintro d rfl hu r BE' NE' hr r0 hM
    show wpY_concat _ _
    unfold wpY_concat
    have eq := fun r' hr' => zi_clC (r' := r') I (show 0 < 2 by omega) (Or.inl ⟨rfl, rfl⟩) hM hr'
    refine zy_combC (kk := 3) I hu (Or.inl ⟨rfl, rfl, rfl⟩) (fun r' hM' _ => ?_) (fun hM' => ?_) (fun hM' => ?_)
    · rw [eq r' hM']
      exact ⟨rfl, zi_mk (zi_wp I (fun w _ _ => zy_catB _ _ _ _ _) 0 (by omega))⟩
    · exact absurd (eq 0 hM').symm r0
    · exact absurd (eq 0 hM').symm r0
  · rintro d rfl hu hM0 x y hxy r BE' NE' hr r0 hM
    show wpY_concat _ _
    unfold wpY_concat
    have eq0 := fun r' hr' => zi_clC (r' := r') I (show 0 < 2 by omega) (Or.inl ⟨rfl, rfl⟩) hM0 hr'
    have eq := fun r' hr' => zi_clC (r' := r') I (show 1 < 2 by omega) (hxy.imp And.right And.right) hM hr'
    refine zy_combC (kk := 3) I hu hxy (fun r' hM' z => absurd (eq0 r' hM') z) (fun _ r' hM' _ => ?_) (fun _ hM' => absurd (eq 0 hM').symm r0)
    rw [eq r' hM']
    exact ⟨rfl, zi_mk (zi_wp (zi_wp I (fun w _ _ => zy_catB _ _ _ _ _) 0 (by omega)) (fun w _ _ => zy_catB _ _ _ _ _) 1 (by omega))⟩
  · rintro d rfl hu hM0 x y hxy BE' NE' hM
    show wpY_concat _ _
    unfold wpY_concat
    have eq0 := fun r' hr' => zi_clC (r' := r') I (show 0 < 2 by omega) (Or.inl ⟨rfl, rfl⟩) hM0 hr'
    have eq := fun r' hr' => zi_clC (r' := r') I (show 1 < 2 by omega) (hxy.imp And.right And.right) hM hr'
    refine zy_combC (kk := 3) I hu hxy (fun r' hM' z => absurd (eq0 r' hM') z) (fun _ r' hM' z => absurd (eq r' hM') z) (fun _ _ => ?_)
    exact ⟨rfl, zi_mk (zi_join I hu hxy)⟩
theorem i_vc_swap {k : Nat} {u : SX} {v : SY} (I : i_Rel k u v) (hk : k + 4 ≤ 2050) : wpX_swap (fun r u' => wpY_swap (fun r' v' => r' = r ∧ i_Rel (k + 4) u' v') v) u := by
  refine zi_el (P := fun u v => wpX_swap (fun r u' => wpY_swap (fun r' v' => r' = r ∧ i_Rel (k + 4) u' v') v) u) ?_ I
  intro NL L US D RT KD AG LF SZ LB NU FI LA FO SC LG WY BE NE EN WD LN tk ot tp tn tv te ts tz yn yv yo I
  have hNL : NL ≤ 16 := I.1.2.1
  have hU : US ≤ NL := I.1.2.2.2.2
  have hD := zi_D I.2.1
  unfold wpX_swap
  refine zx_join (kk := 4) (Or.inr rfl) I ?_ ?_ ?_ ?_ ?_
  · intro h
    show wpY_swap _ _
    unfold wpY_swap
    exact zy_comb1 I (fun z => by have := (za_le (a := 2) (by omega) (by omega)).mp z; omega) ⟨rfl, zi_mk I⟩
  · rintro d rfl h
    show wpY_swap _ _
    unfold wpY_swap
    exact zy_comb2 I ((za_le (a := 2) (by omega) (by omega)).mpr (by omega)) h ⟨rfl, zi_mk I⟩
  · rintro d rfl hu r BE' NE' hr r0 hM
    show wpY_swap _ _
    unfold wpY_swap
    have eq := fun r' hr' => zi_clC (r' := r') I (show 0 < 2 by omega) (Or.inl ⟨rfl, rfl⟩) hM hr'
    refine zy_combC (kk := 4) I hu (Or.inr ⟨rfl, rfl, rfl⟩) (fun r' hM' _ => ?_) (fun hM' => ?_) (fun hM' => ?_)
    · rw [eq r' hM']
      exact ⟨rfl, zi_mk (zi_wp I (fun w _ _ => zy_catB _ _ _ _ _) 0 (by omega))⟩
    · exact absurd (eq 0 hM').symm r0
    · exact absurd (eq 0 hM').symm r0
  · rintro d rfl hu hM0 x y hxy r BE' NE' hr r0 hM
    show wpY_swap _ _
    unfold wpY_swap
    have eq0 := fun r' hr' => zi_clC (r' := r') I (show 0 < 2 by omega) (Or.inl ⟨rfl, rfl⟩) hM0 hr'
    have eq := fun r' hr' => zi_clC (r' := r') I (show 1 < 2 by omega) (hxy.imp And.right And.right) hM hr'
    refine zy_combC (kk := 4) I hu hxy (fun r' hM' z => absurd (eq0 r' hM') z) (fun _ r' hM' _ => ?_) (fun _ hM' => absurd (eq 0 hM').symm r0)
    rw [eq r' hM']
    exact ⟨rfl, zi_mk (zi_wp (zi_wp I (fun w _ _ => zy_catB _ _ _ _ _) 0 (by omega)) (fun w _ _ => zy_catB _ _ _ _ _) 1 (by omega))⟩
  · rintro d rfl hu hM0 x y hxy BE' NE' hM
    show wpY_swap _ _
    unfold wpY_swap
    have eq0 := fun r' hr' => zi_clC (r' := r') I (show 0 < 2 by omega) (Or.inl ⟨rfl, rfl⟩) hM0 hr'
    have eq := fun r' hr' => zi_clC (r' := r') I (show 1 < 2 by omega) (hxy.imp And.right And.right) hM hr'
    refine zy_combC (kk := 4) I hu hxy (fun r' hM' z => absurd (eq0 r' hM') z) (fun _ r' hM' z => absurd (eq r' hM') z) (fun _ _ => ?_)
    exact ⟨rfl, zi_mk (zi_join I hu hxy)⟩
end
section
/-! X: union, star, walked -/
/-- X's word on an overlap -/
def zx_ov (L : Nat) (NU FI LA FO LB : Nat → Nat) (x y r : Nat) : Prop :=
  (NU x ≠ 0 ∧ NU y ≠ 0 ∧ r = 1) ∨ ((NU x = 0 ∨ NU y = 0) ∧ zm_M r (zx_Cl (zx_E (FI x) (FI y) 0 0 FO 0) (zx_lb LB 0) (LA x ||| LA y) (2 ^ (L + 1))))
/-- X's word on an iteration -/
def zx_it (L : Nat) (NU FI LA FO LB : Nat → Nat) (s x r : Nat) : Prop :=
  (NU (s * 16 + x) ≠ 0 ∧ r = 1) ∨ (NU (s * 16 + x) = 0 ∧ zm_M r (zx_Cl (zx_E (FI (s * 16 + x)) 0 (LA (s * 16 + x)) (FI (s * 16 + x)) FO s) (zx_lb LB s) (LA (s * 16 + x)) (2 ^ (L + 1))))
section
variable {kC kI kE kN kS kU kT nl ll us dp tk ot : Int32} {rt kd ag lf sz lb nu fi la fo be ne en wd ln tn tv te ts tz : Nat → Int32}
theorem zx_u96 {post : Int32 → SX → Prop} {NU FI LA : Nat → Nat} {s a b n m : Nat} (hs : s < 2) (ha : a < 16) (hb : b < 16) (hn : n < 16) (hNU : ∀ i, NU i < 2)
    (h : wX_union_96 post (nI b) (nI a) (nI n) m (nI (s * 16 + 16)) kC kI kE kN kS kU kT nl ll us dp tk ot rt kd ag lf sz lb (za_n (zx_uN NU s n a b)) (za_n (zx_uF FI s n a b)) (za_n (zx_uF LA s n a b)) fo be ne en wd ln tn tv te ts tz) :
    wX_union_96 post (nI b) (nI a) (nI n) (m + 1) (nI (s * 16)) kC kI kE kN kS kU kT nl ll us dp tk ot rt kd ag lf sz lb (za_n NU) (za_n FI) (za_n LA) fo be ne en wd ln tn tv te ts tz := by
  have ia : vp_in (nI (s * 16 + a)) 32 := vp_in_nI (by omega) (by omega)
  have ib : vp_in (nI (s * 16 + b)) 32 := vp_in_nI (by omega) (by omega)
  have ca : (nI (s * 16 + a)).toNatClampNeg = s * 16 + a := za_cl (by omega)
  have cb : (nI (s * 16 + b)).toNatClampNeg = s * 16 + b := za_cl (by omega)
  have ua := hNU (s * 16 + a)
  have ub := hNU (s * 16 + b)
  have fin : ∀ v, v < 2 → v = (if NU (s * 16 + a) = 0 then (if NU (s * 16 + b) = 0 then 0 else 1) else 1) →
      wX_union_146 post (wX_union_96 post (nI b) (nI a) (nI n) m) (nI b) (nI a) (nI n) (nI (s * 16)) (nI (s * 16 + a)) (nI (s * 16 + b)) (nI v) (nI (s * 16 + n)) kC kI kE kN kS kU kT nl ll us dp tk ot rt kd ag lf sz lb (za_n NU) (za_n FI) (za_n LA) fo be ne en wd ln tn tv te ts tz := by
    intro v hv ev
    unfold wX_union_146
    rw [ca, cb, za_ap FI, za_ap FI, za_ap LA, za_ap LA, za_or, za_or]
    refine ⟨ia, ib, ia, ib, zx_setl (by omega) hv (nm_r (e' := nI (s * 16 + 16)) (za_add (s * 16) 16) ?_)⟩
    rw [ev]
    exact h
  simp only [wX_union_96]
  refine br_f (fun z => by have := (za_lt (a := 16) (b := s * 16) (by omega) (by omega)).mp z; omega) ?_
  refine nm_r (za_add (s * 16) a) (nm_r (za_add (s * 16) b) ?_)
  rw [ca, cb, za_add]
  refine ⟨ia, za_br (za_e0 (x := NU (s * 16 + a)) (by omega)) (fun z => ⟨ib, za_br (za_e0 (x := NU (s * 16 + b)) (by omega)) (fun w => ?_) (fun w => ?_)⟩) (fun z => ?_)⟩
  · exact fin 0 (by omega) (by rw [if_pos z, if_pos w])
  · unfold wX_union_141
    exact fin 1 (by omega) (by rw [if_pos z, if_neg w])
  · unfold wX_union_141
    exact fin 1 (by omega) (by rw [if_neg z])
theorem zx_s94 {post : Int32 → SX → Prop} {NU FI LA FO : Nat → Nat} {s a n m : Nat} (hs : s < 2) (ha : a < 16) (hn : n < 16) (an : a ≠ n) (hLA : ∀ i, LA i < 65536)
    (h : wX_star_94 post (nI a) (nI n) m (nI (s + 1)) kC kI kE kN kS kU kT nl ll us dp tk ot rt kd ag lf sz lb (za_n (zx_cN NU s n)) (za_n (zx_cF FI s n a)) (za_n (zx_cF LA s n a)) (za_n (zx_lk FO s (LA (s * 16 + a)) (FI (s * 16 + a)))) be ne en wd ln tn tv te ts tz) :
    wX_star_94 post (nI a) (nI n) (m + 1) (nI s) kC kI kE kN kS kU kT nl ll us dp tk ot rt kd ag lf sz lb (za_n NU) (za_n FI) (za_n LA) (za_n FO) be ne en wd ln tn tv te ts tz := by
  have ia : vp_in (nI (s * 16 + a)) 32 := vp_in_nI (by omega) (by omega)
  have ca : (nI (s * 16 + a)).toNatClampNeg = s * 16 + a := za_cl (by omega)
  rw [wX_star_94]
  refine br_f (fun z => by have := (za_le (a := 2) (b := s) (by omega) (by omega)).mp z; omega) ?_
  refine nm_r (za_ix s a) ?_
  rw [ca, za_ix]
  refine ⟨ia, ia, zx_setl (b := 1) (f := FI (s * 16 + a)) (l := LA (s * 16 + a)) (by omega) (by omega) ?_⟩
  have e1 : za_n (za_u LA (s * 16 + n) (LA (s * 16 + a))) (s * 16 + a) = nI (LA (s * 16 + a)) := by rw [za_ap, za_un (by omega)]
  have e2 : za_n (za_u FI (s * 16 + n) (FI (s * 16 + a))) (s * 16 + a) = nI (FI (s * 16 + a)) := by rw [za_ap, za_un (by omega)]
  refine ⟨ia, ia, ?_⟩
  rw [e1, e2]
  exact zx_link hs (hLA _) (nm_r (nI_1 s) h)
end
section
theorem zx_union {post : Int32 → SX → Prop} {NL L US D : Nat} {RT KD AG LF SZ LB NU FI LA FO SC LG WY BE NE EN WD LN : Nat → Nat} {tk ot : Int32} {tn tv te ts tz : Nat → Int32} (I : zi_Inv NL L US D RT KD AG LF SZ LB NU FI LA FO SC LG WY)
    (h1 : D < 2 → post (-1) (0, 1, 2, 3, 4, 5, 6, nI NL, nI L, nI US, nI D, tk, ot, za_n RT, za_n KD, za_n AG, za_n LF, za_n SZ, za_n LB, za_n NU, za_n FI, za_n LA, za_n FO, za_n BE, za_n NE, za_n EN, za_n WD, za_n LN, tn, tv, te, ts, tz))
    (h2 : ∀ d, D = d + 2 → NL ≤ US → post (-2) (0, 1, 2, 3, 4, 5, 6, nI NL, nI L, nI US, nI D, tk, ot, za_n RT, za_n KD, za_n AG, za_n LF, za_n SZ, za_n LB, za_n NU, za_n FI, za_n LA, za_n FO, za_n BE, za_n NE, za_n EN, za_n WD, za_n LN, tn, tv, te, ts, tz))
    (h3 : ∀ d, D = d + 2 → US < NL → ∀ r BE NE, r < 65536 → r ≠ 0 → zx_ov L NU FI LA FO LB (RT d) (RT (d + 1)) r → post (-1000 - nI r) (0, 1, 2, 3, 4, 5, 6, nI NL, nI L, nI US, nI D, tk, ot, za_n RT, za_n KD, za_n AG, za_n LF, za_n SZ, za_n LB, za_n NU, za_n FI, za_n LA, za_n FO, za_n BE, za_n NE, za_n EN, za_n WD, za_n LN, tn, tv, te, ts, tz))
    (h5 : ∀ d, D = d + 2 → US < NL → ∀ BE NE, zx_ov L NU FI LA FO LB (RT d) (RT (d + 1)) 0 → post (nI (d + 1)) (0, 1, 2, 3, 4, 5, 6, nI NL, nI L, nI (US + 1), nI (d + 1), tk, ot, za_n (za_u RT d US), za_n (za_u KD US 5), za_n (za_u AG US 0), za_n (za_u LF US (RT d)), za_n (za_u SZ US (1 + SZ (RT d) + SZ (RT (d + 1)))), za_n (za_u (za_u LB US 0) (US + 16) 0), za_n (zx_uN (zx_uN NU 0 US (RT d) (RT (d + 1))) 1 US (RT d) (RT (d + 1))), za_n (zx_uF (zx_uF FI 0 US (RT d) (RT (d + 1))) 1 US (RT d) (RT (d + 1))), za_n (zx_uF (zx_uF LA 0 US (RT d) (RT (d + 1))) 1 US (RT d) (RT (d + 1))), za_n (za_u (za_u FO US 0) (US + 16) 0), za_n BE, za_n NE, za_n EN, za_n WD, za_n LN, tn, tv, te, ts, tz)) :
    wpX_union post (0, 1, 2, 3, 4, 5, 6, nI NL, nI L, nI US, nI D, tk, ot, za_n RT, za_n KD, za_n AG, za_n LF, za_n SZ, za_n LB, za_n NU, za_n FI, za_n LA, za_n FO, za_n BE, za_n NE, za_n EN, za_n WD, za_n LN, tn, tv, te, ts, tz) := by
  have hL : L ≤ 8 := I.1.2.2.2.1
  have hL2 : 2 ≤ L := I.1.2.2.1
  have hNL : NL ≤ 16 := I.1.2.1
  have hU : US ≤ NL := I.1.2.2.2.2
  have hD := zi_D I.2.1
  obtain ⟨bLB, bNU, bFI, bLA, bFO⟩ := I.2.2.2.2.1
  unfold wpX_union
  refine za_br (za_le (a := 2) (by omega) (by omega)) (fun hd => ?_) (fun hd => h1 (by omega))
  obtain ⟨d, rfl⟩ : ∃ d, D = d + 2 := ⟨D - 2, by omega⟩
  refine za_br (za_lt (by omega) (by omega)) (fun hu => ?_) (fun hu => h2 d rfl (by omega))
  have h3' := h3 d rfl hu
  have h5' := h5 d rfl hu
  clear h1 h2 h3 h5
  obtain ⟨t1, t2, t3, t4, t5⟩ := zi_top2 I.2.1
  have e2 : nI (d + 2) - 1 = nI (d + 1) := nI_pred (d + 1)
  have e3 : nI (d + 2) - 2 = nI d := za_sub (a := d + 2) (b := 2) (by omega)
  have cd : (nI d).toNatClampNeg = d := za_cl (by omega)
  have cd1 : (nI (d + 1)).toNatClampNeg = d + 1 := za_cl (by omega)
  rw [e2, e3, cd, cd1]
  refine ⟨vp_in_nI (by omega) (by omega), nm_e ⟨vp_in_nI (by omega) (by omega), nm_e ?_⟩⟩
  refine zx_over (by omega) (by omega) (by omega) hL bLB bNU bFI bLA bFO (fun n1 n2 => ?_) (fun hn r BE NE hr hM => ?_)
  · exact br_f (by decide) (h3' 1 BE NE (by omega) (by omega) (Or.inl ⟨n1, n2, rfl⟩))
  refine za_br (za_le0 (by omega)) (fun r0 => ?_) (fun r0 => h3' r BE NE hr r0 (Or.inr ⟨hn, hM⟩))
  subst r0
  have h5'' := h5' BE NE (Or.inr ⟨hn, hM⟩)
  have e1 : (1 : Int32) + nI (SZ (RT d)) + nI (SZ (RT (d + 1))) = nI (1 + SZ (RT d) + SZ (RT (d + 1))) := by
    show nI 1 + _ + _ = _
    rw [za_add, za_add]
  have ca : (nI (RT d)).toNatClampNeg = RT d := za_cl (by omega)
  have cb : (nI (RT (d + 1))).toNatClampNeg = RT (d + 1) := za_cl (by omega)
  rw [za_ap RT, za_ap RT, ca, cb, za_ap SZ, za_ap SZ, e1]
  refine ⟨vp_in_nI (by omega) (by omega), vp_in_nI (by omega) (by omega), zx_addn (k := 5) (a := 0) (by omega) (Exists.intro 3 ?_)⟩
  refine zx_u96 (s := 0) (by omega) (by omega) (by omega) (by omega) bNU ?_
  refine zx_u96 (s := 1) (by omega) (by omega) (by omega) (by omega) (zx_uNb bNU) ?_
  simp only [wX_union_96]
  refine br_t (by decide) ?_
  have e4 : nI (d + 1) - 1 = nI d := nI_pred d
  unfold wpX_replaceTwo
  refine nm_r e2 ?_
  rw [e4, cd]
  exact ⟨vp_in_nI (by omega) (by omega), nm_r (za_upd RT d US) h5''⟩
theorem zx_star {post : Int32 → SX → Prop} {NL L US D : Nat} {RT KD AG LF SZ LB NU FI LA FO SC LG WY BE NE EN WD LN : Nat → Nat} {tk ot : Int32} {tn tv te ts tz : Nat → Int32} (I : zi_Inv NL L US D RT KD AG LF SZ LB NU FI LA FO SC LG WY)
    (h1 : D < 1 → post (-1) (0, 1, 2, 3, 4, 5, 6, nI NL, nI L, nI US, nI D, tk, ot, za_n RT, za_n KD, za_n AG, za_n LF, za_n SZ, za_n LB, za_n NU, za_n FI, za_n LA, za_n FO, za_n BE, za_n NE, za_n EN, za_n WD, za_n LN, tn, tv, te, ts, tz))
    (h2 : ∀ d, D = d + 1 → NL ≤ US → post (-2) (0, 1, 2, 3, 4, 5, 6, nI NL, nI L, nI US, nI D, tk, ot, za_n RT, za_n KD, za_n AG, za_n LF, za_n SZ, za_n LB, za_n NU, za_n FI, za_n LA, za_n FO, za_n BE, za_n NE, za_n EN, za_n WD, za_n LN, tn, tv, te, ts, tz))
    (h3 : ∀ d, D = d + 1 → US < NL → ∀ r BE NE, r < 65536 → r ≠ 0 → zx_it L NU FI LA FO LB 0 (RT d) r → post (-1000 - nI r) (0, 1, 2, 3, 4, 5, 6, nI NL, nI L, nI US, nI D, tk, ot, za_n RT, za_n KD, za_n AG, za_n LF, za_n SZ, za_n LB, za_n NU, za_n FI, za_n LA, za_n FO, za_n BE, za_n NE, za_n EN, za_n WD, za_n LN, tn, tv, te, ts, tz))
    (h4 : ∀ d, D = d + 1 → US < NL → zx_it L NU FI LA FO LB 0 (RT d) 0 → ∀ r BE NE, r < 65536 → r ≠ 0 → zx_it L NU FI LA FO LB 1 (RT d) r → post (-2000 - nI r) (0, 1, 2, 3, 4, 5, 6, nI NL, nI L, nI US, nI D, tk, ot, za_n RT, za_n KD, za_n AG, za_n LF, za_n SZ, za_n LB, za_n NU, za_n FI, za_n LA, za_n FO, za_n BE, za_n NE, za_n EN, za_n WD, za_n LN, tn, tv, te, ts, tz))
    (h5 : ∀ d, D = d + 1 → US < NL → zx_it L NU FI LA FO LB 0 (RT d) 0 → zx_it L NU FI LA FO LB 1 (RT d) 0 → ∀ BE NE, post (nI (d + 1)) (0, 1, 2, 3, 4, 5, 6, nI NL, nI L, nI (US + 1), nI (d + 1), tk, ot, za_n (za_u RT d US), za_n (za_u KD US 6), za_n (za_u AG US 0), za_n (za_u LF US (RT d)), za_n (za_u SZ US (1 + SZ (RT d))), za_n (za_u (za_u LB US 0) (US + 16) 0), za_n (zx_cN (zx_cN NU 0 US) 1 US), za_n (zx_cF (zx_cF FI 0 US (RT d)) 1 US (RT d)), za_n (zx_cF (zx_cF LA 0 US (RT d)) 1 US (RT d)), za_n (zx_lk (zx_lk (za_u (za_u FO US 0) (US + 16) 0) 0 (LA (0 * 16 + RT d)) (FI (0 * 16 + RT d))) 1 (zx_cF LA 0 US (RT d) (1 * 16 + RT d)) (zx_cF FI 0 US (RT d) (1 * 16 + RT d))), za_n BE, za_n NE, za_n EN, za_n WD, za_n LN, tn, tv, te, ts, tz)) :
    wpX_star post (0, 1, 2, 3, 4, 5, 6, nI NL, nI L, nI US, nI D, tk, ot, za_n RT, za_n KD, za_n AG, za_n LF, za_n SZ, za_n LB, za_n NU, za_n FI, za_n LA, za_n FO, za_n BE, za_n NE, za_n EN, za_n WD, za_n LN, tn, tv, te, ts, tz) := by
  have hL : L ≤ 8 := I.1.2.2.2.1
  have hL2 : 2 ≤ L := I.1.2.2.1
  have hNL : NL ≤ 16 := I.1.2.1
  have hU : US ≤ NL := I.1.2.2.2.2
  have hD := zi_D I.2.1
  obtain ⟨bLB, bNU, bFI, bLA, bFO⟩ := I.2.2.2.2.1
  unfold wpX_star
  refine za_br (za_le (a := 1) (by omega) (by omega)) (fun hd => ?_) (fun hd => h1 (by omega))
  obtain ⟨d, rfl⟩ : ∃ d, D = d + 1 := ⟨D - 1, by omega⟩
  refine za_br (za_lt (by omega) (by omega)) (fun hu => ?_) (fun hu => h2 d rfl (by omega))
  have h3' := h3 d rfl hu
  have h4' := h4 d rfl hu
  have h5' := h5 d rfl hu
  clear h1 h2 h3 h4 h5
  obtain ⟨t1, t2, t3⟩ := zi_top I.2.1
  have e2 : nI (d + 1) - 1 = nI d := nI_pred d
  have cd : (nI d).toNatClampNeg = d := za_cl (by omega)
  rw [e2, cd]
  refine ⟨vp_in_nI (by omega) (by omega), nm_e ?_⟩
  refine zx_iter (s := 0) (by omega) (by omega) (by omega) hL bLB bNU bFI bLA bFO (fun n1 => ?_) (fun hn r BE NE hr hM => ?_)
  · exact br_f (by decide) (h3' 1 BE NE (by omega) (by omega) (Or.inl ⟨n1, rfl⟩))
  refine za_br (za_le0 (by omega)) (fun r0 => ?_) (fun r0 => h3' r BE NE hr r0 (Or.inr ⟨hn, hM⟩))
  subst r0
  have h4'' := h4' (Or.inr ⟨hn, hM⟩)
  have h5'' := h5' (Or.inr ⟨hn, hM⟩)
  refine zx_iter (s := 1) (by omega) (by omega) (by omega) hL bLB bNU bFI bLA bFO (fun n1 => ?_) (fun hn r BE NE hr hM => ?_)
  · exact br_f (by decide) (h4'' 1 BE NE (by omega) (by omega) (Or.inl ⟨n1, rfl⟩))
  refine za_br (za_le0 (by omega)) (fun r0 => ?_) (fun r0 => h4'' r BE NE hr r0 (Or.inr ⟨hn, hM⟩))
  subst r0
  have h6 := h5'' (Or.inr ⟨hn, hM⟩) BE NE
  have e1 : (1 : Int32) + nI (SZ (RT d)) = nI (1 + SZ (RT d)) := za_add 1 _
  have ca : (nI (RT d)).toNatClampNeg = RT d := za_cl (by omega)
  rw [za_ap RT, ca, za_ap SZ, e1]
  refine ⟨vp_in_nI (by omega) (by omega), zx_addn (k := 6) (a := 0) (by omega) (Exists.intro 3 ?_)⟩
  refine zx_s94 (s := 0) (by omega) (by omega) (by omega) (by omega) bLA ?_
  refine zx_s94 (s := 1) (by omega) (by omega) (by omega) (by omega) (zx_cFb bLA) ?_
  simp only [wX_star_94]
  refine br_t (by decide) ?_
  rw [e2, cd]
  exact ⟨vp_in_nI (by omega) (by omega), nm_r (za_upd RT d US) h6⟩
end
end
section
/-! union and star, owed -/
section
theorem zy_combU {post : Int32 → SY → Prop} {NL L US d : Nat} {RT KD AG LF SZ LB NU FI LA FO SC LG WY : Nat → Nat} {tp : Int32} {yn yv yo : Nat → Int32} (I : zi_Inv NL L US (d + 2) RT KD AG LF SZ LB NU FI LA FO SC LG WY) (hu : US < NL)
    (h3 : ∀ r, zm_M r (fun v => 1 ≤ v ∧ v < 2 ^ (L + 1) ∧ 2 ≤ zy_uni LG (RT d) (RT (d + 1)) 0 v) → r ≠ 0 → post (-1000 - nI r) (nI NL, nI L, nI (d + 2), tp, za_n RT, za_n KD, za_n AG, za_n LF, za_n SC, za_n SZ, za_n LG, za_n (zy_wp WY 0 (zy_uni LG (RT d) (RT (d + 1)) 0) (2 ^ (L + 1))), yn, yv, yo))
    (h5 : zm_M 0 (fun v => 1 ≤ v ∧ v < 2 ^ (L + 1) ∧ 2 ≤ zy_uni LG (RT d) (RT (d + 1)) 0 v) → post (nI (d + 1)) (nI NL, nI L, nI (d + 1), tp, za_n (za_u RT d US), za_n (za_u KD US 5), za_n (za_u AG US 0), za_n (za_u LF US (RT d)), za_n (za_u SC US (RT (d + 1))), za_n (za_u SZ US (1 + SZ (RT d) + SZ (RT (d + 1)))), za_n (zy_lp LG (zy_w2 WY (2 ^ (L + 1)) (zy_uni LG (RT d) (RT (d + 1)) 0) (zy_uni LG (RT d) (RT (d + 1)) 1)) US 1024), za_n (zy_w2 WY (2 ^ (L + 1)) (zy_uni LG (RT d) (RT (d + 1)) 0) (zy_uni LG (RT d) (RT (d + 1)) 1)), yn, yv, yo)) :
    wpY_combine post (nI NL, nI L, nI (d + 2), tp, za_n RT, za_n KD, za_n AG, za_n LF, za_n SC, za_n SZ, za_n LG, za_n WY, yn, yv, yo) 5 2 := by
  have hL : L ≤ 8 := I.1.2.2.2.1
  have hNL : NL ≤ 16 := I.1.2.1
  have hD := zi_D I.2.1
  have bG := I.2.2.2.2.2.1.1
  have bW := I.2.2.2.2.2.1.2
  obtain ⟨t1, t2, t3, t4, t5⟩ := zi_top2 I.2.1
  have e2 : nI (d + 2) - 1 = nI (d + 1) := nI_pred (d + 1)
  have e3 : nI (d + 2) - 2 = nI d := za_sub (a := d + 2) (b := 2) (by omega)
  have cd : (nI d).toNatClampNeg = d := za_cl (by omega)
  have cd1 : (nI (d + 1)).toNatClampNeg = d + 1 := za_cl (by omega)
  have bW2 : ∀ i, zy_w2 WY (2 ^ (L + 1)) (zy_uni LG (RT d) (RT (d + 1)) 0) (zy_uni LG (RT d) (RT (d + 1)) 1) i < 65536 := zy_w2b bW (fun w _ _ => zy_uniB _ _ _ _ _) (fun w _ _ => zy_uniB _ _ _ _ _)
  unfold wpY_combine
  refine br_t ((za_le (a := 2) (by omega) (by omega)).mpr (by omega)) (zy_tot I.2.1 (by omega) (br_t ((za_lt (by omega) (by omega)).mpr hu) ?_))
  rw [e2, e3, cd, cd1]
  refine ⟨vp_in_nI (by omega) (by omega), nm_e ⟨vp_in_nI (by omega) (by omega), nm_e ?_⟩⟩
  refine zy_cwu (s := 0) (by omega) (by omega) (by omega) hL bG (fun r hr hM => ?_)
  refine za_br (za_le0 (by omega)) (fun r0 => ?_) (fun r0 => h3 r hM r0)
  subst r0
  refine br_f (by decide) ?_
  refine zy_cwu (s := 1) (by omega) (by omega) (by omega) hL bG (fun r hr hM1 => ?_)
  have fin : wY_combine_117 post 5 2 (nI NL) (nI L) (nI (d + 2)) tp (za_n RT) (za_n KD) (za_n AG) (za_n LF) (za_n SC) (za_n SZ) (za_n LG) (za_n (zy_w2 WY (2 ^ (L + 1)) (zy_uni LG (RT d) (RT (d + 1)) 0) (zy_uni LG (RT d) (RT (d + 1)) 1))) yn yv yo := by
    unfold wY_combine_117
    exact zy_rep2 (k := 5) (a := 0) I.2.1 (by omega) bW2 (h5 hM)
  show wY_combine_98 _ _ _ _ _ _ _ _ _ _ _ _ _ _ _ _ _ _ _
  unfold wY_combine_98
  exact br_c (fun _ => fin) (fun _ => br_t rfl fin)
theorem zy_combS {post : Int32 → SY → Prop} {NL L US d : Nat} {RT KD AG LF SZ LB NU FI LA FO SC LG WY : Nat → Nat} {tp : Int32} {yn yv yo : Nat → Int32} (I : zi_Inv NL L US (d + 1) RT KD AG LF SZ LB NU FI LA FO SC LG WY) (hu : US < NL)
    (h3 : zy_h LG (RT d) 0 1 = true → post (-1000 - nI 1) (nI NL, nI L, nI (d + 1), tp, za_n RT, za_n KD, za_n AG, za_n LF, za_n SC, za_n SZ, za_n LG, za_n WY, yn, yv, yo))
    (h3' : zy_h LG (RT d) 0 1 = false → ∀ r, zm_M r (fun v => 1 ≤ v ∧ v < 2 ^ (L + 1) ∧ 2 ≤ zy_sta LG (RT d) 0 v) → r ≠ 0 → post (-1000 - nI r) (nI NL, nI L, nI (d + 1), tp, za_n RT, za_n KD, za_n AG, za_n LF, za_n SC, za_n SZ, za_n LG, za_n (zy_wp WY 0 (zy_sta LG (RT d) 0) (2 ^ (L + 1))), yn, yv, yo))
    (h4 : zy_h LG (RT d) 0 1 = false → zm_M 0 (fun v => 1 ≤ v ∧ v < 2 ^ (L + 1) ∧ 2 ≤ zy_sta LG (RT d) 0 v) → zy_h LG (RT d) 1 1 = true → post (-2000 - nI 1) (nI NL, nI L, nI (d + 1), tp, za_n RT, za_n KD, za_n AG, za_n LF, za_n SC, za_n SZ, za_n LG, za_n (zy_wp WY 0 (zy_sta LG (RT d) 0) (2 ^ (L + 1))), yn, yv, yo))
    (h4' : zy_h LG (RT d) 0 1 = false → zm_M 0 (fun v => 1 ≤ v ∧ v < 2 ^ (L + 1) ∧ 2 ≤ zy_sta LG (RT d) 0 v) → zy_h LG (RT d) 1 1 = false → ∀ r, zm_M r (fun v => 1 ≤ v ∧ v < 2 ^ (L + 1) ∧ 2 ≤ zy_sta LG (RT d) 1 v) → r ≠ 0 → post (-2000 - nI r) (nI NL, nI L, nI (d + 1), tp, za_n RT, za_n KD, za_n AG, za_n LF, za_n SC, za_n SZ, za_n LG, za_n (zy_w2 WY (2 ^ (L + 1)) (zy_sta LG (RT d) 0) (zy_sta LG (RT d) 1)), yn, yv, yo))
    (h5 : zy_h LG (RT d) 0 1 = false → zm_M 0 (fun v => 1 ≤ v ∧ v < 2 ^ (L + 1) ∧ 2 ≤ zy_sta LG (RT d) 0 v) → zy_h LG (RT d) 1 1 = false → zm_M 0 (fun v => 1 ≤ v ∧ v < 2 ^ (L + 1) ∧ 2 ≤ zy_sta LG (RT d) 1 v) → post (nI (d + 1)) (nI NL, nI L, nI (d + 1), tp, za_n (za_u RT d US), za_n (za_u KD US 6), za_n (za_u AG US 0), za_n (za_u LF US (RT d)), za_n (za_u SC US (RT d)), za_n (za_u SZ US (1 + SZ (RT d))), za_n (zy_lp LG (zy_w2 WY (2 ^ (L + 1)) (zy_sta LG (RT d) 0) (zy_sta LG (RT d) 1)) US 1024), za_n (zy_w2 WY (2 ^ (L + 1)) (zy_sta LG (RT d) 0) (zy_sta LG (RT d) 1)), yn, yv, yo)) :
    wpY_combine post (nI NL, nI L, nI (d + 1), tp, za_n RT, za_n KD, za_n AG, za_n LF, za_n SC, za_n SZ, za_n LG, za_n WY, yn, yv, yo) 6 1 := by
  have hL : L ≤ 8 := I.1.2.2.2.1
  have hNL : NL ≤ 16 := I.1.2.1
  have hD := zi_D I.2.1
  have bG := I.2.2.2.2.2.1.1
  have bW := I.2.2.2.2.2.1.2
  have p9 : 2 ^ (L + 1) ≤ 2 ^ 9 := za_p2 (by omega)
  obtain ⟨t1, t2, t3⟩ := zi_top I.2.1
  have e2 : nI (d + 1) - 1 = nI d := nI_pred d
  have cd : (nI d).toNatClampNeg = d := za_cl (by omega)
  unfold wpY_combine
  refine br_t ((za_le (a := 1) (by omega) (by omega)).mpr (by omega)) (zy_tot I.2.1 (by omega) (br_t ((za_lt (by omega) (by omega)).mpr hu) ?_))
  rw [e2, cd]
  refine ⟨vp_in_nI (by omega) (by omega), nm_e ⟨vp_in_nI (by omega) (by omega), nm_e ?_⟩⟩
  refine zy_cws (s := 0) (y := RT d) (by omega) (by omega) hL bG (fun q => br_f (by decide) (h3 q)) (fun q r hr hM => ?_)
  refine za_br (za_le0 (by omega)) (fun r0 => ?_) (fun r0 => h3' q r hM r0)
  subst r0
  refine br_f (by decide) ?_
  refine zy_cws (s := 1) (y := RT d) (by omega) (by omega) hL bG (fun q1 => ?_) (fun q1 r hr hM1 => ?_)
  · show wY_combine_98 _ _ _ _ _ _ _ _ _ _ _ _ _ _ _ _ _ _ _
    unfold wY_combine_98
    exact br_f (by decide) (br_f (by decide) (h4 q hM q1))
  · show wY_combine_98 _ _ _ _ _ _ _ _ _ _ _ _ _ _ _ _ _ _ _
    unfold wY_combine_98
    refine za_br (za_le0 (by omega)) (fun r0 => ?_) (fun r0 => br_f (by decide) (h4' q hM q1 r hM1 r0))
    subst r0
    unfold wY_combine_117
    have bW2 : ∀ i, zy_w2 WY (2 ^ (L + 1)) (zy_sta LG (RT d) 0) (zy_sta LG (RT d) 1) i < 65536 := zy_w2b bW (fun w h1 h2 => zy_staB' q h1 (by omega)) (fun w h1 h2 => zy_staB' q1 h1 (by omega))
    exact zy_rep1 (k := 6) (a := 0) I.2.1 (by omega) bW2 (h5 q hM q1 hM1)
end
theorem zi_clU {NL L US d r r' : Nat} {RT KD AG LF SZ LB NU FI LA FO SC LG WY : Nat → Nat} (I : zi_Inv NL L US (d + 2) RT KD AG LF SZ LB NU FI LA FO SC LG WY)
    (hX : zx_ov L NU FI LA FO LB (RT d) (RT (d + 1)) r) (hY : zm_M r' (fun v => 1 ≤ v ∧ v < 2 ^ (L + 1) ∧ 2 ≤ zy_uni LG (RT d) (RT (d + 1)) 0 v)) : r' = r := by
  have p3 : 2 ^ 3 ≤ 2 ^ (L + 1) := za_p2 (by have := I.1.2.2.1; omega)
  obtain ⟨t1, t2, t3, t4, t5⟩ := zi_top2 I.2.1
  have Aa := I.2.2.2.1 d (by omega) 0 (by omega)
  have Ab := I.2.2.2.1 (d + 1) (by omega) 0 (by omega)
  have dj := fun q => zl_Pd (SZ := SZ) (a := RT d) (b := RT (d + 1)) (r := US) t1 t3 q
  have na := zl_nu Aa (by omega)
  have nb := zl_nu Ab (by omega)
  rw [Nat.zero_mul, Nat.zero_add] at na nb
  have eu : zy_uni LG (RT d) (RT (d + 1)) 0 1 = 0 + (zy_h LG (RT d) 0 1).toNat + (zy_h LG (RT (d + 1)) 0 1).toNat := rfl
  rcases hX with ⟨h1, h2, rfl⟩ | ⟨hn, hM⟩
  · have := hY.1 1 ⟨by omega, by omega, by rw [eu, na.mp h1, nb.mp h2]; decide⟩
    omega
  · refine zl_clash (W := zy_uni LG (RT d) (RT (d + 1)) 0) (fun w h2 hw => ?_) hM ?_ hY
    · have := zl_uniC Aa Ab dj h2 hw
      rw [Nat.zero_mul, Nat.zero_add, Nat.zero_add] at this
      exact this
    · rw [eu]
      rcases hn with z | z
      · have : zy_h LG (RT d) 0 1 = false := by
          cases c : zy_h LG (RT d) 0 1
          · rfl
          · exact absurd z (na.mpr c)
        rw [this]
        cases zy_h LG (RT (d + 1)) 0 1 <;> decide
      · have : zy_h LG (RT (d + 1)) 0 1 = false := by
          cases c : zy_h LG (RT (d + 1)) 0 1
          · rfl
          · exact absurd z (nb.mpr c)
        rw [this]
        cases zy_h LG (RT d) 0 1 <;> decide
theorem zi_clS {NL L US d s r : Nat} {RT KD AG LF SZ LB NU FI LA FO SC LG WY : Nat → Nat} (I : zi_Inv NL L US (d + 1) RT KD AG LF SZ LB NU FI LA FO SC LG WY) (hs : s < 2) (hX : zx_it L NU FI LA FO LB s (RT d) r) :
    (zy_h LG (RT d) s 1 = true → r = 1) ∧ (zy_h LG (RT d) s 1 = false → ∀ r', zm_M r' (fun v => 1 ≤ v ∧ v < 2 ^ (L + 1) ∧ 2 ≤ zy_sta LG (RT d) s v) → r' = r) ∧ (r = 0 → zy_h LG (RT d) s 1 = false) := by
  have p3 : 2 ^ 3 ≤ 2 ^ (L + 1) := za_p2 (by have := I.1.2.2.1; omega)
  have p9 : 2 ^ (L + 1) ≤ 2 ^ 9 := za_p2 (by have := I.1.2.2.2.1; omega)
  have A := I.2.2.2.1 d (by omega) s hs
  have na := zl_nu A (by omega)
  rcases hX with ⟨h1, rfl⟩ | ⟨hn, hM⟩
  · refine ⟨fun _ => rfl, fun z => ?_, fun z => by omega⟩
    rw [na.mp h1] at z
    cases z
  · have f : zy_h LG (RT d) s 1 = false := by
      cases c : zy_h LG (RT d) s 1
      · rfl
      · exact absurd hn (na.mpr c)
    refine ⟨(fun z => by rw [f] at z; cases z), fun _ r' hY => ?_, fun _ => f⟩
    refine zl_clash (W := zy_sta LG (RT d) s) (fun w h2 hw => ?_) hM (by rw [zy_sta1]; exact Nat.le_refl 1) hY
    exact zl_staC (by omega) A hn (zy_sta1 _ _ _) (fun w h2 hw => zy_staS f h2 (by omega)) w h2 hw
theorem i_vc_union {k : Nat} {u : SX} {v : SY} (I : i_Rel k u v) (hk : k + 4 ≤ 2050) : wpX_union (fun r u' => wpY_union (fun r' v' => r' = r ∧ i_Rel (k + 4) u' v') v) u := by
  refine zi_el (P := fun u v => wpX_union (fun r u' => wpY_union (fun r' v' => r' = r ∧ i_Rel (k + 4) u' v') v) u) ?_ I
  intro NL L US D RT KD AG LF SZ LB NU FI LA FO SC LG WY BE NE EN WD LN tk ot tp tn tv te ts tz yn yv yo I
  have hNL : NL ≤ 16 := I.1.2.1
  have hU : US ≤ NL := I.1.2.2.2.2
  have hD := zi_D I.2.1
  refine zx_union I ?_ ?_ ?_ ?_
  · intro h
    unfold wpY_union
    exact zy_comb1 I (fun z => by have := (za_le (a := 2) (by omega) (by omega)).mp z; omega) ⟨rfl, zi_mk I⟩
  · rintro d rfl h
    unfold wpY_union
    exact zy_comb2 I ((za_le (a := 2) (by omega) (by omega)).mpr (by omega)) h ⟨rfl, zi_mk I⟩
  · rintro d rfl hu r BE' NE' hr r0 hX
    unfold wpY_union
    refine zy_combU I hu (fun r' hM' _ => ?_) (fun hM' => absurd (zi_clU I hX hM').symm r0)
    rw [zi_clU I hX hM']
    exact ⟨rfl, zi_mk (zi_wp I (fun w _ _ => zy_uniB _ _ _ _ _) 0 (by omega))⟩
  · rintro d rfl hu BE' NE' hX
    unfold wpY_union
    refine zy_combU I hu (fun r' hM' z => absurd (zi_clU I hX hM') z) (fun hM' => ?_)
    exact ⟨rfl, zi_mk (zi_uni I hu)⟩
theorem i_vc_star {k : Nat} {u : SX} {v : SY} (I : i_Rel k u v) (hk : k + 4 ≤ 2050) : wpX_star (fun r u' => wpY_star (fun r' v' => r' = r ∧ i_Rel (k + 4) u' v') v) u := by
  refine zi_el (P := fun u v => wpX_star (fun r u' => wpY_star (fun r' v' => r' = r ∧ i_Rel (k + 4) u' v') v) u) ?_ I
  intro NL L US D RT KD AG LF SZ LB NU FI LA FO SC LG WY BE NE EN WD LN tk ot tp tn tv te ts tz yn yv yo I
  have hNL : NL ≤ 16 := I.1.2.1
  have hU : US ≤ NL := I.1.2.2.2.2
  have hD := zi_D I.2.1
  have p9 : 2 ^ (L + 1) ≤ 2 ^ 9 := za_p2 (by have := I.1.2.2.2.1; omega)
  refine zx_star I ?_ ?_ ?_ ?_ ?_
  · intro h
    unfold wpY_star
    exact zy_comb1 I (fun z => by have := (za_le (a := 1) (by omega) (by omega)).mp z; omega) ⟨rfl, zi_mk I⟩
  · rintro d rfl h
    unfold wpY_star
    exact zy_comb2 I ((za_le (a := 1) (by omega) (by omega)).mpr (by omega)) h ⟨rfl, zi_mk I⟩
  · rintro d rfl hu r BE' NE' hr r0 hX
    unfold wpY_star
    obtain ⟨x1, x2, x3⟩ := zi_clS I (by omega) hX
    refine zy_combS I hu (fun q => ?_) (fun q r' hM' _ => ?_) (fun q hM' => absurd (x2 q 0 hM').symm r0) (fun q hM' => absurd (x2 q 0 hM').symm r0) (fun q hM' => absurd (x2 q 0 hM').symm r0)
    · rw [x1 q]
      exact ⟨rfl, zi_mk I⟩
    · rw [x2 q r' hM']
      exact ⟨rfl, zi_mk (zi_wp I (fun w h1 h2 => zy_staB' q h1 (by omega)) 0 (by omega))⟩
  · rintro d rfl hu hX0 r BE' NE' hr r0 hX
    unfold wpY_star
    obtain ⟨w1, w2, w3⟩ := zi_clS I (by omega) hX0
    obtain ⟨x1, x2, x3⟩ := zi_clS I (by omega) hX
    have f0 := w3 rfl
    refine zy_combS I hu (fun q => by rw [f0] at q; cases q) (fun q r' hM' z => absurd (w2 q r' hM') z) (fun q hM' q1 => ?_) (fun q hM' q1 r' hM1 _ => ?_) (fun q hM' q1 hM1 => absurd (x2 q1 0 hM1).symm r0)
    · rw [x1 q1]
      exact ⟨rfl, zi_mk (zi_wp I (fun w h1 h2 => zy_staB' q h1 (by omega)) 0 (by omega))⟩
    · rw [x2 q1 r' hM1]
      exact ⟨rfl, zi_mk (zi_wp (zi_wp I (fun w h1 h2 => zy_staB' q h1 (by omega)) 0 (by omega)) (fun w h1 h2 => zy_staB' q1 h1 (by omega)) 1 (by omega))⟩
  · rintro d rfl hu hX0 hX BE' NE'
    unfold wpY_star
    obtain ⟨w1, w2, w3⟩ := zi_clS I (by omega) hX0
    obtain ⟨x1, x2, x3⟩ := zi_clS I (by omega) hX
    have f0 := w3 rfl
    have f1 := x3 rfl
    refine zy_combS I hu (fun q => by rw [f0] at q; cases q) (fun q r' hM' z => absurd (w2 q r' hM') z) (fun q hM' q1 => by rw [f1] at q1; cases q1) (fun q hM' q1 r' hM1 z => absurd (x2 q1 r' hM1) z) (fun q hM' q1 hM1 => ?_)
    refine ⟨rfl, zi_mk (zi_sta I hu (fun s hs => ?_))⟩
    rcases (show s = 0 ∨ s = 1 by omega) with rfl | rfl
    · exact f0
    · exact f1
end
section
/-! evaluation: out, joins of words, cuts -/
/-- o letters so far (0: too long), then c letters m -/
def ze_j (N o c m : Nat) : Nat := if o = 0 then 0 else if o * 2 ^ c + m < N then o * 2 ^ c + m else 0
def ze_x (o : Nat) : Int32 := if o = 0 then -6 else nI o
theorem ze_j_lt {N o c m : Nat} (h : 0 < N) : ze_j N o c m < N := by
  unfold ze_j
  split
  · exact h
  · split
    · assumption
    · exact h
theorem ze_jj {N o c m b r : Nat} (hb : m = b * 2 ^ c + r) : ze_j N (ze_j N o 1 b) c r = ze_j N o (c + 1) m := by
  have p := zc_pp c
  unfold ze_j
  by_cases h0 : o = 0
  · rw [if_pos h0, if_pos rfl, if_pos h0]
  rw [if_neg h0, if_neg h0, Nat.pow_one]
  have e : (o * 2 + b) * 2 ^ c + r = o * 2 ^ (c + 1) + m := by
    rw [hb, Nat.add_mul, Nat.pow_succ, Nat.mul_comm (2 ^ c) 2, Nat.mul_assoc]
    omega
  have ge : o * 2 + b ≤ (o * 2 + b) * 2 ^ c := Nat.le_mul_of_pos_right _ p
  by_cases h1 : o * 2 + b < N
  · rw [if_pos h1, if_neg (by omega), e]
  · rw [if_neg h1, if_pos rfl, if_neg (by omega)]
section
variable {kC kI kE kN kS kU kT nl ll us dp tk ot : Int32} {rt kd ag lf sz lb nu fi la fo be ne en wd ln tn tv te ts tz : Nat → Int32}
theorem zx_app {post : SX → Prop} {L o b : Nat} (hL : L ≤ 8) (ho : o < 2 ^ (L + 1)) (hb : b < 2) (h : post (kC, kI, kE, kN, kS, kU, kT, nl, nI L, us, dp, tk, ze_x (ze_j (2 ^ (L + 1)) o 1 b), rt, kd, ag, lf, sz, lb, nu, fi, la, fo, be, ne, en, wd, ln, tn, tv, te, ts, tz)) : wpX_append post (kC, kI, kE, kN, kS, kU, kT, nl, nI L, us, dp, tk, ze_x o, rt, kd, ag, lf, sz, lb, nu, fi, la, fo, be, ne, en, wd, ln, tn, tv, te, ts, tz) (nI b) := by
  have p9 : 2 ^ (L + 1) ≤ 2 ^ 9 := za_p2 (by omega)
  unfold wpX_append
  dsimp only
  rw [za_sh2 (by omega)]
  by_cases h0 : o = 0
  · subst h0
    exact br_t (by decide) h
  · have e : ze_x o = nI o := if_neg h0
    rw [e]
    refine br_f (fun z => h0 ((za_le0 (by omega)).mp z)) ?_
    have e2 : (2 : Int32) * nI o + nI b = nI (2 * o + b) := by
      show nI 2 * nI o + nI b = _
      rw [za_mul, za_add]
    refine nm_r e2 ?_
    unfold ze_j at h
    rw [if_neg h0, Nat.pow_one] at h
    refine za_br (za_le (by omega) (by omega)) (fun z => ?_) (fun z => ?_)
    · rw [if_neg (by omega)] at h
      exact h
    · rw [if_pos (by omega), show o * 2 + b = 2 * o + b by omega] at h
      have e3 : ze_x (2 * o + b) = nI (2 * o + b) := if_neg (by omega)
      rw [e3] at h
      exact h
theorem zx_emb_l {post : SX → Prop} {L W low : Nat} (hL : L ≤ 8) (hW : W < 512) (hl : low ≤ 8) : ∀ c o f, c ≤ 8 → low + c ≤ 9 → c < f → o < 2 ^ (L + 1) → post (kC, kI, kE, kN, kS, kU, kT, nl, nI L, us, dp, tk, ze_x (ze_j (2 ^ (L + 1)) o c (W / 2 ^ low % 2 ^ c)), rt, kd, ag, lf, sz, lb, nu, fi, la, fo, be, ne, en, wd, ln, tn, tv, te, ts, tz) →
    wX_emitBits_5 post (nI W) (nI low) f (nI (low + c) - 1) kC kI kE kN kS kU kT nl (nI L) us dp tk (ze_x o) rt kd ag lf sz lb nu fi la fo be ne en wd ln tn tv te ts tz := by
  intro c
  induction c with
  | zero =>
    intro o f _ _ hf ho h
    obtain ⟨f, rfl⟩ : ∃ g, f = g + 1 := ⟨f - 1, by omega⟩
    rw [wX_emitBits_5]
    have e : ze_j (2 ^ (L + 1)) o 0 (W / 2 ^ low % 2 ^ 0) = o := by
      unfold ze_j
      rw [Nat.pow_zero, Nat.mod_one, Nat.mul_one, Nat.add_zero, if_pos ho]
      split
      · omega
      · rfl
    rw [e] at h
    refine br_t ?_ h
    rcases Nat.eq_zero_or_pos low with z | z
    · subst z
      decide
    · obtain ⟨q, rfl⟩ : ∃ q, low = q + 1 := ⟨low - 1, by omega⟩
      rw [Nat.add_zero, nI_pred]
      exact nI_lt (by omega) (by omega)
  | succ c ih =>
    intro o f h8 h9 hf ho h
    obtain ⟨f, rfl⟩ : ∃ g, f = g + 1 := ⟨f - 1, by omega⟩
    rw [wX_emitBits_5]
    have e0 : nI (low + (c + 1)) - 1 = nI (low + c) := nI_pred (low + c)
    rw [e0]
    refine br_f (fun z => by have := (za_lt (by omega) (by omega)).mp z; omega) ?_
    have e1 : (nI W >>> (nI (low + c) &&& 31)) &&& 1 = nI (W / 2 ^ (low + c) % 2) := by
      rw [za_shk (by omega) (by omega)]
      exact za_1 (za_dl _ _ (by omega))
    rw [e1]
    refine zx_app hL ho (by omega) (nm_r (e' := nI (low + c) - 1) (Int32.sub_eq_add_neg _ _).symm ?_)
    refine ih _ f (by omega) (by omega) (by omega) (ze_j_lt (zc_pp _)) ?_
    have em : W / 2 ^ low % 2 ^ (c + 1) = W / 2 ^ (low + c) % 2 * 2 ^ c + W / 2 ^ low % 2 ^ c := by
      rw [Nat.mod_pow_succ, Nat.pow_add 2 low c, ← Nat.div_div_eq_div_mul, Nat.mul_comm (2 ^ c), Nat.add_comm]
    rw [ze_jj em]
    exact h
theorem zx_emb {post : SX → Prop} {L W low c o : Nat} (hL : L ≤ 8) (hW : W < 512) (h9 : low + c ≤ 8) (ho : o < 2 ^ (L + 1)) (h : post (kC, kI, kE, kN, kS, kU, kT, nl, nI L, us, dp, tk, ze_x (ze_j (2 ^ (L + 1)) o c (W / 2 ^ low % 2 ^ c)), rt, kd, ag, lf, sz, lb, nu, fi, la, fo, be, ne, en, wd, ln, tn, tv, te, ts, tz)) :
    wpX_emitBits post (kC, kI, kE, kN, kS, kU, kT, nl, nI L, us, dp, tk, ze_x o, rt, kd, ag, lf, sz, lb, nu, fi, la, fo, be, ne, en, wd, ln, tn, tv, te, ts, tz) (nI W) (nI (low + c)) (nI low) := by
  unfold wpX_emitBits
  refine nm_e (Exists.intro (c + 1) ?_)
  exact zx_emb_l hL hW (by omega) c o (c + 1) (by omega) (by omega) (by omega) ho h
theorem zx_emit {post : SX → Prop} {L W s i j len o : Nat} {WD LN : Nat → Nat} (hL : L ≤ 8) (hs : s < 2) (hWD : WD s = W) (hLN : LN s = len) (hW : W < 512) (hl : len ≤ 8) (hi : i ≤ j) (hj : j ≤ len) (ho : o < 2 ^ (L + 1))
    (h : post (kC, kI, kE, kN, kS, kU, kT, nl, nI L, us, dp, tk, ze_x (ze_j (2 ^ (L + 1)) o (j - i) (W / 2 ^ (len - j) % 2 ^ (j - i))), rt, kd, ag, lf, sz, lb, nu, fi, la, fo, be, ne, en, za_n WD, za_n LN, tn, tv, te, ts, tz)) :
    wpX_emit post (kC, kI, kE, kN, kS, kU, kT, nl, nI L, us, dp, tk, ze_x o, rt, kd, ag, lf, sz, lb, nu, fi, la, fo, be, ne, en, za_n WD, za_n LN, tn, tv, te, ts, tz) (nI s) (nI i) (nI j) := by
  have is' : vp_in (nI s) 2 := vp_in_nI hs (by omega)
  unfold wpX_emit
  dsimp only
  rw [za_cl (show s < 2147483648 by omega), za_ap WD, za_ap LN, hWD, hLN, za_sub (show i ≤ len by omega), za_sub hj, show len - i = (len - j) + (j - i) by omega]
  exact ⟨is', is', is', zx_emb hL hW (by omega) ho h⟩
theorem zx_pt {post : SX → Prop} {t : Nat} {p0 p1 p2 p3 p4 : Int32} (ht : t < 64) (h : post (kC, kI, kE, kN, kS, kU, kT, nl, ll, us, dp, nI (t + 1), ot, rt, kd, ag, lf, sz, lb, nu, fi, la, fo, be, ne, en, wd, ln, upd tn t p0, upd tv t p1, upd te t p2, upd ts t p3, upd tz t p4)) : wpX_pushTask post (kC, kI, kE, kN, kS, kU, kT, nl, ll, us, dp, nI t, ot, rt, kd, ag, lf, sz, lb, nu, fi, la, fo, be, ne, en, wd, ln, tn, tv, te, ts, tz) p0 p1 p2 p3 p4 := by
  have it : vp_in (nI t) 64 := vp_in_nI ht (by omega)
  unfold wpX_pushTask
  dsimp only
  rw [za_cl (show t < 2147483648 by omega)]
  exact br_f (fun z => by have := (za_le (a := 64) (by omega) (by omega)).mp z; omega) ⟨it, nm_e ⟨it, nm_e ⟨it, nm_e ⟨it, nm_e ⟨it, nm_e (nm_r (nI_1 t) h)⟩⟩⟩⟩⟩
end
/-- the largest k below n with P k, or 0 -/
def ze_g (P : Nat → Bool) : Nat → Nat
  | 0 => 0
  | n + 1 => if P n = true then n else ze_g P n
theorem ze_g_sp {P : Nat → Bool} : ∀ n, (ze_g P n < n ∧ P (ze_g P n) = true ∧ ∀ k, ze_g P n < k → k < n → P k = false) ∨ (ze_g P n = 0 ∧ ∀ k, k < n → P k = false)
  | 0 => Or.inr ⟨rfl, fun k h => absurd h (Nat.not_lt_zero k)⟩
  | n + 1 => by
    unfold ze_g
    by_cases c : P n = true
    · rw [if_pos c]
      exact Or.inl ⟨by omega, c, fun k h1 h2 => by omega⟩
    · rw [if_neg c]
      have cf : P n = false := by
        cases e : P n
        · rfl
        · exact absurd e c
      rcases ze_g_sp n with ⟨h1, h2, h3⟩ | ⟨h1, h2⟩
      · refine Or.inl ⟨by omega, h2, fun k a b => ?_⟩
        by_cases e : k = n
        · rw [e]; exact cf
        · exact h3 k a (by omega)
      · refine Or.inr ⟨h1, fun k b => ?_⟩
        by_cases e : k = n
        · rw [e]; exact cf
        · exact h2 k (by omega)
def ze_q (LG : Nat → Nat) (x y s w k : Nat) : Bool := zy_h LG x s (w / 2 ^ k) && zy_h LG y s (zc_tl w k)
def ze_c (LG : Nat → Nat) (x y s w : Nat) : Nat := ze_g (ze_q LG x y s w) 9
theorem ze_c_le {LG : Nat → Nat} {x y s W len i j : Nat} : ze_c LG x y s (zc_sub W len i j) ≤ j - i := by
  unfold ze_c
  rcases ze_g_sp (P := ze_q LG x y s (zc_sub W len i j)) 9 with ⟨h1, h2, h3⟩ | ⟨h1, _⟩
  · rcases Nat.lt_or_ge (j - i) (ze_g (ze_q LG x y s (zc_sub W len i j)) 9) with z | z
    · unfold ze_q at h2 z
      rw [zc_sub_big z, zy_h0, Bool.false_and] at h2
      cases h2
    · exact z
  · omega
/-- the two cuts are one -/
theorem ze_cut {LG : Nat → Nat} {x y s W len i j m : Nat} (hj : j ≤ len) (hl : len ≤ 8) (hm1 : i ≤ m) (hm2 : m ≤ j) (h0 : m < j → (zy_h LG x s (zc_sub W len i m) && zy_h LG y s (zc_sub W len m j)) = true)
    (hn : ∀ k, i ≤ k → k < m → (zy_h LG x s (zc_sub W len i k) && zy_h LG y s (zc_sub W len k j)) = false) : ze_c LG x y s (zc_sub W len i j) = j - m := by
  have q : ∀ k, i ≤ k → k ≤ j → ze_q LG x y s (zc_sub W len i j) (j - k) = (zy_h LG x s (zc_sub W len i k) && zy_h LG y s (zc_sub W len k j)) := by
    intro k k1 k2
    unfold ze_q
    rw [zc_sub_div k1 k2 hj, zc_sub_tl k1 k2]
  have le := ze_c_le (LG := LG) (x := x) (y := y) (s := s) (W := W) (len := len) (i := i) (j := j)
  unfold ze_c at le ⊢
  generalize eg : ze_g (ze_q LG x y s (zc_sub W len i j)) 9 = g at le
  have sp := ze_g_sp (P := ze_q LG x y s (zc_sub W len i j)) 9
  rw [eg] at sp
  rcases Nat.lt_or_ge m j with z | z
  · have qm := q m hm1 hm2
    rw [h0 z] at qm
    rcases sp with ⟨h1, h2, h3⟩ | ⟨h1, h2⟩
    · rcases Nat.lt_trichotomy g (j - m) with y1 | y1 | y1
      · rw [h3 (j - m) y1 (by omega)] at qm
        cases qm
      · exact y1
      · have := q (j - g) (by omega) (by omega)
        rw [show j - (j - g) = g by omega, h2, hn (j - g) (by omega) (by omega)] at this
        cases this
    · rw [h2 (j - m) (by omega)] at qm
      cases qm
  · have e : m = j := by omega
    subst e
    rw [Nat.sub_self]
    rcases sp with ⟨h1, h2, h3⟩ | ⟨h1, h2⟩
    · rcases Nat.eq_zero_or_pos g with y1 | y1
      · exact y1
      · have := q (m - g) (by omega) (by omega)
        rw [show m - (m - g) = g by omega, h2, hn (m - g) (by omega) (by omega)] at this
        cases this
    · exact h1
section
variable {kC kI kE kN kS kU kT nl ll us dp tk ot : Int32} {rt kd ag lf sz lb nu fi la fo be ne en wd ln tn tv te ts tz : Nat → Int32}
theorem zx_cut_l {post : Int32 → Prop} {LG EN : Nat → Nat} {s x y W len i j : Nat} (hs : s < 2) (hx : x < 16) (hy : y < 16) (hl : len ≤ 8) (hj : j ≤ len) (tx : ∀ k, k ≤ len → zt_e LG W len s x k (EN (zt_ix s x k))) (ty : ∀ k, k ≤ len → zt_e LG W len s y k (EN (zt_ix s y k)))
    (h : post (nI (j - ze_c LG x y s (zc_sub W len i j)))) :
    ∀ n k, i ≤ k → k ≤ j → j - k < n → (∀ k', i ≤ k' → k' < k → (zy_h LG x s (zc_sub W len i k') && zy_h LG y s (zc_sub W len k' j)) = false) → wX_cut_4 post (nI s) (nI x) (nI y) (nI i) (nI j) kC kI kE kN kS kU kT nl ll us dp tk ot rt kd ag lf sz lb nu fi la fo be ne (za_n EN) wd ln tn tv te ts tz n (nI k) := by
  intro n
  induction n with
  | zero => intro k a b; omega
  | succ n ih =>
    intro k a b c hn
    rw [wX_cut_4]
    refine za_br (za_le (by omega) (by omega)) (fun z => ?_) (fun z => ?_)
    · have e : k = j := by omega
      rw [ze_cut hj hl (show i ≤ j by omega) (Nat.le_refl j) (fun z => by omega) (fun k' h1 h2 => hn k' h1 (by omega)), Nat.sub_self, Nat.sub_zero] at h
      exact h
    · have bx : (EN (zt_ix s x i)).testBit k = zy_h LG x s (zc_sub W len i k) := by
        rw [(tx i (by omega)).2 k (by omega), decide_eq_true a, Bool.true_and]
      have by' : (EN (zt_ix s y k)).testBit j = zy_h LG y s (zc_sub W len k j) := by
        rw [(ty k (by omega)).2 j hj, decide_eq_true b, Bool.true_and]
      have nx : (zy_h LG x s (zc_sub W len i k) && zy_h LG y s (zc_sub W len k j)) = false → wX_cut_4 post (nI s) (nI x) (nI y) (nI i) (nI j) kC kI kE kN kS kU kT nl ll us dp tk ot rt kd ag lf sz lb nu fi la fo be ne (za_n EN) wd ln tn tv te ts tz n (nI (k + 1)) := by
        intro q
        refine ih (k + 1) (by omega) (by omega) (by omega) (fun k' h1 h2 => ?_)
        by_cases e : k' = k
        · rw [e]; exact q
        · exact hn k' h1 (by omega)
      refine zx_spans hs hx (by omega) (by omega) (tx i (by omega)).1 ?_
      rw [bx]
      refine za_brb (fun q => nm_r (nI_1 k) (nx (by rw [q]; rfl))) (fun q => ?_)
      refine zx_spans hs hy (by omega) (by omega) (ty k (by omega)).1 ?_
      rw [by']
      refine za_brb (fun q2 => nm_r (nI_1 k) (nx (by rw [q, q2]; rfl))) (fun q2 => ?_)
      rw [ze_cut hj hl a b (fun _ => by rw [q, q2]; rfl) hn, show j - (j - k) = k by omega] at h
      exact h
theorem zx_cut {post : Int32 → Prop} {LG EN : Nat → Nat} {s x y W len i j : Nat} (hs : s < 2) (hx : x < 16) (hy : y < 16) (hl : len ≤ 8) (hi : i ≤ j) (hj : j ≤ len) (tx : ∀ k, k ≤ len → zt_e LG W len s x k (EN (zt_ix s x k))) (ty : ∀ k, k ≤ len → zt_e LG W len s y k (EN (zt_ix s y k)))
    (h : post (nI (j - ze_c LG x y s (zc_sub W len i j)))) : wpX_cut post (kC, kI, kE, kN, kS, kU, kT, nl, ll, us, dp, tk, ot, rt, kd, ag, lf, sz, lb, nu, fi, la, fo, be, ne, za_n EN, wd, ln, tn, tv, te, ts, tz) (nI s) (nI x) (nI y) (nI i) (nI j) :=
  Exists.intro (j - i + 1) (zx_cut_l hs hx hy hl hj tx ty h (j - i + 1) i (Nat.le_refl i) hi (by omega) (fun k' h1 h2 => by omega))
end
end
section
/-! Y: join, cutAt, push; stacks as lists -/
theorem zy_one {w c k : Nat} (h1 : 2 ^ c ≤ w) (h2 : w < 2 ^ (c + 1)) : w / 2 ^ k = 1 ↔ k = c := by
  constructor
  · intro h
    rcases Nat.lt_trichotomy k c with z | z | z
    · have : 2 ≤ w / 2 ^ k := by
        have p : 2 ^ (k + 1) ≤ 2 ^ c := za_p2 (by omega)
        rw [Nat.pow_succ] at p
        exact (Nat.le_div_iff_mul_le (zc_pp k)).mpr (by omega)
      omega
    · exact z
    · rw [zc_div_zero h2 z] at h
      omega
  · rintro rfl
    have a := zc_div_pos h1 (Nat.le_refl k)
    have : w / 2 ^ k < 2 := by
      rw [Nat.pow_succ] at h2
      exact Nat.div_lt_of_lt_mul (by omega)
    omega
section
variable {mn ml ct tp : Int32} {yr yk ya yf ys yz yl yw yn yv yo : Nat → Int32}
theorem zy_join_l {post : Int32 → Prop} {L u w c : Nat} (hL : L ≤ 8) (hc : c ≤ 8) (hu : u < 512) (h1 : 2 ^ c ≤ w) (h2 : w < 2 ^ (c + 1)) (h : post (nI (ze_j (2 ^ (L + 1)) u c (w - 2 ^ c)))) :
    ∀ n k v, k ≤ 9 → 9 - k < n → v = (if k ≤ c then 0 else u * 2 ^ c + (w - 2 ^ c)) → wY_join_5 post (nI u) (nI w) mn (nI L) ct tp yr yk ya yf ys yz yl yw yn yv yo n (nI v) (nI k) := by
  have p9 : 2 ^ (L + 1) ≤ 2 ^ 9 := za_p2 (by omega)
  have pc : 2 ^ (c + 1) ≤ 2 ^ 9 := za_p2 (by omega)
  have pc' := Nat.pow_succ 2 c
  have pu : u * 2 ^ c ≤ 512 * 2 ^ 8 := Nat.mul_le_mul (by omega) (za_p2 hc)
  intro n
  induction n with
  | zero => intro k v a b; omega
  | succ n ih =>
    intro k v a b ev
    rw [wY_join_5]
    refine za_br (za_lt (a := 8) (by omega) (by omega)) (fun z => ?_) (fun z => ?_)
    · rw [if_neg (by omega)] at ev
      unfold ze_j at h
      by_cases u0 : u = 0
      · rw [if_pos u0] at h
        exact br_t ((za_le0 (by omega)).mpr u0) h
      · rw [if_neg u0, ← ev] at h
        have pp := zc_pp c
        have ge : u ≤ u * 2 ^ c := Nat.le_mul_of_pos_right _ pp
        refine br_f (fun z => u0 ((za_le0 (by omega)).mp z)) (zy_code hL (fun nc => br_t rfl ?_) (fun w' a1 a2 e => br_f (by decide) ?_))
        · rw [if_neg (fun z => nc ⟨v, by omega, z, rfl⟩)] at h
          exact h
        · have e' := (za_eq (by omega) (by omega)).mp e
          rw [if_pos (by omega)] at h
          exact h
    · rw [za_shk (by omega) (by omega)]
      refine za_br (d := k = c) ((za_eq (b := 1) (za_dl _ _ (by omega)) (by omega)).trans (zy_one h1 h2)) (fun e => ?_) (fun e => nm_r (nI_1 k) (ih (k + 1) v (by omega) (by omega) ?_))
      · subst e
        have e1 : (nI u <<< (nI k &&& 31)) ||| (nI w - ((1 : Int32) <<< (nI k &&& 31))) = nI (u * 2 ^ k + (w - 2 ^ k)) := by
          have es : nI u <<< (nI k &&& 31) = nI (u * 2 ^ k) := by
            show nI u <<< (nI k &&& nI 31) = _
            rw [za_31 (by omega), za_shl (by omega) (by omega)]
          rw [es, za_sh1 (by omega), za_sub h1, za_or]
          apply congrArg nI
          rw [Nat.mul_comm u]
          exact (Nat.two_pow_add_eq_or_of_lt (by omega) u).symm
        exact nm_r e1 (nm_r (nI_1 k) (ih (k + 1) _ (by omega) (by omega) (by rw [if_neg (by omega)])))
      · rw [ev]
        by_cases q : k ≤ c
        · rw [if_pos q, if_pos (by omega)]
        · rw [if_neg q, if_neg (by omega)]
theorem zy_join {post : Int32 → Prop} {L u w c : Nat} (hL : L ≤ 8) (hc : c ≤ 8) (hu : u < 512) (h1 : 2 ^ c ≤ w) (h2 : w < 2 ^ (c + 1)) (h : post (nI (ze_j (2 ^ (L + 1)) u c (w - 2 ^ c)))) : wpY_join post (mn, nI L, ct, tp, yr, yk, ya, yf, ys, yz, yl, yw, yn, yv, yo) (nI u) (nI w) :=
  Exists.intro 10 (zy_join_l hL hc hu h1 h2 h 10 0 0 (by omega) (by omega) (by rw [if_pos (by omega)]))
theorem zy_cut_l {post : Int32 → Prop} {LG : Nat → Nat} {x y s w : Nat} (hx : x < 16) (hy : y < 16) (hs : s < 2) (hw : w < 512) (hLG : ∀ i, LG i < 2) (h : post (nI (ze_c LG x y s w))) :
    ∀ n k, k ≤ 9 → 9 - k < n → wY_cutAt_6 post (nI x) (nI y) (nI s) (nI w) mn ml ct tp yr yk ya yf ys yz (za_n LG) yw yn yv yo n (nI (ze_g (ze_q LG x y s w) k)) (nI k) := by
  intro n
  induction n with
  | zero => intro k a b; omega
  | succ n ih =>
    intro k a b
    rw [wY_cutAt_6]
    refine za_br (za_lt (a := 8) (by omega) (by omega)) (fun z => ?_) (fun z => ?_)
    · have e : k = 9 := by omega
      subst e
      exact h
    have nx := ih (k + 1) (by omega) (by omega)
    have pk : 2 ^ (k + 1) ≤ 2 ^ 9 := za_p2 (by omega)
    have tk := zc_tl_lt w k
    unfold ze_g at nx
    refine zy_last (by omega) (by omega) ?_
    rw [za_shk (by omega) (by omega)]
    refine zy_has hx hs (za_dl _ _ (by omega)) hLG (za_brb (fun q => nm_r (nI_1 k) ?_) (fun q => ?_))
    · rw [if_neg (by unfold ze_q; rw [q, Bool.false_and]; decide)] at nx
      exact nx
    · refine zy_has hy hs (by omega) hLG (za_brb (fun q2 => nm_r (nI_1 k) ?_) (fun q2 => nm_r (nI_1 k) ?_))
      · rw [if_neg (by unfold ze_q; rw [q, q2]; decide)] at nx
        exact nx
      · rw [if_pos (by unfold ze_q; rw [q, q2]; rfl)] at nx
        exact nx
theorem zy_cut {post : Int32 → Prop} {LG : Nat → Nat} {x y s w : Nat} (hx : x < 16) (hy : y < 16) (hs : s < 2) (hw : w < 512) (hLG : ∀ i, LG i < 2) (h : post (nI (ze_c LG x y s w))) : wpY_cutAt post (mn, ml, ct, tp, yr, yk, ya, yf, ys, yz, za_n LG, yw, yn, yv, yo) (nI x) (nI y) (nI s) (nI w) :=
  Exists.intro 10 (zy_cut_l hx hy hs hw hLG h 10 0 (by omega) (by omega))
theorem zy_pt {post : SY → Prop} {t : Nat} {p0 p1 p2 : Int32} (ht : t < 64) (h : post (mn, ml, ct, nI (t + 1), yr, yk, ya, yf, ys, yz, yl, yw, upd yn t p0, upd yv t p1, upd yo t p2)) : wpY_push post (mn, ml, ct, nI t, yr, yk, ya, yf, ys, yz, yl, yw, yn, yv, yo) p0 p1 p2 := by
  have it : vp_in (nI t) 64 := vp_in_nI ht (by omega)
  unfold wpY_push
  dsimp only
  rw [za_cl (show t < 2147483648 by omega)]
  exact br_f (za_ng (by omega)) (br_t ((za_lt (b := 64) (by omega) (by omega)).mpr ht) ⟨it, nm_e ⟨it, nm_e ⟨it, nm_e (nm_r (nI_1 t) h)⟩⟩⟩)
end
/-! stacks: an array holds, from the bottom, what a list holds from its end -/
def zg_S {α : Type} (f : Nat → Int32) (g : α → Int32) : List α → Prop
  | [] => True
  | a :: l => f l.length = g a ∧ zg_S f g l
theorem zg_S_u {α : Type} {f : Nat → Int32} {g : α → Int32} {t : Nat} {x : Int32} : ∀ {l : List α}, l.length ≤ t → zg_S f g l → zg_S (upd f t x) g l
  | [], _, _ => trivial
  | a :: l, h, z => by
    rw [List.length_cons] at h
    exact ⟨by rw [pk_un (by omega)]; exact z.1, zg_S_u (by omega) z.2⟩
theorem zg_S_c {α : Type} {f : Nat → Int32} {g : α → Int32} {l : List α} (a : α) (h : zg_S f g l) : zg_S (upd f l.length (g a)) g (a :: l) := ⟨pk_us, zg_S_u (Nat.le_refl _) h⟩
/-- pushes, the first one first -/
def zg_p {α : Type} (f : Nat → Int32) (t : Nat) (g : α → Int32) : List α → Nat → Int32
  | [] => f
  | a :: ps => zg_p (upd f t (g a)) (t + 1) g ps
def zg_r {α : Type} : List α → List α → List α
  | [], l => l
  | a :: ps, l => zg_r ps (a :: l)
theorem zg_S_p {α : Type} {g : α → Int32} : ∀ {ps l : List α} {f : Nat → Int32}, zg_S f g l → zg_S (zg_p f l.length g ps) g (zg_r ps l)
  | [], _, _, h => h
  | a :: ps, l, f, h => zg_S_p (ps := ps) (l := a :: l) (zg_S_c a h)
theorem zg_rl {α : Type} : ∀ (ps l : List α), (zg_r ps l).length = l.length + ps.length
  | [], l => rfl
  | a :: ps, l => by
    rw [zg_r, zg_rl ps (a :: l), List.length_cons, List.length_cons]
    omega
/-- the nodes of the stack are small enough for the room left -/
def zg_ok {α : Type} (ok : α → Nat → Prop) : List α → Prop
  | [] => True
  | a :: l => ok a l.length ∧ zg_ok ok l
def zg_c {α : Type} (c : α → Nat) : List α → Nat
  | [] => 0
  | a :: l => c a + zg_c c l
/-- the cost of a node on m letters -/
def zg_K (m : Nat) : Nat := if m = 0 then 1 else 2 * m
def zg_n (KD SZ : Nat → Nat) (n m : Nat) : Nat := if KD n = 6 ∧ m = 0 then 1 else SZ n * zg_K m
theorem zg_K1 (m : Nat) : 1 ≤ zg_K m := by unfold zg_K; split <;> omega
theorem zg_Km {a b : Nat} (h : a ≤ b) : zg_K a ≤ zg_K b := by
  unfold zg_K
  split <;> split <;> omega
theorem zg_n1 {KD SZ : Nat → Nat} {n m : Nat} (h : 1 ≤ SZ n) : 1 ≤ zg_n KD SZ n m := by
  unfold zg_n
  split
  · exact Nat.le_refl 1
  · exact Nat.mul_pos h (zg_K1 m)
theorem zg_nl {KD SZ : Nat → Nat} {n m : Nat} (h : 1 ≤ SZ n) : zg_n KD SZ n m ≤ SZ n * zg_K m := by
  unfold zg_n
  split
  · exact Nat.mul_pos h (zg_K1 m)
  · exact Nat.le_refl _
theorem zg_one {KD SZ : Nat → Nat} {n c m : Nat} (hk : KD n ≠ 6) (hc : 1 ≤ SZ c) (h : SZ c + 1 ≤ SZ n) : zg_n KD SZ c m + 1 ≤ zg_n KD SZ n m := by
  have a := zg_nl (KD := KD) (SZ := SZ) (m := m) hc
  have e : zg_n KD SZ n m = SZ n * zg_K m := if_neg (fun z => hk z.1)
  have b : (SZ c + 1) * zg_K m ≤ SZ n * zg_K m := Nat.mul_le_mul_right _ h
  rw [Nat.add_mul] at b
  have := zg_K1 m
  omega
theorem zg_two {KD SZ : Nat → Nat} {n a b m1 m2 : Nat} (hk : KD n ≠ 6) (ha : 1 ≤ SZ a) (hb : 1 ≤ SZ b) (h : SZ n = 1 + SZ a + SZ b) : zg_n KD SZ a m1 + zg_n KD SZ b m2 + 1 ≤ zg_n KD SZ n (m1 + m2) := by
  have x := zg_nl (KD := KD) (SZ := SZ) (m := m1) ha
  have y := zg_nl (KD := KD) (SZ := SZ) (m := m2) hb
  have e : zg_n KD SZ n (m1 + m2) = SZ n * zg_K (m1 + m2) := if_neg (fun z => hk z.1)
  have x2 : SZ a * zg_K m1 ≤ SZ a * zg_K (m1 + m2) := Nat.mul_le_mul_left _ (zg_Km (by omega))
  have y2 : SZ b * zg_K m2 ≤ SZ b * zg_K (m1 + m2) := Nat.mul_le_mul_left _ (zg_Km (by omega))
  have := zg_K1 (m1 + m2)
  rw [e, h, Nat.add_mul, Nat.add_mul]
  omega
theorem zg_sta {KD SZ : Nat → Nat} {n a m1 m2 : Nat} (hk : KD n = 6) (ha : 1 ≤ SZ a) (h : SZ n = 1 + SZ a) (h1 : 1 ≤ m1) : zg_n KD SZ a m1 + zg_n KD SZ n m2 + 1 ≤ zg_n KD SZ n (m1 + m2) := by
  have x := zg_nl (KD := KD) (SZ := SZ) (m := m1) ha
  have e : zg_n KD SZ n (m1 + m2) = SZ n * zg_K (m1 + m2) := if_neg (fun z => by omega)
  have k1 : zg_K m1 = 2 * m1 := if_neg (by omega)
  have k2 : zg_K (m1 + m2) = 2 * m1 + 2 * m2 := by
    have : zg_K (m1 + m2) = 2 * (m1 + m2) := if_neg (by omega)
    omega
  rw [e, k2, h, Nat.add_mul, Nat.mul_add (SZ a)]
  rw [k1] at x
  rcases Nat.eq_zero_or_pos m2 with z | z
  · subst z
    have e2 : zg_n KD SZ n 0 = 1 := if_pos ⟨hk, rfl⟩
    rw [e2]
    omega
  · have e2 : zg_n KD SZ n m2 = SZ n * zg_K m2 := if_neg (fun q => by omega)
    have k3 : zg_K m2 = 2 * m2 := if_neg (by omega)
    rw [e2, k3, h, Nat.add_mul]
    omega
end
section
/-! get: one step of both machines -/
def zd_m (LG : Nat → Nat) (x y s W len i j : Nat) : Nat := j - ze_c LG x y s (zc_sub W len i j)
theorem zd_m_le {LG : Nat → Nat} {x y s W len i j : Nat} (h : i ≤ j) : i ≤ zd_m LG x y s W len i j ∧ zd_m LG x y s W len i j ≤ j := by
  have := ze_c_le (LG := LG) (x := x) (y := y) (s := s) (W := W) (len := len) (i := i) (j := j)
  unfold zd_m
  omega
/-- a star's first part isn't empty -/
theorem zd_m_gt {LG : Nat → Nat} {x y s W len i j : Nat} (h : i < j) (hj : j ≤ len) (h1 : zy_h LG x s 1 = false) : i < zd_m LG x y s W len i j := by
  have le := ze_c_le (LG := LG) (x := x) (y := y) (s := s) (W := W) (len := len) (i := i) (j := j)
  unfold zd_m
  rcases Nat.lt_or_ge (ze_c LG x y s (zc_sub W len i j)) (j - i) with z | z
  · omega
  · exfalso
    have e : ze_c LG x y s (zc_sub W len i j) = j - i := by omega
    rcases ze_g_sp (P := ze_q LG x y s (zc_sub W len i j)) 9 with ⟨q1, q2, q3⟩ | ⟨q1, q2⟩
    · have e' : ze_g (ze_q LG x y s (zc_sub W len i j)) 9 = j - i := e
      rw [e'] at q2
      unfold ze_q at q2
      rw [zc_sub_div (Nat.le_refl i) (by omega) hj, zc_sub_ii, h1, Bool.false_and] at q2
      cases q2
    · have e' : ze_g (ze_q LG x y s (zc_sub W len i j)) 9 = j - i := e
      omega
theorem zd_sub {LG : Nat → Nat} {x y s W len i j : Nat} (h : i ≤ j) (hj : j ≤ len) : zc_sub W len i j / 2 ^ ze_c LG x y s (zc_sub W len i j) = zc_sub W len i (zd_m LG x y s W len i j) ∧ zc_tl (zc_sub W len i j) (ze_c LG x y s (zc_sub W len i j)) = zc_sub W len (zd_m LG x y s W len i j) j := by
  have le := ze_c_le (LG := LG) (x := x) (y := y) (s := s) (W := W) (len := len) (i := i) (j := j)
  have m := zd_m_le (LG := LG) (x := x) (y := y) (s := s) (W := W) (len := len) h
  have e : ze_c LG x y s (zc_sub W len i j) = j - zd_m LG x y s W len i j := by unfold zd_m; omega
  have a := zc_sub_div (W := W) (n := len) m.1 m.2 hj
  have b := zc_sub_tl (W := W) (n := len) m.1 m.2
  rw [← e] at a b
  exact ⟨a, b⟩
def zd_get (N : Nat) (KD AG LF LG : Nat → Nat) (W len n i j o : Nat) (ps : List (Nat × Nat × Nat)) (o' : Nat) : Prop :=
  (KD n = 0 ∧ ps = [] ∧ o' = ze_j N o (j - i) (W / 2 ^ (len - j) % 2 ^ (j - i))) ∨
  (KD n = 1 ∧ ps = [] ∧ o' = ze_j N o 1 (AG n)) ∨
  (KD n = 2 ∧ ps = [] ∧ o' = o) ∨
  (KD n = 3 ∧ ps = [(n - 1, zd_m LG (LF n) (n - 1) 0 W len i j, j), (LF n, i, zd_m LG (LF n) (n - 1) 0 W len i j)] ∧ o' = o) ∨
  (KD n = 4 ∧ ps = [(LF n, i, zd_m LG (LF n) (n - 1) 0 W len i j), (n - 1, zd_m LG (LF n) (n - 1) 0 W len i j, j)] ∧ o' = o) ∨
  (KD n = 5 ∧ ps = [(if zy_h LG (LF n) 0 (zc_sub W len i j) = true then LF n else n - 1, i, j)] ∧ o' = o) ∨
  (KD n = 6 ∧ i = j ∧ ps = [] ∧ o' = o) ∨
  (KD n = 6 ∧ i < j ∧ ps = [(n, zd_m LG (n - 1) n 0 W len i j, j), (n - 1, i, zd_m LG (n - 1) n 0 W len i j)] ∧ o' = o)
/-- what a node on the stack of get must be -/
def zd_okg (SZ : Nat → Nat) (lo r len : Nat) (a : Nat × Nat × Nat) (t : Nat) : Prop := lo ≤ a.1 ∧ a.1 ≤ r ∧ a.2.1 ≤ a.2.2 ∧ a.2.2 ≤ len ∧ SZ a.1 + t ≤ 16
def zd_cg (KD SZ : Nat → Nat) (a : Nat × Nat × Nat) : Nat := zg_n KD SZ a.1 (a.2.2 - a.2.1)
theorem zd_get_ex {N us : Nat} {KD AG LF SZ SC LB LG : Nat → Nat} {W len n i j o : Nat} (hz : zt_N us KD AG LF SZ SC LB LG n) (hij : i ≤ j) : ∃ ps o', zd_get N KD AG LF LG W len n i j o ps o' := by
  rcases hz with h | h | h | h | h | h | h
  · exact ⟨_, _, Or.inl ⟨h.1, rfl, rfl⟩⟩
  · exact ⟨_, _, Or.inr (Or.inl ⟨h.1, rfl, rfl⟩)⟩
  · exact ⟨_, _, Or.inr (Or.inr (Or.inl ⟨h.1, rfl, rfl⟩))⟩
  · exact ⟨_, _, Or.inr (Or.inr (Or.inr (Or.inl ⟨h.1, rfl, rfl⟩)))⟩
  · exact ⟨_, _, Or.inr (Or.inr (Or.inr (Or.inr (Or.inl ⟨h.1, rfl, rfl⟩))))⟩
  · exact ⟨_, _, Or.inr (Or.inr (Or.inr (Or.inr (Or.inr (Or.inl ⟨h.1, rfl, rfl⟩)))))⟩
  · by_cases e : i = j
    · exact ⟨_, _, Or.inr (Or.inr (Or.inr (Or.inr (Or.inr (Or.inr (Or.inl ⟨h.1, e, rfl, rfl⟩))))))⟩
    · exact ⟨_, _, Or.inr (Or.inr (Or.inr (Or.inr (Or.inr (Or.inr (Or.inr ⟨h.1, by omega, rfl, rfl⟩))))))⟩
/-- the children of a node -/
theorem zt_ch {N : Nat} {KD AG LF SZ SC LB LG : Nat → Nat} {n lo : Nat} (hz : zt_N N KD AG LF SZ SC LB LG n) (hlo : ∀ m, n + 1 ≤ m + SZ n → lo ≤ m) (hk : 2 ≤ KD n) : 1 ≤ n ∧ lo ≤ n - 1 ∧ SC n = n - 1 ∧ 1 ≤ SZ (n - 1) ∧ SZ (n - 1) + 1 ≤ SZ n ∧ lo ≤ LF n ∧ LF n < n ∧ 1 ≤ SZ (LF n) ∧ SZ (LF n) + 1 ≤ SZ n := by
  rcases zt_ar hz with h | ⟨h1, h2, h3, h4, h5, h6⟩ | ⟨h1, h2, h3, h4, h5, h6, h7⟩
  · omega
  · rw [h2]
    have := hlo (n - 1) (by omega)
    omega
  · have := hlo (n - 1) (by omega)
    have := hlo (LF n) (by omega)
    omega
theorem zt_k2 {N : Nat} {KD AG LF SZ SC LB LG : Nat → Nat} {n : Nat} (hz : zt_N N KD AG LF SZ SC LB LG n) (hk : KD n = 3 ∨ KD n = 4) : SZ n = 1 + SZ (LF n) + SZ (n - 1) := by
  rcases hz with h | h | h | h | h | h | h
  · omega
  · omega
  · omega
  · exact h.2.1.2.2.2.1
  · exact h.2.1.2.2.2.1
  · omega
  · omega
theorem zt_k6 {N : Nat} {KD AG LF SZ SC LB LG : Nat → Nat} {n : Nat} (hz : zt_N N KD AG LF SZ SC LB LG n) (hk : KD n = 6) : SZ n = 1 + SZ (n - 1) ∧ LF n = n - 1 ∧ zy_h LG (n - 1) 0 1 = false ∧ zy_h LG (n - 1) 1 1 = false := by
  rcases hz with h | h | h | h | h | h | h
  · omega
  · omega
  · omega
  · omega
  · omega
  · omega
  · exact ⟨h.2.1.2.2.2.1, h.2.1.2.1, h.2.2.1.1, h.2.2.2.1⟩
theorem zd_get_ok {N M : Nat} {KD AG LF SZ SC LB LG : Nat → Nat} {W len n i j o lo r o' : Nat} {ps l : List (Nat × Nat × Nat)} (hD : zd_get M KD AG LF LG W len n i j o ps o') (hz : zt_N N KD AG LF SZ SC LB LG n) (hlo : ∀ m, n + 1 ≤ m + SZ n → lo ≤ m)
    (h : zg_ok (zd_okg SZ lo r len) ((n, i, j) :: l)) : zg_ok (zd_okg SZ lo r len) (zg_r ps l) ∧ zg_c (zd_cg KD SZ) (zg_r ps l) + 1 ≤ zg_c (zd_cg KD SZ) ((n, i, j) :: l) := by
  obtain ⟨⟨a1, a2, a3, a4, a5⟩, hl⟩ := h
  dsimp only at a1 a2 a3 a4 a5
  have hsz := zt_sz hz
  have none : ps = [] → zg_ok (zd_okg SZ lo r len) (zg_r ps l) ∧ zg_c (zd_cg KD SZ) (zg_r ps l) + 1 ≤ zg_c (zd_cg KD SZ) ((n, i, j) :: l) := by
    rintro rfl
    have := zg_n1 (KD := KD) (SZ := SZ) (n := n) (m := j - i) hsz.1
    refine ⟨hl, ?_⟩
    show zg_c (zd_cg KD SZ) l + 1 ≤ zg_n KD SZ n (j - i) + zg_c (zd_cg KD SZ) l
    omega
  rcases hD with h | h | h | ⟨h, rfl, _⟩ | ⟨h, rfl, _⟩ | ⟨h, rfl, _⟩ | h | ⟨h, hij, rfl, _⟩
  · exact none h.2.1
  · exact none h.2.1
  · exact none h.2.1
  · have c := zt_ch hz hlo (by omega)
    have m := zd_m_le (LG := LG) (x := LF n) (y := n - 1) (s := 0) (W := W) (len := len) a3
    have z2 := zt_k2 hz (Or.inl h)
    have co := zg_two (KD := KD) (SZ := SZ) (n := n) (a := LF n) (b := n - 1) (m1 := zd_m LG (LF n) (n - 1) 0 W len i j - i) (m2 := j - zd_m LG (LF n) (n - 1) 0 W len i j) (by omega) (by omega) (by omega) z2
    rw [show zd_m LG (LF n) (n - 1) 0 W len i j - i + (j - zd_m LG (LF n) (n - 1) 0 W len i j) = j - i by omega] at co
    refine ⟨⟨⟨?_, ?_, m.1, ?_, ?_⟩, ⟨?_, ?_, m.2, a4, ?_⟩, hl⟩, ?_⟩
    · show lo ≤ LF n; omega
    · show LF n ≤ r; omega
    · show zd_m LG (LF n) (n - 1) 0 W len i j ≤ len; omega
    · show SZ (LF n) + (l.length + 1) ≤ 16; omega
    · show lo ≤ n - 1; omega
    · show n - 1 ≤ r; omega
    · show SZ (n - 1) + l.length ≤ 16; omega
    · show zg_n KD SZ (LF n) (zd_m LG (LF n) (n - 1) 0 W len i j - i) + (zg_n KD SZ (n - 1) (j - zd_m LG (LF n) (n - 1) 0 W len i j) + zg_c (zd_cg KD SZ) l) + 1 ≤ zg_n KD SZ n (j - i) + zg_c (zd_cg KD SZ) l
      omega
  · have c := zt_ch hz hlo (by omega)
    have m := zd_m_le (LG := LG) (x := LF n) (y := n - 1) (s := 0) (W := W) (len := len) a3
    have z2 := zt_k2 hz (Or.inr h)
    have co := zg_two (KD := KD) (SZ := SZ) (n := n) (a := LF n) (b := n - 1) (m1 := zd_m LG (LF n) (n - 1) 0 W len i j - i) (m2 := j - zd_m LG (LF n) (n - 1) 0 W len i j) (by omega) (by omega) (by omega) z2
    rw [show zd_m LG (LF n) (n - 1) 0 W len i j - i + (j - zd_m LG (LF n) (n - 1) 0 W len i j) = j - i by omega] at co
    refine ⟨⟨⟨?_, ?_, m.2, a4, ?_⟩, ⟨?_, ?_, m.1, ?_, ?_⟩, hl⟩, ?_⟩
    · show lo ≤ n - 1; omega
    · show n - 1 ≤ r; omega
    · show SZ (n - 1) + (l.length + 1) ≤ 16; omega
    · show lo ≤ LF n; omega
    · show LF n ≤ r; omega
    · show zd_m LG (LF n) (n - 1) 0 W len i j ≤ len; omega
    · show SZ (LF n) + l.length ≤ 16; omega
    · show zg_n KD SZ (n - 1) (j - zd_m LG (LF n) (n - 1) 0 W len i j) + (zg_n KD SZ (LF n) (zd_m LG (LF n) (n - 1) 0 W len i j - i) + zg_c (zd_cg KD SZ) l) + 1 ≤ zg_n KD SZ n (j - i) + zg_c (zd_cg KD SZ) l
      omega
  · have c := zt_ch hz hlo (by omega)
    have key : ∀ q, (q = LF n ∨ q = n - 1) → zg_ok (zd_okg SZ lo r len) (zg_r [(q, i, j)] l) ∧ zg_c (zd_cg KD SZ) (zg_r [(q, i, j)] l) + 1 ≤ zg_c (zd_cg KD SZ) ((n, i, j) :: l) := by
      intro q hq
      have q1 : lo ≤ q ∧ q ≤ r ∧ 1 ≤ SZ q ∧ SZ q + 1 ≤ SZ n := by rcases hq with e | e <;> rw [e] <;> omega
      have co := zg_one (KD := KD) (SZ := SZ) (n := n) (c := q) (m := j - i) (by omega) q1.2.2.1 q1.2.2.2
      refine ⟨⟨⟨q1.1, q1.2.1, a3, a4, ?_⟩, hl⟩, ?_⟩
      · show SZ q + l.length ≤ 16; omega
      · show zg_n KD SZ q (j - i) + zg_c (zd_cg KD SZ) l + 1 ≤ zg_n KD SZ n (j - i) + zg_c (zd_cg KD SZ) l
        omega
    by_cases e : zy_h LG (LF n) 0 (zc_sub W len i j) = true
    · rw [if_pos e]
      exact key _ (Or.inl rfl)
    · rw [if_neg e]
      exact key _ (Or.inr rfl)
  · exact none h.2.2.1
  · have c := zt_ch hz hlo (by omega)
    have k6 := zt_k6 hz h
    have m := zd_m_le (LG := LG) (x := n - 1) (y := n) (s := 0) (W := W) (len := len) a3
    have mg := zd_m_gt (LG := LG) (x := n - 1) (y := n) (s := 0) (W := W) (len := len) hij a4 k6.2.2.1
    have co := zg_sta (KD := KD) (SZ := SZ) (n := n) (a := n - 1) (m1 := zd_m LG (n - 1) n 0 W len i j - i) (m2 := j - zd_m LG (n - 1) n 0 W len i j) h (by omega) k6.1 (by omega)
    rw [show zd_m LG (n - 1) n 0 W len i j - i + (j - zd_m LG (n - 1) n 0 W len i j) = j - i by omega] at co
    refine ⟨⟨⟨?_, ?_, m.1, ?_, ?_⟩, ⟨a1, a2, m.2, a4, a5⟩, hl⟩, ?_⟩
    · show lo ≤ n - 1; omega
    · show n - 1 ≤ r; omega
    · show zd_m LG (n - 1) n 0 W len i j ≤ len; omega
    · show SZ (n - 1) + (l.length + 1) ≤ 16; omega
    · show zg_n KD SZ (n - 1) (zd_m LG (n - 1) n 0 W len i j - i) + (zg_n KD SZ n (j - zd_m LG (n - 1) n 0 W len i j) + zg_c (zd_cg KD SZ) l) + 1 ≤ zg_n KD SZ n (j - i) + zg_c (zd_cg KD SZ) l
      omega
end
section
/-! get: one step, walked -/
section
variable {kC kI kE kN kS kU kT nl ll us dp tk ot : Int32} {rt kd ag lf sz lb nu fi la fo be ne en wd ln tn tv te ts tz : Nat → Int32}
theorem zx_gstep {post : SX → Prop} {N L : Nat} {KD AG LF SZ SC LB LG EN WD LN : Nat → Nat} {W len n i j o lo r o' t : Nat} {ps : List (Nat × Nat × Nat)} (hL : L ≤ 8) (hD : zd_get (2 ^ (L + 1)) KD AG LF LG W len n i j o ps o') (hz : zt_N N KD AG LF SZ SC LB LG n) (hlo : ∀ m, n + 1 ≤ m + SZ n → lo ≤ m)
    (hn1 : lo ≤ n) (hn2 : n ≤ r) (hr : r < 16) (hij : i ≤ j) (hj : j ≤ len) (hl : len ≤ 8) (hWD : WD 0 = W) (hLN : LN 0 = len) (hW : W < 512) (hT : zt_T LG EN W len 0 lo r) (ht : t + 2 ≤ 64) (ho : o < 2 ^ (L + 1))
    (h : post (kC, kI, kE, kN, kS, kU, kT, nl, nI L, us, dp, nI (t + ps.length), ze_x o', rt, za_n KD, za_n AG, za_n LF, sz, lb, nu, fi, la, fo, be, ne, za_n EN, za_n WD, za_n LN, zg_p tn t (fun a => nI a.1) ps, zg_p tv t (fun _ => 0) ps, zg_p te t (fun _ => 0) ps, zg_p ts t (fun a => nI a.2.1) ps, zg_p tz t (fun a => nI a.2.2) ps)) :
    wpX_getStep post (kC, kI, kE, kN, kS, kU, kT, nl, nI L, us, dp, nI t, ze_x o, rt, za_n KD, za_n AG, za_n LF, sz, lb, nu, fi, la, fo, be, ne, za_n EN, za_n WD, za_n LN, tn, tv, te, ts, tz) (nI n) (nI i) (nI j) := by
  have hin : vp_in (nI n) 16 := vp_in_nI (by omega) (by omega)
  have cn : (nI n).toNatClampNeg = n := za_cl (by omega)
  unfold wpX_getStep
  refine ⟨hin, ?_⟩
  rw [cn, za_ap KD]
  rcases hD with ⟨hk, rfl, rfl⟩ | ⟨hk, rfl, rfl⟩ | ⟨hk, rfl, rfl⟩ | ⟨hk, rfl, rfl⟩ | ⟨hk, rfl, rfl⟩ | ⟨hk, rfl, rfl⟩ | ⟨hk, hij', rfl, rfl⟩ | ⟨hk, hij', rfl, rfl⟩
  · rw [hk]
    refine nm_e (br_t rfl ?_)
    exact zx_emit (s := 0) hL (by omega) hWD hLN hW hl hij hj ho h
  · rw [hk]
    refine nm_e (br_f (by decide) (br_t rfl ⟨hin, ?_⟩))
    have hb : AG n < 2 := by
      rcases hz with q | q | q | q | q | q | q
      · omega
      · exact q.2.2.1
      · omega
      · omega
      · omega
      · omega
      · omega
    exact zx_app hL ho hb h
  · rw [hk]
    exact nm_e (br_f (by decide) (br_f (by decide) (br_f (by decide) (br_f (by decide) (br_t rfl h)))))
  · have c := zt_ch hz hlo (by omega)
    have e1 : nI n - 1 = nI (n - 1) := za_sub (b := 1) c.1
    rw [hk]
    refine nm_e (br_f (by decide) (br_f (by decide) (br_f (by decide) (br_f (by decide) (br_f (by decide) ?_)))))
    unfold wpX_getPair
    refine ⟨hin, ?_⟩
    rw [cn]
    refine nm_e (nm_r e1 ?_)
    refine zx_cut (s := 0) (x := LF n) (by omega) (by omega) (by omega) hl hij hj (hT _ (by omega) (by omega)) (hT _ (by omega) (by omega)) ⟨hin, ?_⟩
    rw [za_ap KD, hk]
    exact br_f (by decide) (zx_pt (by omega) (zx_pt (by omega) h))
  · have c := zt_ch hz hlo (by omega)
    have e1 : nI n - 1 = nI (n - 1) := za_sub (b := 1) c.1
    rw [hk]
    refine nm_e (br_f (by decide) (br_f (by decide) (br_f (by decide) (br_f (by decide) (br_f (by decide) ?_)))))
    unfold wpX_getPair
    refine ⟨hin, ?_⟩
    rw [cn]
    refine nm_e (nm_r e1 ?_)
    refine zx_cut (s := 0) (x := LF n) (by omega) (by omega) (by omega) hl hij hj (hT _ (by omega) (by omega)) (hT _ (by omega) (by omega)) ⟨hin, ?_⟩
    rw [za_ap KD, hk]
    exact br_t rfl (zx_pt (by omega) (zx_pt (by omega) h))
  · have c := zt_ch hz hlo (by omega)
    have e1 : nI n - 1 = nI (n - 1) := za_sub (b := 1) c.1
    have tb := hT (LF n) (by omega) (by omega) i (by omega)
    rw [hk]
    refine nm_e (br_f (by decide) (br_f (by decide) (br_t rfl ⟨hin, ?_⟩)))
    refine zx_spans (s := 0) (n := LF n) (by omega) (by omega) (by omega) (by omega) tb.1 ?_
    rw [tb.2 j hj, decide_eq_true hij, Bool.true_and]
    refine za_brb (fun q => ?_) (fun q => ⟨hin, ?_⟩)
    · rw [if_neg (by rw [q]; decide)] at h
      unfold wX_getStep_76
      rw [e1]
      exact zx_pt (by omega) h
    · rw [if_pos q] at h
      unfold wX_getStep_76
      exact zx_pt (by omega) h
  · rw [hk]
    refine nm_e (br_f (by decide) (br_f (by decide) (br_f (by decide) (br_t rfl ?_))))
    unfold wpX_getStar
    exact br_t ((za_le (by omega) (by omega)).mpr (by omega)) h
  · have c := zt_ch hz hlo (by omega)
    have e1 : nI n - 1 = nI (n - 1) := za_sub (b := 1) c.1
    rw [hk]
    refine nm_e (br_f (by decide) (br_f (by decide) (br_f (by decide) (br_t rfl ?_))))
    unfold wpX_getStar
    rw [e1]
    refine br_f (fun z => by have := (za_le (by omega) (by omega)).mp z; omega) ?_
    refine zx_cut (s := 0) (x := n - 1) (y := n) (by omega) (by omega) (by omega) hl hij hj (hT _ (by omega) (by omega)) (hT _ (by omega) (by omega)) ?_
    exact zx_pt (by omega) (zx_pt (by omega) h)
end
section
variable {mn ml ct tp : Int32} {yr yk ya yf ys yz yl yw yn yv yo : Nat → Int32}
theorem zy_279 {post : Int32 → SY → Prop} {J : Int32 → Int32 → Int32 → Int32 → Int32 → Int32 → (Nat → Int32) → (Nat → Int32) → (Nat → Int32) → (Nat → Int32) → (Nat → Int32) → (Nat → Int32) → (Nat → Int32) → (Nat → Int32) → (Nat → Int32) → (Nat → Int32) → (Nat → Int32) → Prop} {KD LG : Nat → Nat} {n w st a : Nat} {x3 x8 : Int32} (hn : n < 16) (ha : a < 16) (hw : w < 512) (hLG : ∀ i, LG i < 2) (hk6 : KD n < 7) (hk : KD n ≠ 5)
    (h : J x3 (nI (st + 1)) mn ml ct tp yr (za_n KD) ya yf ys yz (za_n LG) yw yn yv yo) : wY_runGet_279 post J x3 (nI st) (nI n) (nI w) (nI a) x8 mn ml ct tp yr (za_n KD) ya yf ys yz (za_n LG) yw yn yv yo := by
  have hin : vp_in (nI n) 16 := vp_in_nI hn (by omega)
  have cn : (nI n).toNatClampNeg = n := za_cl (by omega)
  have n5 : ¬ nI (KD n) = 5 := fun z => hk ((za_eq (b := 5) (by omega) (by omega)).mp z)
  have fin : ∀ z0, wY_runGet_298 post J x3 (nI st) (nI n) (nI w) z0 mn ml ct tp yr (za_n KD) ya yf ys yz (za_n LG) yw yn yv yo := by
    intro z0
    unfold wY_runGet_298
    rw [cn, za_ap KD]
    exact ⟨hin, br_f n5 (nm_r (nI_1 st) h)⟩
  unfold wY_runGet_279
  exact zy_has (s := 0) ha (by omega) (by omega) hLG (br_c (fun _ => fin _) (fun _ => fin _))
theorem zy_gstep {post : Int32 → SY → Prop} {J : Int32 → Int32 → Int32 → Int32 → Int32 → Int32 → (Nat → Int32) → (Nat → Int32) → (Nat → Int32) → (Nat → Int32) → (Nat → Int32) → (Nat → Int32) → (Nat → Int32) → (Nat → Int32) → (Nat → Int32) → (Nat → Int32) → (Nat → Int32) → Prop} {N L : Nat} {KD AG LF SZ SC LB LG : Nat → Nat} {W len n i j o lo r o' t st b : Nat} {ps : List (Nat × Nat × Nat)} (hL : L ≤ 8) (hD : zd_get (2 ^ (L + 1)) KD AG LF LG W len n i j o ps o') (hz : zt_N N KD AG LF SZ SC LB LG n) (hlo : ∀ m, n + 1 ≤ m + SZ n → lo ≤ m)
    (hn1 : lo ≤ n) (hn2 : n ≤ r) (hr : r < 16) (hij : i ≤ j) (hj : j ≤ len) (hl : len ≤ 8) (ht : t + 2 ≤ 64) (ho : o < 2 ^ (L + 1)) (hLG : ∀ i, LG i < 2) (hb : b = if KD n = 6 then n else SC n)
    (h : J (nI o') (nI (st + 1)) mn (nI L) ct (nI (t + ps.length)) yr (za_n KD) (za_n AG) yf ys yz (za_n LG) yw (zg_p yn t (fun a => nI a.1) ps) (zg_p yv t (fun _ => 0) ps) (zg_p yo t (fun a => nI (zc_sub W len a.2.1 a.2.2)) ps)) :
    wY_runGet_97 post J (nI o) (nI st) (nI n) (nI (zc_sub W len i j)) (nI (LF n)) (nI b) mn (nI L) ct (nI t) yr (za_n KD) (za_n AG) yf ys yz (za_n LG) yw yn yv yo := by
  have p9 : 2 ^ (L + 1) ≤ 2 ^ 9 := za_p2 (by omega)
  have hin : vp_in (nI n) 16 := vp_in_nI (by omega) (by omega)
  have cn : (nI n).toNatClampNeg = n := za_cl (by omega)
  have hw : zc_sub W len i j < 512 := zc_sub_le (L := 8) (by omega)
  have hw1 := zc_sub_pos W len i j
  have hK := zt_K6 hz
  have hLFb : LF n < 16 ∧ b < 16 := by
    rw [hb]
    rcases hz with q | q | q | q | q | q | q
    · rw [if_neg (by omega)]
      have := q.2.2.2.2.2
      omega
    · rw [if_neg (by omega)]
      have := q.2.2.2.2.2
      omega
    · rw [if_neg (by omega)]
      have := q.2.1.2.1
      have := q.2.1.2.2.1
      omega
    · rw [if_neg (by omega)]
      have := q.2.1.2.1
      have := q.2.1.2.2.1
      omega
    · rw [if_neg (by omega)]
      have := q.2.1.2.1
      have := q.2.1.2.2.1
      omega
    · rw [if_neg (by omega)]
      have := q.2.1.2.1
      have := q.2.1.2.2.1
      omega
    · rw [if_pos q.1]
      have := q.2.1.2.1
      omega
  have ck := ze_c_le (LG := LG) (x := LF n) (y := b) (s := 0) (W := W) (len := len) (i := i) (j := j)
  unfold wY_runGet_97
  refine zy_cut (s := 0) hLFb.1 hLFb.2 (by omega) hw hLG ?_
  refine zy_last (by omega) (by omega) ⟨hin, ?_⟩
  rw [cn, za_ap KD]
  rcases hD with ⟨hk, rfl, rfl⟩ | ⟨hk, rfl, rfl⟩ | ⟨hk, rfl, rfl⟩ | ⟨hk, rfl, rfl⟩ | ⟨hk, rfl, rfl⟩ | ⟨hk, rfl, rfl⟩ | ⟨hk, hij', rfl, rfl⟩ | ⟨hk, hij', rfl, rfl⟩
  · rw [hk]
    refine br_t rfl ?_
    have e2 : zc_sub W len i j - 2 ^ (j - i) = W / 2 ^ (len - j) % 2 ^ (j - i) := by
      unfold zc_sub zc_tl
      omega
    refine zy_join hL (c := j - i) (by omega) (by omega) (zc_sub_ge _ _ _ _) (zc_sub_lt _ _ _ _) ?_
    rw [e2]
    unfold wY_runGet_140
    rw [cn, za_ap KD, hk]
    refine ⟨hin, br_f (by decide) ?_⟩
    unfold wY_runGet_166
    rw [cn, za_ap KD, hk]
    refine ⟨hin, br_f (by decide) ?_⟩
    unfold wY_runGet_189
    rw [cn, za_ap KD, hk]
    refine ⟨hin, br_f (by decide) ⟨hin, br_f (by decide) ⟨hin, br_f (by decide) ?_⟩⟩⟩
    unfold wY_runGet_238
    rw [cn, za_ap KD, hk]
    refine ⟨hin, br_f (by decide) ⟨hin, br_f (by decide) ?_⟩⟩
    exact zy_279 (by omega) hLFb.1 hw hLG hK (by omega) h
  · rw [hk]
    refine br_f (by decide) ?_
    have hag : AG n < 2 := by
      rcases hz with q | q | q | q | q | q | q
      · omega
      · exact q.2.2.1
      · omega
      · omega
      · omega
      · omega
      · omega
    unfold wY_runGet_140
    rw [cn, za_ap KD, hk]
    refine ⟨hin, br_t rfl ⟨hin, ?_⟩⟩
    have e1 : (2 : Int32) + nI (AG n) = nI (2 + AG n) := za_add 2 _
    rw [za_ap AG, e1]
    refine zy_join hL (c := 1) (by omega) (by omega) (by omega) (by omega) ?_
    rw [show 2 + AG n - 2 ^ 1 = AG n by omega]
    unfold wY_runGet_166
    rw [cn, za_ap KD, hk]
    refine ⟨hin, br_f (by decide) ?_⟩
    unfold wY_runGet_189
    rw [cn, za_ap KD, hk]
    refine ⟨hin, br_f (by decide) ⟨hin, br_f (by decide) ⟨hin, br_f (by decide) ?_⟩⟩⟩
    unfold wY_runGet_238
    rw [cn, za_ap KD, hk]
    refine ⟨hin, br_f (by decide) ⟨hin, br_f (by decide) ?_⟩⟩
    exact zy_279 (by omega) hLFb.1 hw hLG hK (by omega) h
  · rw [hk]
    refine br_f (by decide) ?_
    unfold wY_runGet_140
    rw [cn, za_ap KD, hk]
    refine ⟨hin, br_f (by decide) ?_⟩
    unfold wY_runGet_166
    rw [cn, za_ap KD, hk]
    refine ⟨hin, br_f (by decide) ?_⟩
    unfold wY_runGet_189
    rw [cn, za_ap KD, hk]
    refine ⟨hin, br_f (by decide) ⟨hin, br_f (by decide) ⟨hin, br_f (by decide) ?_⟩⟩⟩
    unfold wY_runGet_238
    rw [cn, za_ap KD, hk]
    refine ⟨hin, br_f (by decide) ⟨hin, br_f (by decide) ?_⟩⟩
    exact zy_279 (by omega) hLFb.1 hw hLG hK (by omega) h
  · have c := zt_ch hz hlo (by omega)
    have eb : b = n - 1 := by rw [hb, if_neg (by omega)]; exact c.2.2.1
    subst eb
    have sb := zd_sub (LG := LG) (x := LF n) (y := n - 1) (s := 0) (W := W) hij hj
    rw [hk]
    refine br_f (by decide) ?_
    unfold wY_runGet_140
    rw [cn, za_ap KD, hk]
    refine ⟨hin, br_f (by decide) ?_⟩
    unfold wY_runGet_166
    rw [cn, za_ap KD, hk]
    refine ⟨hin, br_f (by decide) ?_⟩
    unfold wY_runGet_189
    rw [cn, za_ap KD, hk]
    refine ⟨hin, br_t rfl ?_⟩
    unfold wY_runGet_229
    rw [sb.2]
    refine zy_pt (by omega) ?_
    show wY_runGet_238 _ _ _ _ _ _ _ _ _ _ _ _ _ _ _ _ _ _ _ _ _ _ _ _
    unfold wY_runGet_238
    rw [cn, za_ap KD, hk]
    refine ⟨hin, br_t rfl ?_⟩
    unfold wY_runGet_267
    rw [za_shk (by omega) (by omega), sb.1]
    refine zy_pt (by omega) ?_
    exact zy_279 (by omega) hLFb.1 hw hLG hK (by omega) h
  · have c := zt_ch hz hlo (by omega)
    have eb : b = n - 1 := by rw [hb, if_neg (by omega)]; exact c.2.2.1
    subst eb
    have sb := zd_sub (LG := LG) (x := LF n) (y := n - 1) (s := 0) (W := W) hij hj
    rw [hk]
    refine br_f (by decide) ?_
    unfold wY_runGet_140
    rw [cn, za_ap KD, hk]
    refine ⟨hin, br_f (by decide) ?_⟩
    unfold wY_runGet_166
    rw [cn, za_ap KD, hk]
    rw [za_shk (by omega) (by omega), sb.1, sb.2]
    refine ⟨hin, br_t rfl (zy_pt (by omega) ?_)⟩
    show wY_runGet_189 _ _ _ _ _ _ _ _ _ _ _ _ _ _ _ _ _ _ _ _ _ _ _ _ _
    unfold wY_runGet_189
    rw [cn, za_ap KD, hk]
    refine ⟨hin, br_f (by decide) ⟨hin, br_t rfl ?_⟩⟩
    unfold wY_runGet_229
    refine zy_pt (by omega) ?_
    show wY_runGet_238 _ _ _ _ _ _ _ _ _ _ _ _ _ _ _ _ _ _ _ _ _ _ _ _
    unfold wY_runGet_238
    rw [cn, za_ap KD, hk]
    refine ⟨hin, br_f (by decide) ⟨hin, br_f (by decide) ?_⟩⟩
    exact zy_279 (by omega) hLFb.1 hw hLG hK (by omega) h
  · have c := zt_ch hz hlo (by omega)
    have eb : b = n - 1 := by rw [hb, if_neg (by omega)]; exact c.2.2.1
    subst eb
    rw [hk]
    refine br_f (by decide) ?_
    unfold wY_runGet_140
    rw [cn, za_ap KD, hk]
    refine ⟨hin, br_f (by decide) ?_⟩
    unfold wY_runGet_166
    rw [cn, za_ap KD, hk]
    refine ⟨hin, br_f (by decide) ?_⟩
    unfold wY_runGet_189
    rw [cn, za_ap KD, hk]
    refine ⟨hin, br_f (by decide) ⟨hin, br_f (by decide) ⟨hin, br_f (by decide) ?_⟩⟩⟩
    unfold wY_runGet_238
    rw [cn, za_ap KD, hk]
    refine ⟨hin, br_f (by decide) ⟨hin, br_f (by decide) ?_⟩⟩
    unfold wY_runGet_279
    refine zy_has (s := 0) hLFb.1 (by omega) (by omega) hLG (za_brb (fun q => ?_) (fun q => ?_))
    · rw [if_neg (by rw [q]; decide)] at h
      unfold wY_runGet_298
      rw [cn, za_ap KD, hk]
      exact ⟨hin, br_t rfl (zy_pt (by omega) (nm_r (nI_1 st) h))⟩
    · rw [if_pos q] at h
      unfold wY_runGet_298
      rw [cn, za_ap KD, hk]
      exact ⟨hin, br_t rfl (zy_pt (by omega) (nm_r (nI_1 st) h))⟩
  · have w1 : nI (zc_sub W len i j) = 1 := by rw [(zc_sub_one hij).mpr hij']; rfl
    rw [hk]
    refine br_f (by decide) ?_
    unfold wY_runGet_140
    rw [cn, za_ap KD, hk]
    refine ⟨hin, br_f (by decide) ?_⟩
    unfold wY_runGet_166
    rw [cn, za_ap KD, hk]
    refine ⟨hin, br_f (by decide) ?_⟩
    unfold wY_runGet_189
    rw [cn, za_ap KD, hk]
    refine ⟨hin, br_f (by decide) ⟨hin, br_f (by decide) ⟨hin, br_t rfl (br_t w1 ?_)⟩⟩⟩
    unfold wY_runGet_238
    rw [cn, za_ap KD, hk]
    refine ⟨hin, br_f (by decide) ⟨hin, br_t rfl (br_t w1 ?_)⟩⟩
    exact zy_279 (by omega) hLFb.1 hw hLG hK (by omega) h
  · have c := zt_ch hz hlo (by omega)
    have k6 := zt_k6 hz hk
    have eb : b = n := by rw [hb, if_pos hk]
    subst eb
    rw [k6.2.1] at ck hLFb ⊢
    have sb := zd_sub (LG := LG) (x := b - 1) (y := b) (s := 0) (W := W) hij hj
    have w1 : ¬ nI (zc_sub W len i j) = 1 := fun z => by
      have := (za_eq (b := 1) (by omega) (by omega)).mp z
      have := (zc_sub_one hij).mp this
      omega
    rw [hk]
    refine br_f (by decide) ?_
    unfold wY_runGet_140
    rw [cn, za_ap KD, hk]
    refine ⟨hin, br_f (by decide) ?_⟩
    unfold wY_runGet_166
    rw [cn, za_ap KD, hk]
    refine ⟨hin, br_f (by decide) ?_⟩
    unfold wY_runGet_189
    rw [cn, za_ap KD, hk]
    refine ⟨hin, br_f (by decide) ⟨hin, br_f (by decide) ⟨hin, br_t rfl (br_f w1 ?_)⟩⟩⟩
    unfold wY_runGet_229
    rw [sb.2]
    refine zy_pt (by omega) ?_
    show wY_runGet_238 _ _ _ _ _ _ _ _ _ _ _ _ _ _ _ _ _ _ _ _ _ _ _ _
    unfold wY_runGet_238
    rw [cn, za_ap KD, hk]
    refine ⟨hin, br_f (by decide) ⟨hin, br_t rfl (br_f w1 ?_)⟩⟩
    unfold wY_runGet_267
    rw [za_shk (by omega) (by omega), sb.1]
    refine zy_pt (by omega) ?_
    exact zy_279 (by omega) hLFb.1 hw hLG hK (by omega) h
end
end
section
/-! get: the whole run, in lockstep -/
section
variable {kC kI kE kN kS kU kT nl ll us dp tk ot : Int32} {rt kd ag lf sz lb nu fi la fo be ne en wd ln tn tv te ts tz : Nat → Int32} {mn ml ct tp : Int32} {yr yk ya yf ys yz yl yw yn yv yo : Nat → Int32}
theorem zg_get {N L : Nat} {KD AG LF SZ SC LB LG EN WD LN : Nat → Nat} {W len lo r : Nat} (hL : L ≤ 8) (hz : ∀ n, n ≤ r → zt_N N KD AG LF SZ SC LB LG n) (hlo : lo = r + 1 - SZ r) (hr : r < 16) (hl : len ≤ 8) (hWD : WD 0 = W) (hLN : LN 0 = len) (hW : W < 512) (hT : zt_T LG EN W len 0 lo r) (hLG : ∀ i, LG i < 2) :
    ∀ M st o (l : List (Nat × Nat × Nat)) (tn tv te ts tz yn yv yo : Nat → Int32), zg_ok (zd_okg SZ lo r len) l → zg_c (zd_cg KD SZ) l ≤ M → st + M < 1000 → o < 2 ^ (L + 1) →
      zg_S tn (fun a : Nat × Nat × Nat => nI a.1) l → zg_S ts (fun a : Nat × Nat × Nat => nI a.2.1) l → zg_S tz (fun a : Nat × Nat × Nat => nI a.2.2) l → zg_S yn (fun a : Nat × Nat × Nat => nI a.1) l → zg_S yo (fun a : Nat × Nat × Nat => nI (zc_sub W len a.2.1 a.2.2)) l →
      ∃ (q tk' ot' tp' : Int32) (tn' tv' te' ts' tz' yn' yv' yo' : Nat → Int32),
        (∀ (post : Int32 → SX → Prop) n, M < n → post q (kC, kI, kE, kN, kS, kU, kT, nl, nI L, us, dp, tk', ot', rt, za_n KD, za_n AG, za_n LF, sz, lb, nu, fi, la, fo, be, ne, za_n EN, za_n WD, za_n LN, tn', tv', te', ts', tz') → wX_get_68 post n (nI st) kC kI kE kN kS kU kT nl (nI L) us dp (nI l.length) (ze_x o) rt (za_n KD) (za_n AG) (za_n LF) sz lb nu fi la fo be ne (za_n EN) (za_n WD) (za_n LN) tn tv te ts tz) ∧
        (∀ (post : Int32 → SY → Prop) n, M < n → post q (mn, nI L, ct, tp', yr, za_n KD, za_n AG, za_n LF, za_n SC, yz, za_n LG, yw, yn', yv', yo') → wY_runGet_17 post n (nI o) (nI st) mn (nI L) ct (nI l.length) yr (za_n KD) (za_n AG) (za_n LF) (za_n SC) yz (za_n LG) yw yn yv yo) := by
  have p9 : 2 ^ (L + 1) ≤ 2 ^ 9 := za_p2 (by omega)
  intro M
  induction M with
  | zero =>
    intro st o l tn tv te ts tz yn yv yo hok hc hst ho s1 s2 s3 s4 s5
    cases l with
    | cons a l =>
      have := hok.1
      have hs := zt_sz (hz a.1 this.2.1)
      have := zg_n1 (KD := KD) (SZ := SZ) (n := a.1) (m := a.2.2 - a.2.1) hs.1
      have e : zg_c (zd_cg KD SZ) (a :: l) = zg_n KD SZ a.1 (a.2.2 - a.2.1) + zg_c (zd_cg KD SZ) l := rfl
      omega
    | nil =>
      refine ⟨ze_x o, nI 0, ze_x o, nI 0, tn, tv, te, ts, tz, yn, yv, yo, fun post n hn h => ?_, fun post n hn h => ?_⟩
      · obtain ⟨n, rfl⟩ : ∃ m, n = m + 1 := ⟨n - 1, by omega⟩
        rw [wX_get_68]
        exact br_f (fun z => by have := (za_le (a := 1024) (by omega) (by omega)).mp z; omega) (br_t (by decide) h)
      · obtain ⟨n, rfl⟩ : ∃ m, n = m + 1 := ⟨n - 1, by omega⟩
        rw [wY_runGet_17]
        refine br_f (fun z => by have := (za_le (a := 1000) (by omega) (by omega)).mp z; omega) (br_t (by decide) ?_)
        unfold wY_runGet_326
        refine za_br (za_e0 (by omega)) (fun z => ?_) (fun z => ?_)
        · subst z
          exact h
        · have e : ze_x o = nI o := if_neg z
          rw [e] at h
          exact h
  | succ M ih =>
    intro st o l tn tv te ts tz yn yv yo hok hc hst ho s1 s2 s3 s4 s5
    cases l with
    | nil =>
      refine ⟨ze_x o, nI 0, ze_x o, nI 0, tn, tv, te, ts, tz, yn, yv, yo, fun post n hn h => ?_, fun post n hn h => ?_⟩
      · obtain ⟨n, rfl⟩ : ∃ m, n = m + 1 := ⟨n - 1, by omega⟩
        rw [wX_get_68]
        exact br_f (fun z => by have := (za_le (a := 1024) (by omega) (by omega)).mp z; omega) (br_t (by decide) h)
      · obtain ⟨n, rfl⟩ : ∃ m, n = m + 1 := ⟨n - 1, by omega⟩
        rw [wY_runGet_17]
        refine br_f (fun z => by have := (za_le (a := 1000) (by omega) (by omega)).mp z; omega) (br_t (by decide) ?_)
        unfold wY_runGet_326
        refine za_br (za_e0 (by omega)) (fun z => ?_) (fun z => ?_)
        · subst z
          exact h
        · have e : ze_x o = nI o := if_neg z
          rw [e] at h
          exact h
    | cons a l =>
      obtain ⟨n, i, j⟩ := a
      obtain ⟨⟨a1, a2, a3, a4, a5⟩, hl'⟩ := hok
      dsimp only at a1 a2 a3 a4 a5
      have hzn := hz n a2
      have hsr := zt_sz (hz r (Nat.le_refl r))
      have nest := zt_nest (us := r + 1) (fun m hm => hz m (by omega)) r (by omega) n (by omega) a2
      have hlo' : ∀ m, n + 1 ≤ m + SZ n → lo ≤ m := fun m hm => by omega
      have hsn := zt_sz hzn
      obtain ⟨ps, o', hD⟩ := zd_get_ex (N := 2 ^ (L + 1)) (W := W) (len := len) (o := o) hzn a3
      obtain ⟨hok2, hc2⟩ := zd_get_ok (r := r) (lo := lo) (l := l) hD hzn hlo' ⟨⟨a1, a2, a3, a4, a5⟩, hl'⟩
      have ho' : o' < 2 ^ (L + 1) := by
        rcases hD with ⟨_, _, e⟩ | ⟨_, _, e⟩ | ⟨_, _, e⟩ | ⟨_, _, e⟩ | ⟨_, _, e⟩ | ⟨_, _, e⟩ | ⟨_, _, _, e⟩ | ⟨_, _, _, e⟩
        · rw [e]; exact ze_j_lt (zc_pp _)
        · rw [e]; exact ze_j_lt (zc_pp _)
        · rw [e]; exact ho
        · rw [e]; exact ho
        · rw [e]; exact ho
        · rw [e]; exact ho
        · rw [e]; exact ho
        · rw [e]; exact ho
      obtain ⟨q, tk', ot', tp', tn', tv', te', ts', tz', yn', yv', yo', hX, hY⟩ := ih (st + 1) o' (zg_r ps l) (zg_p tn l.length (fun a => nI a.1) ps) (zg_p tv l.length (fun _ => 0) ps) (zg_p te l.length (fun _ => 0) ps) (zg_p ts l.length (fun a => nI a.2.1) ps) (zg_p tz l.length (fun a => nI a.2.2) ps) (zg_p yn l.length (fun a => nI a.1) ps) (zg_p yv l.length (fun _ => 0) ps) (zg_p yo l.length (fun a => nI (zc_sub W len a.2.1 a.2.2)) ps)
        hok2 (by omega) (by omega) ho' (zg_S_p s1.2) (zg_S_p s2.2) (zg_S_p s3.2) (zg_S_p s4.2) (zg_S_p s5.2)
      rw [zg_rl] at hX hY
      have hin : vp_in (nI n) 16 := vp_in_nI (by omega) (by omega)
      have cn : (nI n).toNatClampNeg = n := za_cl (by omega)
      have il : vp_in (nI l.length) 64 := vp_in_nI (by omega) (by omega)
      have cl : (nI l.length).toNatClampNeg = l.length := za_cl (by omega)
      have el : nI (l.length + 1) - 1 = nI l.length := nI_pred _
      refine ⟨q, tk', ot', tp', tn', tv', te', ts', tz', yn', yv', yo', fun post m hm h => ?_, fun post m hm h => ?_⟩
      · obtain ⟨m, rfl⟩ : ∃ k, m = k + 1 := ⟨m - 1, by omega⟩
        rw [wX_get_68, List.length_cons]
        refine br_f (fun z => by have := (za_le (a := 1024) (by omega) (by omega)).mp z; omega) (br_f (fun z => by have := (za_le0 (by omega)).mp z; omega) ?_)
        refine nm_r el ?_
        rw [cl, s1.1, s2.1, s3.1]
        refine ⟨il, il, il, ?_⟩
        exact zx_gstep (SZ := SZ) (SC := SC) (LB := LB) hL hD hzn hlo' a1 a2 hr a3 a4 hl hWD hLN hW hT (by omega) ho (nm_r (nI_1 st) (hX post m (by omega) h))
      · obtain ⟨m, rfl⟩ : ∃ k, m = k + 1 := ⟨m - 1, by omega⟩
        rw [wY_runGet_17, List.length_cons]
        refine br_f (fun z => by have := (za_le (a := 1000) (by omega) (by omega)).mp z; omega) (br_f (fun z => by have := (za_le0 (by omega)).mp z; omega) ?_)
        refine nm_r el ?_
        rw [cl, s4.1, s5.1]
        refine ⟨il, nm_e ⟨il, nm_e ?_⟩⟩
        rw [cn]
        refine ⟨hin, nm_e ⟨hin, ?_⟩⟩
        have hK := zt_K6 hzn
        refine za_br (za_eq (b := 6) (by omega) (by omega)) (fun k6 => ?_) (fun k6 => ⟨hin, ?_⟩)
        · exact zy_gstep (SZ := SZ) (SC := SC) (LB := LB) hL hD hzn hlo' a1 a2 hr a3 a4 hl (by omega) ho hLG (by rw [if_pos k6]) (hY post m (by omega) h)
        · exact zy_gstep (SZ := SZ) (SC := SC) (LB := LB) hL hD hzn hlo' a1 a2 hr a3 a4 hl (by omega) ho hLG (by rw [if_neg k6]) (hY post m (by omega) h)
end
end
section
/-! get, owed -/
section
theorem zx_getw {post : Int32 → SX → Prop} {NL L US D : Nat} {RT KD AG LF SZ LB NU FI LA FO SC LG WY BE NE EN WD LN : Nat → Nat} {tk ot : Int32} {tn tv te ts tz : Nat → Int32} (I : zi_Inv NL L US D RT KD AG LF SZ LB NU FI LA FO SC LG WY) {x y : Int32}
    (h1 : (x < 0 ∨ (¬ x < 0 ∧ nI D ≤ x)) → post (-1) (0, 1, 2, 3, 4, 5, 6, nI NL, nI L, nI US, nI D, tk, ot, za_n RT, za_n KD, za_n AG, za_n LF, za_n SZ, za_n LB, za_n NU, za_n FI, za_n LA, za_n FO, za_n BE, za_n NE, za_n EN, za_n WD, za_n LN, tn, tv, te, ts, tz))
    (h3 : ∀ j, j < D → x = nI j → ¬ zi_code (2 ^ (L + 1)) y → post (-3) (0, 1, 2, 3, 4, 5, 6, nI NL, nI L, nI US, nI D, tk, ot, za_n RT, za_n KD, za_n AG, za_n LF, za_n SZ, za_n LB, za_n NU, za_n FI, za_n LA, za_n FO, za_n BE, za_n NE, za_n EN, za_n WD, za_n LN, tn, tv, te, ts, tz))
    (h4 : ∀ j, j < D → x = nI j → ∀ w, 1 ≤ w → w < 2 ^ (L + 1) → y = nI w → zy_h LG (RT j) 0 w = false → ∀ EN WD LN : Nat → Nat, post (-4) (0, 1, 2, 3, 4, 5, 6, nI NL, nI L, nI US, nI D, tk, ot, za_n RT, za_n KD, za_n AG, za_n LF, za_n SZ, za_n LB, za_n NU, za_n FI, za_n LA, za_n FO, za_n BE, za_n NE, za_n EN, za_n WD, za_n LN, tn, tv, te, ts, tz))
    (h5 : ∀ j, j < D → x = nI j → ∀ w, 1 ≤ w → w < 2 ^ (L + 1) → y = nI w → zy_h LG (RT j) 0 w = true → ∀ (EN WD LN : Nat → Nat) len, len ≤ L → 2 ^ len ≤ w → w < 2 ^ (len + 1) → WD 0 = w → LN 0 = len → zt_T LG EN w len 0 (RT j + 1 - SZ (RT j)) (RT j) →
      ∃ n, wX_get_68 post n 0 0 1 2 3 4 5 6 (nI NL) (nI L) (nI US) (nI D) (nI 1) 1 (za_n RT) (za_n KD) (za_n AG) (za_n LF) (za_n SZ) (za_n LB) (za_n NU) (za_n FI) (za_n LA) (za_n FO) (za_n BE) (za_n NE) (za_n EN) (za_n WD) (za_n LN) (upd tn 0 (nI (RT j))) (upd tv 0 0) (upd te 0 0) (upd ts 0 0) (upd tz 0 (nI len))) :
    wpX_get post (0, 1, 2, 3, 4, 5, 6, nI NL, nI L, nI US, nI D, tk, ot, za_n RT, za_n KD, za_n AG, za_n LF, za_n SZ, za_n LB, za_n NU, za_n FI, za_n LA, za_n FO, za_n BE, za_n NE, za_n EN, za_n WD, za_n LN, tn, tv, te, ts, tz) x y := by
  have hL : L ≤ 8 := I.1.2.2.2.1
  have hU : US ≤ 16 := Nat.le_trans I.1.2.2.2.2 I.1.2.1
  have hD : D ≤ 16 := Nat.le_trans (zi_D I.2.1) hU
  unfold wpX_get
  refine zx_slot hD (fun h => br_t rfl (h1 h)) (fun j hj e => br_f (by decide) ?_)
  have hr := zi_rt I.2.1 hj
  have h3' := h3 j hj e
  have h4' := h4 j hj e
  have h5' := h5 j hj e
  clear h1 h3 h4 h5
  subst e
  have ij : vp_in (nI j) 16 := vp_in_nI (by omega) (by omega)
  have cj : (nI j).toNatClampNeg = j := za_cl (by omega)
  refine zx_code hL (fun h => br_t rfl (h3' h)) (fun w w1 w2 e => br_f (by decide) ⟨ij, ?_⟩)
  have h4'' := h4' w w1 w2 e
  have h5'' := h5' w w1 w2 e
  clear h3' h4' h5'
  subst e
  obtain ⟨len, l1, l2⟩ := zc_len w w1
  have ll : len ≤ L := by
    have := (Nat.pow_lt_pow_iff_right (show 1 < 2 by decide)).mp (Nat.lt_of_le_of_lt l1 w2)
    omega
  rw [cj]
  refine nm_e ?_
  refine zx_match (s := 0) (LG := LG) (AG := AG) (SC := SC) (N := 2 ^ (L + 1)) (by omega) (by omega) (by omega) l1 l2 (za_p2 (by omega)) (fun n hn => I.2.2.1 n (by omega)) (fun EN' hT _ => ?_)
  refine za_brb (fun q => h4'' q EN' _ _) (fun q => ?_)
  have e0 : za_n (za_u LN 0 len) 0 = nI len := by rw [za_ap, za_us]
  rw [e0]
  exact zx_pt (t := 0) (by omega) (h5'' q EN' _ _ len ll l1 l2 za_us za_us hT)
theorem zy_get1 {post : Int32 → SY → Prop} {NL L US D : Nat} {RT KD AG LF SZ LB NU FI LA FO SC LG WY : Nat → Nat} {tp : Int32} {yn yv yo : Nat → Int32} (_ : zi_Inv NL L US D RT KD AG LF SZ LB NU FI LA FO SC LG WY) {x y : Int32} (h : x < 0 ∨ (¬ x < 0 ∧ nI D ≤ x)) (hp : post (-1) (nI NL, nI L, nI D, tp, za_n RT, za_n KD, za_n AG, za_n LF, za_n SC, za_n SZ, za_n LG, za_n WY, yn, yv, yo)) : wpY_get post (nI NL, nI L, nI D, tp, za_n RT, za_n KD, za_n AG, za_n LF, za_n SC, za_n SZ, za_n LG, za_n WY, yn, yv, yo) x y := by
  unfold wpY_get
  rcases h with h | h
  · exact br_t h hp
  · exact br_f h.1 (br_f (fun z => Int32.lt_irrefl (Int32.lt_of_le_of_lt h.2 z)) hp)
theorem zy_get3 {post : Int32 → SY → Prop} {NL L US D : Nat} {RT KD AG LF SZ LB NU FI LA FO SC LG WY : Nat → Nat} {tp : Int32} {yn yv yo : Nat → Int32} (I : zi_Inv NL L US D RT KD AG LF SZ LB NU FI LA FO SC LG WY) {j : Nat} {y : Int32} (hj : j < D) (h : ¬ zi_code (2 ^ (L + 1)) y) (hp : post (-3) (nI NL, nI L, nI D, tp, za_n RT, za_n KD, za_n AG, za_n LF, za_n SC, za_n SZ, za_n LG, za_n WY, yn, yv, yo)) : wpY_get post (nI NL, nI L, nI D, tp, za_n RT, za_n KD, za_n AG, za_n LF, za_n SC, za_n SZ, za_n LG, za_n WY, yn, yv, yo) (nI j) y := by
  have hU : US ≤ 16 := Nat.le_trans I.1.2.2.2.2 I.1.2.1
  have hD : D ≤ 16 := Nat.le_trans (zi_D I.2.1) hU
  unfold wpY_get
  exact br_f (za_ng (by omega)) (br_t ((za_lt (by omega) (by omega)).mpr hj) (zy_code I.1.2.2.2.1 (fun _ => br_t rfl hp) (fun w a b e => absurd ⟨w, a, b, e⟩ h)))
theorem zy_get4 {post : Int32 → SY → Prop} {NL L US D : Nat} {RT KD AG LF SZ LB NU FI LA FO SC LG WY : Nat → Nat} {tp : Int32} {yn yv yo : Nat → Int32} (I : zi_Inv NL L US D RT KD AG LF SZ LB NU FI LA FO SC LG WY) {j w : Nat} (hj : j < D) (w1 : 1 ≤ w) (w2 : w < 2 ^ (L + 1))
    (h0 : zy_h LG (RT j) 0 w = false → post (-4) (nI NL, nI L, nI D, tp, za_n RT, za_n KD, za_n AG, za_n LF, za_n SC, za_n SZ, za_n LG, za_n WY, yn, yv, yo))
    (h1 : zy_h LG (RT j) 0 w = true → ∃ n, wY_runGet_17 post n 1 0 (nI NL) (nI L) (nI D) (nI 1) (za_n RT) (za_n KD) (za_n AG) (za_n LF) (za_n SC) (za_n SZ) (za_n LG) (za_n WY) (upd yn 0 (nI (RT j))) (upd yv 0 0) (upd yo 0 (nI w))) : wpY_get post (nI NL, nI L, nI D, tp, za_n RT, za_n KD, za_n AG, za_n LF, za_n SC, za_n SZ, za_n LG, za_n WY, yn, yv, yo) (nI j) (nI w) := by
  have hL : L ≤ 8 := I.1.2.2.2.1
  have p9 : 2 ^ (L + 1) ≤ 2 ^ 9 := za_p2 (by omega)
  have hU : US ≤ 16 := Nat.le_trans I.1.2.2.2.2 I.1.2.1
  have hD : D ≤ 16 := Nat.le_trans (zi_D I.2.1) hU
  have hr := zi_rt I.2.1 hj
  have ij : vp_in (nI j) 16 := vp_in_nI (by omega) (by omega)
  have cj : (nI j).toNatClampNeg = j := za_cl (by omega)
  unfold wpY_get
  refine br_f (za_ng (by omega)) (br_t ((za_lt (by omega) (by omega)).mpr hj) (zy_code hL (fun h => absurd ⟨w, w1, w2, rfl⟩ h) (fun _ _ _ _ => br_f (by decide) ⟨ij, ?_⟩)))
  rw [cj]
  refine zy_has (s := 0) (by omega) (by omega) (by omega) I.2.2.2.2.2.1.1 (za_brb h0 (fun q => ⟨ij, ?_⟩))
  unfold wpY_runGet
  exact zy_pt (t := 0) (by omega) (h1 q)
end
theorem zg_start {KD SZ : Nat → Nat} {r m : Nat} (h1 : 1 ≤ SZ r) (h2 : SZ r ≤ 16) (hm : m ≤ 8) : zg_n KD SZ r m ≤ 256 := by
  have a := zg_nl (KD := KD) (SZ := SZ) (m := m) h1
  have k : zg_K m ≤ 16 := by unfold zg_K; split <;> omega
  have b : SZ r * zg_K m ≤ 16 * 16 := Nat.mul_le_mul h2 k
  omega
theorem i_vc_get {k : Nat} {u : SX} {v : SY} (I : i_Rel k u v) (hk : k + 4 ≤ 2050) (v1 : Int32) (v2 : Int32) : wpX_get (fun r u' => wpY_get (fun r' v' => r' = r ∧ i_Rel (k + 4) u' v') v v1 v2) u v1 v2 := by
  refine zi_el (P := fun u v => wpX_get (fun r u' => wpY_get (fun r' v' => r' = r ∧ i_Rel (k + 4) u' v') v v1 v2) u v1 v2) ?_ I
  intro NL L US D RT KD AG LF SZ LB NU FI LA FO SC LG WY BE NE EN WD LN tk ot tp tn tv te ts tz yn yv yo I
  have hL : L ≤ 8 := I.1.2.2.2.1
  have p9 : 2 ^ (L + 1) ≤ 2 ^ 9 := za_p2 (by omega)
  have hU : US ≤ 16 := Nat.le_trans I.1.2.2.2.2 I.1.2.1
  refine zx_getw I ?_ ?_ ?_ ?_
  · intro h
    exact zy_get1 I h ⟨rfl, zi_mk I⟩
  · rintro j hj rfl h
    exact zy_get3 I hj h ⟨rfl, zi_mk I⟩
  · rintro j hj rfl w w1 w2 rfl q EN WD LN
    exact zy_get4 I hj w1 w2 (fun _ => ⟨rfl, zi_mk I⟩) (fun z => by rw [q] at z; cases z)
  · rintro j hj rfl w w1 w2 rfl q EN WD LN len ll l1 l2 hWD hLN hT
    have hr := zi_rt I.2.1 hj
    have hs := zt_sz (I.2.2.1 (RT j) hr)
    obtain ⟨ans, tk', ot', tp', tn', tv', te', ts', tz', yn', yv', yo', hX, hY⟩ := zg_get (kC := 0) (kI := 1) (kE := 2) (kN := 3) (kS := 4) (kU := 5) (kT := 6) (nl := nI NL) (us := nI US) (dp := nI D) (rt := za_n RT) (sz := za_n SZ) (lb := za_n LB) (nu := za_n NU) (fi := za_n FI) (la := za_n LA) (fo := za_n FO) (be := za_n BE) (ne := za_n NE) (mn := nI NL) (ct := nI D) (yr := za_n RT) (yz := za_n SZ) (yw := za_n WY) (L := L) (N := 2 ^ (L + 1)) (KD := KD) (AG := AG) (LF := LF) (SZ := SZ) (SC := SC) (LB := LB) (LG := LG) (EN := EN) (WD := WD) (LN := LN) (W := w) (len := len) (r := RT j) hL (fun n hn => I.2.2.1 n (by omega)) rfl (by omega) (by omega) hWD hLN (by omega) hT I.2.2.2.2.2.1.1
      256 0 1 [(RT j, 0, len)] (upd tn 0 (nI (RT j))) (upd tv 0 0) (upd te 0 0) (upd ts 0 0) (upd tz 0 (nI len)) (upd yn 0 (nI (RT j))) (upd yv 0 0) (upd yo 0 (nI w))
      ⟨⟨by show RT j + 1 - SZ (RT j) ≤ RT j; omega, Nat.le_refl _, Nat.zero_le _, Nat.le_refl _, by show SZ (RT j) + 0 ≤ 16; omega⟩, trivial⟩
      (by
        have := zg_start (KD := KD) (SZ := SZ) (r := RT j) (m := len - 0) hs.1 (by omega) (by omega)
        exact this) (by omega) (by have := zc_pp L; rw [Nat.pow_succ]; omega)
      ⟨pk_us, trivial⟩ ⟨pk_us, trivial⟩ ⟨pk_us, trivial⟩ ⟨pk_us, trivial⟩ ⟨by show upd yo 0 (nI w) 0 = nI (zc_sub w len 0 len); rw [zc_sub_all l1 l2]; exact pk_us, trivial⟩
    refine Exists.intro 257 (hX _ 257 (by omega) ?_)
    refine zy_get4 I hj w1 w2 (fun z => by rw [q] at z; cases z) (fun _ => Exists.intro 257 (hY _ 257 (by omega) ?_))
    exact ⟨rfl, zi_mk I⟩
end
section
/-! put: one step of both machines -/
def zp_a : Option (Nat × Nat) → Int32
  | none => -1
  | some p => nI p.1
def zp_b : Option (Nat × Nat) → Int32
  | none => -1
  | some p => nI p.2
def zp_y (W len : Nat) : Option (Nat × Nat) → Nat
  | none => 0
  | some p => zc_sub W len p.1 p.2
/-- the two parts of an old source -/
def zp_1 (LG : Nat → Nat) (x y W len : Nat) : Option (Nat × Nat) → Option (Nat × Nat)
  | none => none
  | some p => some (p.1, zd_m LG x y 0 W len p.1 p.2)
def zp_2 (LG : Nat → Nat) (x y W len : Nat) : Option (Nat × Nat) → Option (Nat × Nat)
  | none => none
  | some p => some (zd_m LG x y 0 W len p.1 p.2, p.2)
/-- for a star an empty source is none -/
def zp_e : Option (Nat × Nat) → Option (Nat × Nat)
  | none => none
  | some p => if p.1 < p.2 then some p else none
theorem zp_es (p : Nat × Nat) : zp_e (some p) = if p.1 < p.2 then some p else none := rfl
def zp_ok (S : Prop) (len : Nat) : Option (Nat × Nat) → Prop
  | none => True
  | some p => p.1 ≤ p.2 ∧ p.2 ≤ len ∧ S
theorem zp_ok1 {S : Prop} {LG : Nat → Nat} {x y W len : Nat} : ∀ {s : Option (Nat × Nat)}, zp_ok S len s → zp_ok S len (zp_1 LG x y W len s) ∧ zp_ok S len (zp_2 LG x y W len s)
  | none, _ => ⟨trivial, trivial⟩
  | some p, h => by
    have m := zd_m_le (LG := LG) (x := x) (y := y) (s := 0) (W := W) (len := len) h.1
    have := h.2.1
    exact ⟨⟨m.1, by show zd_m LG x y 0 W len p.1 p.2 ≤ len; omega, h.2.2⟩, ⟨m.2, h.2.1, h.2.2⟩⟩
theorem zp_oke {S : Prop} {len : Nat} : ∀ {s : Option (Nat × Nat)}, zp_ok S len s → zp_ok S len (zp_e s)
  | none, _ => trivial
  | some p, h => by
    rw [zp_es]
    split
    · exact h
    · trivial
/-- Y's parts of a source -/
theorem zp_y1 {S : Prop} {LG : Nat → Nat} {x y W len : Nat} : ∀ {s : Option (Nat × Nat)}, zp_ok S len s → zp_y W len s / 2 ^ ze_c LG x y 0 (zp_y W len s) = zp_y W len (zp_1 LG x y W len s) ∧ (if zp_y W len s = 0 then 0 else zc_tl (zp_y W len s) (ze_c LG x y 0 (zp_y W len s))) = zp_y W len (zp_2 LG x y W len s)
  | none, _ => ⟨Nat.zero_div _, if_pos rfl⟩
  | some p, h => by
    have sb := zd_sub (LG := LG) (x := x) (y := y) (s := 0) (W := W) h.1 h.2.1
    have := zc_sub_pos W len p.1 p.2
    refine ⟨sb.1, ?_⟩
    show (if zc_sub W len p.1 p.2 = 0 then 0 else zc_tl (zc_sub W len p.1 p.2) (ze_c LG x y 0 (zc_sub W len p.1 p.2))) = zc_sub W len (zd_m LG x y 0 W len p.1 p.2) p.2
    rw [if_neg (by omega)]
    exact sb.2
theorem zp_y0 {W len : Nat} : ∀ {s : Option (Nat × Nat)}, zp_y W len s = 0 ↔ s = none
  | none => ⟨fun _ => rfl, fun _ => rfl⟩
  | some p => by
    have := zc_sub_pos W len p.1 p.2
    constructor
    · intro h
      have h' : zc_sub W len p.1 p.2 = 0 := h
      omega
    · intro h
      cases h
theorem zp_yb {S : Prop} {W len : Nat} (hl : len ≤ 8) : ∀ {s : Option (Nat × Nat)}, zp_ok S len s → zp_y W len s < 512
  | none, _ => by show 0 < 512; omega
  | some p, h => zc_sub_le (L := 8) (by have := h.2.1; omega)
/-- a star's effective source in Y -/
theorem zp_ye {S : Prop} {W len : Nat} : ∀ {s : Option (Nat × Nat)}, zp_ok S len s → (zp_y W len s = 1 → zp_y W len (zp_e s) = 0) ∧ (zp_y W len s ≠ 1 → zp_y W len (zp_e s) = zp_y W len s)
  | none, _ => ⟨fun _ => rfl, fun _ => rfl⟩
  | some p, h => by
    have e := zc_sub_one (W := W) (n := len) h.1
    constructor
    · intro z
      have := e.mp z
      rw [zp_es, if_neg (by omega)]
      rfl
    · intro z
      have : ¬ p.1 = p.2 := fun q => z (e.mpr q)
      have := h.1
      rw [zp_es, if_pos (by omega)]
abbrev zp_T : Type := Nat × Nat × Nat × Option (Nat × Nat)
/-- who owns the source of a union, and the other -/
def zp_own (LG : Nat → Nat) (a b W len : Nat) (s : Option (Nat × Nat)) : Bool := decide (s = none ∨ zy_h LG a 0 (zp_y W len s) = true)
def zd_put (N : Nat) (KD AG LF LG : Nat → Nat) (W len W1 len1 n vi vj : Nat) (s : Option (Nat × Nat)) (o : Nat) (ps : List zp_T) (o' : Nat) : Prop :=
  (KD n = 0 ∧ ps = [] ∧ o' = ze_j N o (vj - vi) (W1 / 2 ^ (len1 - vj) % 2 ^ (vj - vi))) ∨
  (KD n = 1 ∧ ps = [] ∧ o' = o) ∨
  (KD n = 2 ∧ ps = [] ∧ ((s = none ∧ ∃ c, c ≤ 8 ∧ 2 ^ c ≤ AG n ∧ AG n < 2 ^ (c + 1) ∧ o' = ze_j N o c (AG n - 2 ^ c)) ∨ (∃ p, s = some p ∧ o' = ze_j N o (p.2 - p.1) (W / 2 ^ (len - p.2) % 2 ^ (p.2 - p.1))))) ∨
  (KD n = 3 ∧ ps = [(n - 1, zd_m LG (LF n) (n - 1) 1 W1 len1 vi vj, vj, zp_2 LG (LF n) (n - 1) W len s), (LF n, vi, zd_m LG (LF n) (n - 1) 1 W1 len1 vi vj, zp_1 LG (LF n) (n - 1) W len s)] ∧ o' = o) ∨
  (KD n = 4 ∧ ps = [(n - 1, vi, zd_m LG (n - 1) (LF n) 1 W1 len1 vi vj, zp_2 LG (LF n) (n - 1) W len s), (LF n, zd_m LG (n - 1) (LF n) 1 W1 len1 vi vj, vj, zp_1 LG (LF n) (n - 1) W len s)] ∧ o' = o) ∨
  (KD n = 5 ∧ (∃ x y, ((zp_own LG (LF n) (n - 1) W len s = true ∧ x = LF n ∧ y = n - 1) ∨ (zp_own LG (LF n) (n - 1) W len s = false ∧ x = n - 1 ∧ y = LF n)) ∧
    ((zy_h LG x 1 (zc_sub W1 len1 vi vj) = true ∧ ps = [(x, vi, vj, s)]) ∨ (zy_h LG x 1 (zc_sub W1 len1 vi vj) = false ∧ ps = [(y, vi, vj, none)]))) ∧ o' = o) ∨
  (KD n = 6 ∧ vi = vj ∧ ps = [] ∧ o' = o) ∨
  (KD n = 6 ∧ vi < vj ∧ ps = [(n, zd_m LG (n - 1) n 1 W1 len1 vi vj, vj, zp_2 LG (n - 1) n W len (zp_e s)), (n - 1, vi, zd_m LG (n - 1) n 1 W1 len1 vi vj, zp_1 LG (n - 1) n W len (zp_e s))] ∧ o' = o)
def zd_okp (SZ : Nat → Nat) (lo r len len1 : Nat) (S : Prop) (a : zp_T) (t : Nat) : Prop := lo ≤ a.1 ∧ a.1 ≤ r ∧ a.2.1 ≤ a.2.2.1 ∧ a.2.2.1 ≤ len1 ∧ SZ a.1 + t ≤ 16 ∧ zp_ok S len a.2.2.2
def zd_cp (KD SZ : Nat → Nat) (a : zp_T) : Nat := zg_n KD SZ a.1 (a.2.2.1 - a.2.1)
theorem zd_put_ex {N M : Nat} {KD AG LF SZ SC LB LG : Nat → Nat} {W len W1 len1 n vi vj o : Nat} {s : Option (Nat × Nat)} (hM : M ≤ 512) (hz : zt_N M KD AG LF SZ SC LB LG n) (hij : vi ≤ vj) : ∃ ps o', zd_put N KD AG LF LG W len W1 len1 n vi vj s o ps o' := by
  rcases hz with h | h | h | h | h | h | h
  · exact ⟨_, _, Or.inl ⟨h.1, rfl, rfl⟩⟩
  · exact ⟨_, _, Or.inr (Or.inl ⟨h.1, rfl, rfl⟩)⟩
  · cases s with
    | none =>
      obtain ⟨c, c1, c2⟩ := zc_len (AG n) h.2.2.1
      have : c < 9 := (Nat.pow_lt_pow_iff_right (show 1 < 2 by decide)).mp (Nat.lt_of_le_of_lt c1 (show AG n < 2 ^ 9 by have := h.2.2.2.1; omega))
      exact ⟨_, _, Or.inr (Or.inr (Or.inl ⟨h.1, rfl, Or.inl ⟨rfl, c, by omega, c1, c2, rfl⟩⟩))⟩
    | some p => exact ⟨_, _, Or.inr (Or.inr (Or.inl ⟨h.1, rfl, Or.inr ⟨p, rfl, rfl⟩⟩))⟩
  · exact ⟨_, _, Or.inr (Or.inr (Or.inr (Or.inl ⟨h.1, rfl, rfl⟩)))⟩
  · exact ⟨_, _, Or.inr (Or.inr (Or.inr (Or.inr (Or.inl ⟨h.1, rfl, rfl⟩))))⟩
  · have key : ∀ x y, ((zp_own LG (LF n) (n - 1) W len s = true ∧ x = LF n ∧ y = n - 1) ∨ (zp_own LG (LF n) (n - 1) W len s = false ∧ x = n - 1 ∧ y = LF n)) → ∃ ps o', zd_put N KD AG LF LG W len W1 len1 n vi vj s o ps o' := by
      intro x y hxy
      cases c : zy_h LG x 1 (zc_sub W1 len1 vi vj)
      · exact ⟨_, o, Or.inr (Or.inr (Or.inr (Or.inr (Or.inr (Or.inl ⟨h.1, ⟨x, y, hxy, Or.inr ⟨c, rfl⟩⟩, rfl⟩)))))⟩
      · exact ⟨_, o, Or.inr (Or.inr (Or.inr (Or.inr (Or.inr (Or.inl ⟨h.1, ⟨x, y, hxy, Or.inl ⟨c, rfl⟩⟩, rfl⟩)))))⟩
    cases c : zp_own LG (LF n) (n - 1) W len s
    · exact key _ _ (Or.inr ⟨c, rfl, rfl⟩)
    · exact key _ _ (Or.inl ⟨c, rfl, rfl⟩)
  · by_cases e : vi = vj
    · exact ⟨_, _, Or.inr (Or.inr (Or.inr (Or.inr (Or.inr (Or.inr (Or.inl ⟨h.1, e, rfl, rfl⟩))))))⟩
    · exact ⟨_, _, Or.inr (Or.inr (Or.inr (Or.inr (Or.inr (Or.inr (Or.inr ⟨h.1, by omega, rfl, rfl⟩))))))⟩
theorem zd_put_lt {N : Nat} {KD AG LF LG : Nat → Nat} {W len W1 len1 n vi vj o o' : Nat} {s : Option (Nat × Nat)} {ps : List zp_T} (hN : 0 < N) (ho : o < N) (hD : zd_put N KD AG LF LG W len W1 len1 n vi vj s o ps o') : o' < N := by
  rcases hD with ⟨_, _, e⟩ | ⟨_, _, e⟩ | ⟨_, _, ⟨_, c, _, _, _, e⟩ | ⟨p, _, e⟩⟩ | ⟨_, _, e⟩ | ⟨_, _, e⟩ | ⟨_, _, e⟩ | ⟨_, _, _, e⟩ | ⟨_, _, _, e⟩
  · rw [e]; exact ze_j_lt hN
  · rw [e]; exact ho
  · rw [e]; exact ze_j_lt hN
  · rw [e]; exact ze_j_lt hN
  · rw [e]; exact ho
  · rw [e]; exact ho
  · rw [e]; exact ho
  · rw [e]; exact ho
  · rw [e]; exact ho
theorem zd_put_ok {N M : Nat} {KD AG LF SZ SC LB LG : Nat → Nat} {W len W1 len1 n vi vj o lo r o' : Nat} {s : Option (Nat × Nat)} {S : Prop} {ps l : List zp_T} (hD : zd_put M KD AG LF LG W len W1 len1 n vi vj s o ps o') (hz : zt_N N KD AG LF SZ SC LB LG n) (hlo : ∀ m, n + 1 ≤ m + SZ n → lo ≤ m)
    (h : zg_ok (zd_okp SZ lo r len len1 S) ((n, vi, vj, s) :: l)) : zg_ok (zd_okp SZ lo r len len1 S) (zg_r ps l) ∧ zg_c (zd_cp KD SZ) (zg_r ps l) + 1 ≤ zg_c (zd_cp KD SZ) ((n, vi, vj, s) :: l) := by
  obtain ⟨⟨a1, a2, a3, a4, a5, a6⟩, hl⟩ := h
  dsimp only at a1 a2 a3 a4 a5 a6
  have hsz := zt_sz hz
  have none : ps = [] → zg_ok (zd_okp SZ lo r len len1 S) (zg_r ps l) ∧ zg_c (zd_cp KD SZ) (zg_r ps l) + 1 ≤ zg_c (zd_cp KD SZ) ((n, vi, vj, s) :: l) := by
    rintro rfl
    have := zg_n1 (KD := KD) (SZ := SZ) (n := n) (m := vj - vi) hsz.1
    refine ⟨hl, ?_⟩
    show zg_c (zd_cp KD SZ) l + 1 ≤ zg_n KD SZ n (vj - vi) + zg_c (zd_cp KD SZ) l
    omega
  rcases hD with h | h | h | ⟨h, rfl, _⟩ | ⟨h, rfl, _⟩ | ⟨h, hx, _⟩ | h | ⟨h, hij, rfl, _⟩
  · exact none h.2.1
  · exact none h.2.1
  · exact none h.2.1
  · have c := zt_ch hz hlo (by omega)
    have m := zd_m_le (LG := LG) (x := LF n) (y := n - 1) (s := 1) (W := W1) (len := len1) a3
    have z2 := zt_k2 hz (Or.inl h)
    have so := zp_ok1 (LG := LG) (x := LF n) (y := n - 1) (W := W) a6
    have co := zg_two (KD := KD) (SZ := SZ) (n := n) (a := LF n) (b := n - 1) (m1 := zd_m LG (LF n) (n - 1) 1 W1 len1 vi vj - vi) (m2 := vj - zd_m LG (LF n) (n - 1) 1 W1 len1 vi vj) (by omega) (by omega) (by omega) z2
    rw [show zd_m LG (LF n) (n - 1) 1 W1 len1 vi vj - vi + (vj - zd_m LG (LF n) (n - 1) 1 W1 len1 vi vj) = vj - vi by omega] at co
    refine ⟨⟨⟨?_, ?_, m.1, ?_, ?_, so.1⟩, ⟨?_, ?_, m.2, a4, ?_, so.2⟩, hl⟩, ?_⟩
    · show lo ≤ LF n; omega
    · show LF n ≤ r; omega
    · show zd_m LG (LF n) (n - 1) 1 W1 len1 vi vj ≤ len1; omega
    · show SZ (LF n) + (l.length + 1) ≤ 16; omega
    · show lo ≤ n - 1; omega
    · show n - 1 ≤ r; omega
    · show SZ (n - 1) + l.length ≤ 16; omega
    · show zg_n KD SZ (LF n) (zd_m LG (LF n) (n - 1) 1 W1 len1 vi vj - vi) + (zg_n KD SZ (n - 1) (vj - zd_m LG (LF n) (n - 1) 1 W1 len1 vi vj) + zg_c (zd_cp KD SZ) l) + 1 ≤ zg_n KD SZ n (vj - vi) + zg_c (zd_cp KD SZ) l
      omega
  · have c := zt_ch hz hlo (by omega)
    have m := zd_m_le (LG := LG) (x := n - 1) (y := LF n) (s := 1) (W := W1) (len := len1) a3
    have z2 := zt_k2 hz (Or.inr h)
    have so := zp_ok1 (LG := LG) (x := LF n) (y := n - 1) (W := W) a6
    have co := zg_two (KD := KD) (SZ := SZ) (n := n) (a := LF n) (b := n - 1) (m1 := vj - zd_m LG (n - 1) (LF n) 1 W1 len1 vi vj) (m2 := zd_m LG (n - 1) (LF n) 1 W1 len1 vi vj - vi) (by omega) (by omega) (by omega) z2
    rw [show vj - zd_m LG (n - 1) (LF n) 1 W1 len1 vi vj + (zd_m LG (n - 1) (LF n) 1 W1 len1 vi vj - vi) = vj - vi by omega] at co
    refine ⟨⟨⟨?_, ?_, m.2, a4, ?_, so.1⟩, ⟨?_, ?_, m.1, ?_, ?_, so.2⟩, hl⟩, ?_⟩
    · show lo ≤ LF n; omega
    · show LF n ≤ r; omega
    · show SZ (LF n) + (l.length + 1) ≤ 16; omega
    · show lo ≤ n - 1; omega
    · show n - 1 ≤ r; omega
    · show zd_m LG (n - 1) (LF n) 1 W1 len1 vi vj ≤ len1; omega
    · show SZ (n - 1) + l.length ≤ 16; omega
    · show zg_n KD SZ (LF n) (vj - zd_m LG (n - 1) (LF n) 1 W1 len1 vi vj) + (zg_n KD SZ (n - 1) (zd_m LG (n - 1) (LF n) 1 W1 len1 vi vj - vi) + zg_c (zd_cp KD SZ) l) + 1 ≤ zg_n KD SZ n (vj - vi) + zg_c (zd_cp KD SZ) l
      omega
  · have c := zt_ch hz hlo (by omega)
    have key : ∀ q s', (q = LF n ∨ q = n - 1) → zp_ok S len s' → zg_ok (zd_okp SZ lo r len len1 S) (zg_r [(q, vi, vj, s')] l) ∧ zg_c (zd_cp KD SZ) (zg_r [(q, vi, vj, s')] l) + 1 ≤ zg_c (zd_cp KD SZ) ((n, vi, vj, s) :: l) := by
      intro q s' hq hs'
      have q1 : lo ≤ q ∧ q ≤ r ∧ 1 ≤ SZ q ∧ SZ q + 1 ≤ SZ n := by rcases hq with e | e <;> rw [e] <;> omega
      have co := zg_one (KD := KD) (SZ := SZ) (n := n) (c := q) (m := vj - vi) (by omega) q1.2.2.1 q1.2.2.2
      refine ⟨⟨⟨q1.1, q1.2.1, a3, a4, ?_, hs'⟩, hl⟩, ?_⟩
      · show SZ q + l.length ≤ 16; omega
      · show zg_n KD SZ q (vj - vi) + zg_c (zd_cp KD SZ) l + 1 ≤ zg_n KD SZ n (vj - vi) + zg_c (zd_cp KD SZ) l
        omega
    obtain ⟨x, y, hxy, hp⟩ := hx
    have hx' : (x = LF n ∨ x = n - 1) ∧ (y = LF n ∨ y = n - 1) := by
      rcases hxy with ⟨_, e1, e2⟩ | ⟨_, e1, e2⟩
      · exact ⟨Or.inl e1, Or.inr e2⟩
      · exact ⟨Or.inr e1, Or.inl e2⟩
    rcases hp with ⟨_, rfl⟩ | ⟨_, rfl⟩
    · exact key _ _ hx'.1 a6
    · exact key _ _ hx'.2 trivial
  · exact none h.2.2.1
  · have c := zt_ch hz hlo (by omega)
    have k6 := zt_k6 hz h
    have m := zd_m_le (LG := LG) (x := n - 1) (y := n) (s := 1) (W := W1) (len := len1) a3
    have mg := zd_m_gt (LG := LG) (x := n - 1) (y := n) (s := 1) (W := W1) (len := len1) hij a4 k6.2.2.2
    have so := zp_ok1 (LG := LG) (x := n - 1) (y := n) (W := W) (zp_oke a6)
    have co := zg_sta (KD := KD) (SZ := SZ) (n := n) (a := n - 1) (m1 := zd_m LG (n - 1) n 1 W1 len1 vi vj - vi) (m2 := vj - zd_m LG (n - 1) n 1 W1 len1 vi vj) h (by omega) k6.1 (by omega)
    rw [show zd_m LG (n - 1) n 1 W1 len1 vi vj - vi + (vj - zd_m LG (n - 1) n 1 W1 len1 vi vj) = vj - vi by omega] at co
    refine ⟨⟨⟨?_, ?_, m.1, ?_, ?_, so.1⟩, ⟨a1, a2, m.2, a4, a5, so.2⟩, hl⟩, ?_⟩
    · show lo ≤ n - 1; omega
    · show n - 1 ≤ r; omega
    · show zd_m LG (n - 1) n 1 W1 len1 vi vj ≤ len1; omega
    · show SZ (n - 1) + (l.length + 1) ≤ 16; omega
    · show zg_n KD SZ (n - 1) (zd_m LG (n - 1) n 1 W1 len1 vi vj - vi) + (zg_n KD SZ n (vj - zd_m LG (n - 1) n 1 W1 len1 vi vj) + zg_c (zd_cp KD SZ) l) + 1 ≤ zg_n KD SZ n (vj - vi) + zg_c (zd_cp KD SZ) l
      omega
end
section
/-! put: X's step, walked -/
section
variable {kC kI kE kN kS kU kT nl ll us dp tk ot : Int32} {rt kd ag lf sz lb nu fi la fo be ne en wd ln tn tv te ts tz : Nat → Int32}
theorem zx_emb0 {post : SX → Prop} {L W c o : Nat} (hL : L ≤ 8) (hW : W < 512) (hc : c ≤ 8) (h1 : 2 ^ c ≤ W) (h2 : W < 2 ^ (c + 1)) (ho : o < 2 ^ (L + 1)) (h : post (kC, kI, kE, kN, kS, kU, kT, nl, nI L, us, dp, tk, ze_x (ze_j (2 ^ (L + 1)) o c (W - 2 ^ c)), rt, kd, ag, lf, sz, lb, nu, fi, la, fo, be, ne, en, wd, ln, tn, tv, te, ts, tz)) :
    wpX_emitBits post (kC, kI, kE, kN, kS, kU, kT, nl, nI L, us, dp, tk, ze_x o, rt, kd, ag, lf, sz, lb, nu, fi, la, fo, be, ne, en, wd, ln, tn, tv, te, ts, tz) (nI W) (nI c) 0 := by
  have e : W / 2 ^ 0 % 2 ^ c = W - 2 ^ c := by
    rw [Nat.pow_zero, Nat.div_one]
    rw [Nat.pow_succ] at h2
    have : W % 2 ^ c = (W - 2 ^ c) % 2 ^ c := by
      rw [show W = W - 2 ^ c + 2 ^ c by omega, Nat.add_mod_right, Nat.add_sub_cancel]
    rw [this]
    exact Nat.mod_eq_of_lt (by omega)
  have key := zx_emb (post := post) (low := 0) (c := c) (o := o) (W := W) (kC := kC) (kI := kI) (kE := kE) (kN := kN) (kS := kS) (kU := kU) (kT := kT) (nl := nl) (us := us) (dp := dp) (tk := tk) (rt := rt) (kd := kd) (ag := ag) (lf := lf) (sz := sz) (lb := lb) (nu := nu) (fi := fi) (la := la) (fo := fo) (be := be) (ne := ne) (en := en) (wd := wd) (ln := ln) (tn := tn) (tv := tv) (te := te) (ts := ts) (tz := tz) hL hW (by omega) ho (by rw [e]; exact h)
  rw [Nat.zero_add] at key
  exact key
theorem zx_psun {post : SX → Prop} {LG EN : Nat → Nat} {W1 len1 vi vj x y t : Nat} {s : Option (Nat × Nat)} (hl : len1 ≤ 8) (hx : x < 16) (hij : vi ≤ vj) (hj : vj ≤ len1) (tb : zt_e LG W1 len1 1 x vi (EN (zt_ix 1 x vi))) (ht : t < 64) (ps : List zp_T)
    (hp : (zy_h LG x 1 (zc_sub W1 len1 vi vj) = true ∧ ps = [(x, vi, vj, s)]) ∨ (zy_h LG x 1 (zc_sub W1 len1 vi vj) = false ∧ ps = [(y, vi, vj, none)]))
    (h : post (kC, kI, kE, kN, kS, kU, kT, nl, ll, us, dp, nI (t + ps.length), ot, rt, kd, ag, lf, sz, lb, nu, fi, la, fo, be, ne, za_n EN, wd, ln, zg_p tn t (fun a => nI a.1) ps, zg_p tv t (fun a => nI a.2.1) ps, zg_p te t (fun a => nI a.2.2.1) ps, zg_p ts t (fun a => zp_a a.2.2.2) ps, zg_p tz t (fun a => zp_b a.2.2.2) ps)) :
    wX_putUnion_65 post (nI vi) (nI vj) (zp_a s) (zp_b s) (nI x) (nI y) kC kI kE kN kS kU kT nl ll us dp (nI t) ot rt kd ag lf sz lb nu fi la fo be ne (za_n EN) wd ln tn tv te ts tz := by
  unfold wX_putUnion_65
  refine zx_spans (s := 1) (by omega) hx (by omega) (by omega) tb.1 ?_
  rw [tb.2 vj hj, decide_eq_true hij, Bool.true_and]
  rcases hp with ⟨q, rfl⟩ | ⟨q, rfl⟩
  · rw [q]
    exact br_f (by decide) (zx_pt ht h)
  · rw [q]
    exact br_t rfl (zx_pt ht h)
theorem zx_pstep {post : SX → Prop} {N L : Nat} {KD AG LF SZ SC LB LG EN WD LN : Nat → Nat} {W len W1 len1 n vi vj o lo r o' t : Nat} {s : Option (Nat × Nat)} {S : Prop} {ps : List zp_T} (hL : L ≤ 8) (hN : N ≤ 512) (hD : zd_put (2 ^ (L + 1)) KD AG LF LG W len W1 len1 n vi vj s o ps o') (hz : zt_N N KD AG LF SZ SC LB LG n) (hlo : ∀ m, n + 1 ≤ m + SZ n → lo ≤ m)
    (hn1 : lo ≤ n) (hn2 : n ≤ r) (hr : r < 16) (hij : vi ≤ vj) (hj : vj ≤ len1) (hl1 : len1 ≤ 8) (hWD : WD 1 = W1) (hLN : LN 1 = len1) (hW1 : W1 < 512) (hT1 : zt_T LG EN W1 len1 1 lo r)
    (hs : zp_ok S len s) (hl : len ≤ 8) (hW : W < 512) (hS : S → WD 0 = W ∧ LN 0 = len ∧ zt_T LG EN W len 0 lo r) (ht : t + 2 ≤ 64) (ho : o < 2 ^ (L + 1))
    (h : post (kC, kI, kE, kN, kS, kU, kT, nl, nI L, us, dp, nI (t + ps.length), ze_x o', rt, za_n KD, za_n AG, za_n LF, sz, lb, nu, fi, la, fo, be, ne, za_n EN, za_n WD, za_n LN, zg_p tn t (fun a => nI a.1) ps, zg_p tv t (fun a => nI a.2.1) ps, zg_p te t (fun a => nI a.2.2.1) ps, zg_p ts t (fun a => zp_a a.2.2.2) ps, zg_p tz t (fun a => zp_b a.2.2.2) ps)) :
    wpX_putStep post (kC, kI, kE, kN, kS, kU, kT, nl, nI L, us, dp, nI t, ze_x o, rt, za_n KD, za_n AG, za_n LF, sz, lb, nu, fi, la, fo, be, ne, za_n EN, za_n WD, za_n LN, tn, tv, te, ts, tz) (nI n) (nI vi) (nI vj) (zp_a s) (zp_b s) := by
  have hin : vp_in (nI n) 16 := vp_in_nI (by omega) (by omega)
  have cn : (nI n).toNatClampNeg = n := za_cl (by omega)
  unfold wpX_putStep
  refine ⟨hin, ?_⟩
  rw [cn, za_ap KD]
  rcases hD with ⟨hk, rfl, rfl⟩ | ⟨hk, rfl, rfl⟩ | ⟨hk, rfl, hc⟩ | ⟨hk, rfl, rfl⟩ | ⟨hk, rfl, rfl⟩ | ⟨hk, hx, rfl⟩ | ⟨hk, hij', rfl, rfl⟩ | ⟨hk, hij', rfl, rfl⟩
  · rw [hk]
    refine nm_e (br_t rfl ?_)
    exact zx_emit (s := 1) hL (by omega) hWD hLN hW1 hl1 hij hj ho h
  · rw [hk]
    exact nm_e (br_f (by decide) (br_f (by decide) (br_f (by decide) (br_f (by decide) (br_t rfl h)))))
  · rw [hk]
    refine nm_e (br_f (by decide) (br_t rfl ?_))
    have hag : AG n < 512 := by
      rcases hz with q | q | q | q | q | q | q
      · omega
      · omega
      · have := q.2.2.2.1; omega
      · omega
      · omega
      · omega
      · omega
    unfold wpX_putErase
    rcases hc with ⟨rfl, c, c8, c1, c2, rfl⟩ | ⟨p, rfl, rfl⟩
    · refine br_t (by decide) ⟨hin, ?_⟩
      rw [cn, za_ap AG]
      exact zx_lenof c8 c1 c2 ⟨hin, zx_emb0 hL hag c8 c1 c2 ho h⟩
    · obtain ⟨s1, s2, s3⟩ := hs
      obtain ⟨g1, g2, g3⟩ := hS s3
      refine br_f (za_ng (x := p.1) (by omega)) ?_
      exact zx_emit (s := 0) hL (by omega) g1 g2 hW hl s1 s2 ho h
  · have c := zt_ch hz hlo (by omega)
    have e1 : nI n - 1 = nI (n - 1) := za_sub (b := 1) c.1
    rw [hk]
    refine nm_e (br_f (by decide) (br_f (by decide) (br_f (by decide) (br_f (by decide) (br_f (by decide) ?_)))))
    have fin : wX_putPair_35 post (nI n) (nI vi) (nI vj) (zp_a s) (zp_b s) (nI (LF n)) (nI (n - 1)) (zp_b (zp_1 LG (LF n) (n - 1) W len s)) kC kI kE kN kS kU kT nl (nI L) us dp (nI t) (ze_x o') rt (za_n KD) (za_n AG) (za_n LF) sz lb nu fi la fo be ne (za_n EN) (za_n WD) (za_n LN) tn tv te ts tz := by
      unfold wX_putPair_35
      rw [cn, za_ap KD, hk]
      refine ⟨hin, br_f (by decide) ?_⟩
      refine zx_cut (s := 1) (x := LF n) (y := n - 1) (by omega) (by omega) (by omega) hl1 hij hj (hT1 _ (by omega) (by omega)) (hT1 _ (by omega) (by omega)) ?_
      cases s with
      | none => exact zx_pt (by omega) (zx_pt (by omega) h)
      | some p => exact zx_pt (by omega) (zx_pt (by omega) h)
    unfold wpX_putPair
    refine ⟨hin, ?_⟩
    rw [cn]
    refine nm_e (nm_r e1 ?_)
    cases s with
    | none => exact br_f (by decide) fin
    | some p =>
      obtain ⟨s1, s2, s3⟩ := hs
      obtain ⟨g1, g2, g3⟩ := hS s3
      refine br_t (nI_pos' (n := p.1) (by omega)) ?_
      exact zx_cut (s := 0) (x := LF n) (y := n - 1) (by omega) (by omega) (by omega) hl s1 s2 (g3 _ (by omega) (by omega)) (g3 _ (by omega) (by omega)) fin
  · have c := zt_ch hz hlo (by omega)
    have e1 : nI n - 1 = nI (n - 1) := za_sub (b := 1) c.1
    rw [hk]
    refine nm_e (br_f (by decide) (br_f (by decide) (br_f (by decide) (br_f (by decide) (br_f (by decide) ?_)))))
    have fin : wX_putPair_35 post (nI n) (nI vi) (nI vj) (zp_a s) (zp_b s) (nI (LF n)) (nI (n - 1)) (zp_b (zp_1 LG (LF n) (n - 1) W len s)) kC kI kE kN kS kU kT nl (nI L) us dp (nI t) (ze_x o') rt (za_n KD) (za_n AG) (za_n LF) sz lb nu fi la fo be ne (za_n EN) (za_n WD) (za_n LN) tn tv te ts tz := by
      unfold wX_putPair_35
      rw [cn, za_ap KD, hk]
      refine ⟨hin, br_t rfl ?_⟩
      refine zx_cut (s := 1) (x := n - 1) (y := LF n) (by omega) (by omega) (by omega) hl1 hij hj (hT1 _ (by omega) (by omega)) (hT1 _ (by omega) (by omega)) ?_
      cases s with
      | none => exact zx_pt (by omega) (zx_pt (by omega) h)
      | some p => exact zx_pt (by omega) (zx_pt (by omega) h)
    unfold wpX_putPair
    refine ⟨hin, ?_⟩
    rw [cn]
    refine nm_e (nm_r e1 ?_)
    cases s with
    | none => exact br_f (by decide) fin
    | some p =>
      obtain ⟨s1, s2, s3⟩ := hs
      obtain ⟨g1, g2, g3⟩ := hS s3
      refine br_t (nI_pos' (n := p.1) (by omega)) ?_
      exact zx_cut (s := 0) (x := LF n) (y := n - 1) (by omega) (by omega) (by omega) hl s1 s2 (g3 _ (by omega) (by omega)) (g3 _ (by omega) (by omega)) fin
  · have c := zt_ch hz hlo (by omega)
    have e1 : nI n - 1 = nI (n - 1) := za_sub (b := 1) c.1
    rw [hk]
    refine nm_e (br_f (by decide) (br_f (by decide) (br_t rfl ?_)))
    obtain ⟨x, y, hxy, hp⟩ := hx
    have fA : zp_own LG (LF n) (n - 1) W len s = true → wX_putUnion_32 post (nI vi) (nI vj) (zp_a s) (zp_b s) (nI (LF n)) (nI (n - 1)) kC kI kE kN kS kU kT nl (nI L) us dp (nI t) (ze_x o') rt (za_n KD) (za_n AG) (za_n LF) sz lb nu fi la fo be ne (za_n EN) (za_n WD) (za_n LN) tn tv te ts tz := by
      intro q
      rcases hxy with ⟨_, rfl, rfl⟩ | ⟨q', _⟩
      · unfold wX_putUnion_32 wX_putUnion_37
        refine br_f (by decide) ?_
        unfold wX_putUnion_51
        refine br_f (by decide) ?_
        exact zx_psun hl1 (by omega) hij hj (hT1 _ (by omega) (by omega) vi (by omega)) (by omega) ps hp h
      · rw [q] at q'; cases q'
    have fB : zp_own LG (LF n) (n - 1) W len s = false → wX_putUnion_37 post (nI vi) (nI vj) (zp_a s) (zp_b s) (nI (LF n)) (nI (n - 1)) 0 kC kI kE kN kS kU kT nl (nI L) us dp (nI t) (ze_x o') rt (za_n KD) (za_n AG) (za_n LF) sz lb nu fi la fo be ne (za_n EN) (za_n WD) (za_n LN) tn tv te ts tz := by
      intro q
      rcases hxy with ⟨q', _⟩ | ⟨_, rfl, rfl⟩
      · rw [q] at q'; cases q'
      · unfold wX_putUnion_37
        refine br_t rfl ?_
        unfold wX_putUnion_51
        refine br_t rfl ?_
        exact zx_psun hl1 (by omega) hij hj (hT1 _ (by omega) (by omega) vi (by omega)) (by omega) ps hp h
    unfold wpX_putUnion
    refine ⟨hin, ?_⟩
    rw [cn]
    refine nm_e (nm_r e1 ?_)
    cases s with
    | none => exact br_t (by decide) (fA (decide_eq_true (Or.inl rfl)))
    | some p =>
      obtain ⟨s1, s2, s3⟩ := hs
      obtain ⟨g1, g2, g3⟩ := hS s3
      have tb := g3 (LF n) (by omega) (by omega) p.1 (by omega)
      refine br_f (za_ng (x := p.1) (by omega)) ?_
      refine zx_spans (s := 0) (n := LF n) (i := p.1) (j := p.2) (by omega) (by omega) (by omega) (by omega) tb.1 ?_
      rw [tb.2 p.2 s2, decide_eq_true s1, Bool.true_and]
      refine za_brb (fun q => fB ?_) (fun q => fA (decide_eq_true (Or.inr q)))
      refine decide_eq_false ?_
      rintro (z | z)
      · cases z
      · have z' : zy_h LG (LF n) 0 (zc_sub W len p.1 p.2) = true := z
        rw [q] at z'; cases z'
  · rw [hk]
    refine nm_e (br_f (by decide) (br_f (by decide) (br_f (by decide) (br_t rfl ?_))))
    unfold wpX_putStar
    exact br_f (fun z => by have := (za_lt (by omega) (by omega)).mp z; omega) h
  · have c := zt_ch hz hlo (by omega)
    have e1 : nI n - 1 = nI (n - 1) := za_sub (b := 1) c.1
    rw [hk]
    refine nm_e (br_f (by decide) (br_f (by decide) (br_f (by decide) (br_t rfl ?_))))
    unfold wpX_putStar
    refine br_t ((za_lt (by omega) (by omega)).mpr hij') (nm_r e1 ?_)
    refine zx_cut (s := 1) (x := n - 1) (y := n) (by omega) (by omega) (by omega) hl1 hij hj (hT1 _ (by omega) (by omega)) (hT1 _ (by omega) (by omega)) ?_
    cases s with
    | none =>
      refine br_t (by decide) ?_
      unfold wX_putStar_35
      exact zx_pt (by omega) (zx_pt (by omega) h)
    | some p =>
      obtain ⟨s1, s2, s3⟩ := hs
      obtain ⟨g1, g2, g3⟩ := hS s3
      rw [zp_es] at h
      refine br_f (za_ng (x := p.1) (by omega)) (za_br (za_lt (a := p.1) (b := p.2) (by omega) (by omega)) (fun q => ?_) (fun q => ?_))
      · rw [if_pos q] at h
        refine zx_cut (s := 0) (x := n - 1) (y := n) (i := p.1) (j := p.2) (by omega) (by omega) (by omega) hl s1 s2 (g3 _ (by omega) (by omega)) (g3 _ (by omega) (by omega)) ?_
        exact zx_pt (by omega) (zx_pt (by omega) h)
      · rw [if_neg q] at h
        unfold wX_putStar_35
        exact zx_pt (by omega) (zx_pt (by omega) h)
end
end
section
/-! put: Y's step, walked -/
theorem ze_c9 (LG : Nat → Nat) (x y s w : Nat) : ze_c LG x y s w ≤ 8 := by
  unfold ze_c
  rcases ze_g_sp (P := ze_q LG x y s w) 9 with h | h <;> omega
section
variable {mn ml ct tp : Int32} {yr yk ya yf ys yz yl yw yn yv yo : Nat → Int32}
theorem zy_p423 {post : Int32 → SY → Prop} {J : Int32 → Int32 → Int32 → Int32 → Int32 → Int32 → (Nat → Int32) → (Nat → Int32) → (Nat → Int32) → (Nat → Int32) → (Nat → Int32) → (Nat → Int32) → (Nat → Int32) → (Nat → Int32) → (Nat → Int32) → (Nat → Int32) → (Nat → Int32) → Prop} {KD LG : Nat → Nat} {n st : Nat} {x4 x7 x9 x10 x15 x16 : Int32} (hn : n < 16) (hk6 : KD n < 7) (hk : KD n ≠ 5) (h : J x4 (nI (st + 1)) mn ml ct tp yr (za_n KD) ya yf ys yz (za_n LG) yw yn yv yo) : wY_runPut_423 post J x4 (nI st) (nI n) x7 x9 x10 x15 x16 mn ml ct tp yr (za_n KD) ya yf ys yz (za_n LG) yw yn yv yo := by
  have hin : vp_in (nI n) 16 := vp_in_nI hn (by omega)
  have cn : (nI n).toNatClampNeg = n := za_cl (by omega)
  have n5 : ¬ nI (KD n) = 5 := fun z => hk ((za_eq (b := 5) (by omega) (by omega)).mp z)
  unfold wY_runPut_423
  rw [cn, za_ap KD]
  exact ⟨hin, br_f n5 (nm_r (nI_1 st) h)⟩
theorem zy_p360 {post : Int32 → SY → Prop} {J : Int32 → Int32 → Int32 → Int32 → Int32 → Int32 → (Nat → Int32) → (Nat → Int32) → (Nat → Int32) → (Nat → Int32) → (Nat → Int32) → (Nat → Int32) → (Nat → Int32) → (Nat → Int32) → (Nat → Int32) → (Nat → Int32) → (Nat → Int32) → Prop} {KD LG : Nat → Nat} {n st v sv a b : Nat} {x4 : Int32} (hn : n < 16) (ha : a < 16) (hb : b < 16) (hv : v < 512) (hs : sv < 512) (hLG : ∀ i, LG i < 2) (hk6 : KD n < 7) (hk : KD n ≠ 5) (h : J x4 (nI (st + 1)) mn ml ct tp yr (za_n KD) ya yf ys yz (za_n LG) yw yn yv yo) :
    wY_runPut_360 post J x4 (nI st) (nI n) (nI v) (nI sv) (nI a) (nI b) mn ml ct tp yr (za_n KD) ya yf ys yz (za_n LG) yw yn yv yo := by
  have hin : vp_in (nI n) 16 := vp_in_nI hn (by omega)
  have cn : (nI n).toNatClampNeg = n := za_cl (by omega)
  have n5 : ¬ nI (KD n) = 5 := fun z => hk ((za_eq (b := 5) (by omega) (by omega)).mp z)
  have fin : ∀ z, z < 16 → wY_runPut_384 post J x4 (nI st) (nI n) (nI v) (nI sv) (nI a) (nI b) (nI z) mn ml ct tp yr (za_n KD) ya yf ys yz (za_n LG) yw yn yv yo := by
    intro z hz
    unfold wY_runPut_384
    refine zy_has (s := 1) hz (by omega) (by omega) hLG ⟨hin, ?_⟩
    rw [cn, za_ap KD]
    exact br_f n5 (zy_p423 hn hk6 hk h)
  unfold wY_runPut_360
  refine br_c (fun _ => ?_) (fun _ => ?_)
  · unfold wY_runPut_377
    exact fin a ha
  · refine zy_has (s := 0) ha (by omega) (by omega) hLG (br_c (fun _ => fin b hb) (fun _ => ?_))
    unfold wY_runPut_377
    exact fin a ha
theorem zy_p323 {post : Int32 → SY → Prop} {J : Int32 → Int32 → Int32 → Int32 → Int32 → Int32 → (Nat → Int32) → (Nat → Int32) → (Nat → Int32) → (Nat → Int32) → (Nat → Int32) → (Nat → Int32) → (Nat → Int32) → (Nat → Int32) → (Nat → Int32) → (Nat → Int32) → (Nat → Int32) → Prop} {KD LG : Nat → Nat} {n st v sv a b : Nat} {x4 x11 x12 x13 x14 : Int32} (hn : n < 16) (ha : a < 16) (hb : b < 16) (hv : v < 512) (hs : sv < 512) (hLG : ∀ i, LG i < 2) (hk6 : KD n < 7) (hk : KD n ≠ 5) (hk4 : KD n ≠ 4) (h : J x4 (nI (st + 1)) mn ml ct tp yr (za_n KD) ya yf ys yz (za_n LG) yw yn yv yo) :
    wY_runPut_323 post J x4 (nI st) (nI n) (nI v) (nI sv) (nI a) (nI b) x11 x12 x13 x14 mn ml ct tp yr (za_n KD) ya yf ys yz (za_n LG) yw yn yv yo := by
  have hin : vp_in (nI n) 16 := vp_in_nI hn (by omega)
  have cn : (nI n).toNatClampNeg = n := za_cl (by omega)
  have n4 : ¬ nI (KD n) = 4 := fun z => hk4 ((za_eq (b := 4) (by omega) (by omega)).mp z)
  unfold wY_runPut_323
  rw [cn, za_ap KD]
  exact ⟨hin, br_f n4 (zy_p360 hn ha hb hv hs hLG hk6 hk h)⟩
theorem zy_p268 {post : Int32 → SY → Prop} {J : Int32 → Int32 → Int32 → Int32 → Int32 → Int32 → (Nat → Int32) → (Nat → Int32) → (Nat → Int32) → (Nat → Int32) → (Nat → Int32) → (Nat → Int32) → (Nat → Int32) → (Nat → Int32) → (Nat → Int32) → (Nat → Int32) → (Nat → Int32) → Prop} {KD LG : Nat → Nat} {n st v sv a b : Nat} {x4 x11 x12 x13 x14 : Int32} (hn : n < 16) (ha : a < 16) (hb : b < 16) (hv : v < 512) (hs : sv < 512) (hLG : ∀ i, LG i < 2) (hk6 : KD n < 7) (hk : KD n ≠ 5) (hk4 : KD n ≠ 4) (hk3 : KD n ≠ 3) (h6 : KD n = 6 → v = 1) (h : J x4 (nI (st + 1)) mn ml ct tp yr (za_n KD) ya yf ys yz (za_n LG) yw yn yv yo) :
    wY_runPut_268 post J x4 (nI st) (nI n) (nI v) (nI sv) (nI a) (nI b) x11 x12 x13 x14 mn ml ct tp yr (za_n KD) ya yf ys yz (za_n LG) yw yn yv yo := by
  have hin : vp_in (nI n) 16 := vp_in_nI hn (by omega)
  have cn : (nI n).toNatClampNeg = n := za_cl (by omega)
  have n3 : ¬ nI (KD n) = 3 := fun z => hk3 ((za_eq (b := 3) (by omega) (by omega)).mp z)
  have fin := zy_p323 (post := post) (x11 := x11) (x12 := x12) (x13 := x13) (x14 := x14) hn ha hb hv hs hLG hk6 hk hk4 h
  unfold wY_runPut_268
  rw [cn, za_ap KD]
  refine ⟨hin, br_f n3 ⟨hin, za_br (za_eq (b := 6) (by omega) (by omega)) (fun z => ?_) (fun _ => fin)⟩⟩
  exact br_t (by rw [h6 z]; rfl) fin
theorem zy_p132 {post : Int32 → SY → Prop} {J : Int32 → Int32 → Int32 → Int32 → Int32 → Int32 → (Nat → Int32) → (Nat → Int32) → (Nat → Int32) → (Nat → Int32) → (Nat → Int32) → (Nat → Int32) → (Nat → Int32) → (Nat → Int32) → (Nat → Int32) → (Nat → Int32) → (Nat → Int32) → Prop} {KD LG : Nat → Nat} {L n st v sv a b c o : Nat} (hL : L ≤ 8) (hn : n < 16) (ha : a < 16) (hb : b < 16) (hv1 : 2 ^ c ≤ v) (hv2 : v < 2 ^ (c + 1)) (hc : c ≤ 8) (hs : sv < 512) (ho : o < 512) (hLG : ∀ i, LG i < 2) (hk6 : KD n < 7)
    (h : wY_runPut_232 post J (nI (if KD n = 0 then ze_j (2 ^ (L + 1)) o c (v - 2 ^ c) else o)) (nI st) (nI n) (nI v) (nI sv) (nI a) (nI b) (nI (ze_c LG a b 0 sv)) (nI (if sv = 0 then 0 else zc_tl sv (ze_c LG a b 0 sv))) (nI (if KD n = 4 then ze_c LG b a 1 v else ze_c LG a b 1 v)) (nI (zc_tl v (if KD n = 4 then ze_c LG b a 1 v else ze_c LG a b 1 v))) mn (nI L) ct tp yr (za_n KD) ya yf ys yz (za_n LG) yw yn yv yo) :
    wY_runPut_132 post J (nI o) (nI st) (nI n) (nI v) (nI sv) (nI a) (nI b) mn (nI L) ct tp yr (za_n KD) ya yf ys yz (za_n LG) yw yn yv yo := by
  have hin : vp_in (nI n) 16 := vp_in_nI hn (by omega)
  have cn : (nI n).toNatClampNeg = n := za_cl (by omega)
  have pc : 2 ^ (c + 1) ≤ 2 ^ 9 := za_p2 (by omega)
  have last : ∀ tS k1, k1 = (if KD n = 4 then ze_c LG b a 1 v else ze_c LG a b 1 v) → tS = (if sv = 0 then 0 else zc_tl sv (ze_c LG a b 0 sv)) → wY_runPut_200 post J (nI o) (nI st) (nI n) (nI v) (nI sv) (nI a) (nI b) (nI (ze_c LG a b 0 sv)) (nI tS) (nI k1) mn (nI L) ct tp yr (za_n KD) ya yf ys yz (za_n LG) yw yn yv yo := by
    intro tS k1 e1 e2
    have k8 : k1 ≤ 8 := by rw [e1]; split <;> exact ze_c9 _ _ _ _ _
    unfold wY_runPut_200
    refine zy_last (by omega) (by omega) ⟨hin, ?_⟩
    rw [cn, za_ap KD]
    rw [e1, e2]
    refine za_br (za_e0 (by omega)) (fun z => ?_) (fun z => ?_)
    · rw [if_pos z] at h
      exact zy_join hL hc (by omega) hv1 hv2 h
    · rw [if_neg z] at h
      exact h
  have mid : ∀ tS, tS = (if sv = 0 then 0 else zc_tl sv (ze_c LG a b 0 sv)) → wY_runPut_162 post J (nI o) (nI st) (nI n) (nI v) (nI sv) (nI a) (nI b) (nI (ze_c LG a b 0 sv)) (nI tS) mn (nI L) ct tp yr (za_n KD) ya yf ys yz (za_n LG) yw yn yv yo := by
    intro tS e2
    unfold wY_runPut_162
    rw [cn, za_ap KD]
    refine ⟨hin, za_br (za_eq (b := 4) (by omega) (by omega)) (fun z => ?_) (fun z => ?_)⟩
    · exact zy_cut (s := 1) hb ha (by omega) (by omega) hLG (last tS _ (by rw [if_pos z]) e2)
    · exact zy_cut (s := 1) ha hb (by omega) (by omega) hLG (last tS _ (by rw [if_neg z]) e2)
  have k8 := ze_c9 LG a b 0 sv
  unfold wY_runPut_132
  refine zy_cut (s := 0) ha hb (by omega) hs hLG ?_
  refine za_br (za_e0 (by omega)) (fun z => mid 0 (by rw [if_pos z])) (fun z => ?_)
  exact zy_last (by omega) (by omega) (mid _ (by rw [if_neg z]))
theorem zy_p384 {post : Int32 → SY → Prop} {J : Int32 → Int32 → Int32 → Int32 → Int32 → Int32 → (Nat → Int32) → (Nat → Int32) → (Nat → Int32) → (Nat → Int32) → (Nat → Int32) → (Nat → Int32) → (Nat → Int32) → (Nat → Int32) → (Nat → Int32) → (Nat → Int32) → (Nat → Int32) → Prop} {KD LG : Nat → Nat} {W len W1 len1 n st vi vj a b x y t : Nat} {s : Option (Nat × Nat)} {ps : List zp_T} {x4 : Int32} (hn : n < 16) (ha : a < 16) (hb : b < 16) (hab : a ≠ b) (hl1 : len1 ≤ 8) (hj : vj ≤ len1) (hLG : ∀ i, LG i < 2) (hk : KD n = 5) (ht : t < 64)
    (hxy : (x = a ∧ y = b) ∨ (x = b ∧ y = a))
    (hp : (zy_h LG x 1 (zc_sub W1 len1 vi vj) = true ∧ ps = [(x, vi, vj, s)]) ∨ (zy_h LG x 1 (zc_sub W1 len1 vi vj) = false ∧ ps = [(y, vi, vj, none)]))
    (h : J x4 (nI (st + 1)) mn ml ct (nI (t + ps.length)) yr (za_n KD) ya yf ys yz (za_n LG) yw (zg_p yn t (fun a => nI a.1) ps) (zg_p yv t (fun a => nI (zc_sub W1 len1 a.2.1 a.2.2.1)) ps) (zg_p yo t (fun a => nI (zp_y W len a.2.2.2)) ps)) :
    wY_runPut_384 post J x4 (nI st) (nI n) (nI (zc_sub W1 len1 vi vj)) (nI (zp_y W len s)) (nI a) (nI b) (nI x) mn ml ct (nI t) yr (za_n KD) ya yf ys yz (za_n LG) yw yn yv yo := by
  have hin : vp_in (nI n) 16 := vp_in_nI hn (by omega)
  have cn : (nI n).toNatClampNeg = n := za_cl (by omega)
  have hv : zc_sub W1 len1 vi vj < 512 := zc_sub_le (L := 8) (by omega)
  have hx : x < 16 := by rcases hxy with e | e <;> omega
  unfold wY_runPut_384
  refine zy_has (s := 1) hx (by omega) (by omega) hLG ⟨hin, ?_⟩
  rw [cn, za_ap KD, hk]
  refine br_t rfl ?_
  rcases hp with ⟨q, rfl⟩ | ⟨q, rfl⟩
  · rw [q]
    refine br_f (by decide) (zy_pt ht ?_)
    show wY_runPut_423 _ _ _ _ _ _ _ _ _ _ _ _ _ _ _ _ _ _ _ _ _ _ _ _ _
    unfold wY_runPut_423
    rw [cn, za_ap KD, hk]
    exact ⟨hin, br_t rfl (br_f (by decide) (nm_r (nI_1 st) h))⟩
  · rw [q]
    refine br_t rfl ?_
    unfold wY_runPut_423
    rw [cn, za_ap KD, hk]
    refine ⟨hin, br_t rfl (br_t rfl ?_)⟩
    rcases hxy with ⟨rfl, rfl⟩ | ⟨rfl, rfl⟩
    · refine br_t rfl ?_
      unfold wY_runPut_454
      exact zy_pt ht (nm_r (nI_1 st) h)
    · refine br_f (fun z => hab ((za_eq (by omega) (by omega)).mp z).symm) ?_
      unfold wY_runPut_454
      exact zy_pt ht (nm_r (nI_1 st) h)
end
end
section
/-! put: Y's step, the kinds -/
theorem zt_LFb {N : Nat} {KD AG LF SZ SC LB LG : Nat → Nat} {n b : Nat} (hz : zt_N N KD AG LF SZ SC LB LG n) (hn : n < 16) (hb : b = if KD n = 6 then n else SC n) : LF n < 16 ∧ b < 16 := by
  rw [hb]
  rcases hz with q | q | q | q | q | q | q
  · rw [if_neg (by omega)]
    have := q.2.2.2.2.2
    omega
  · rw [if_neg (by omega)]
    have := q.2.2.2.2.2
    omega
  · rw [if_neg (by omega)]
    have := q.2.1.2.1
    have := q.2.1.2.2.1
    omega
  · rw [if_neg (by omega)]
    have := q.2.1.2.1
    have := q.2.1.2.2.1
    omega
  · rw [if_neg (by omega)]
    have := q.2.1.2.1
    have := q.2.1.2.2.1
    omega
  · rw [if_neg (by omega)]
    have := q.2.1.2.1
    have := q.2.1.2.2.1
    omega
  · rw [if_pos q.1]
    have := q.2.1.2.1
    omega
section
variable {mn ml ct tp : Int32} {yr yk ya yf ys yz yl yw yn yv yo : Nat → Int32}
theorem zy_pstep {post : Int32 → SY → Prop} {J : Int32 → Int32 → Int32 → Int32 → Int32 → Int32 → (Nat → Int32) → (Nat → Int32) → (Nat → Int32) → (Nat → Int32) → (Nat → Int32) → (Nat → Int32) → (Nat → Int32) → (Nat → Int32) → (Nat → Int32) → (Nat → Int32) → (Nat → Int32) → Prop} {N L : Nat} {KD AG LF SZ SC LB LG : Nat → Nat} {W len W1 len1 n vi vj o lo r o' t st b : Nat} {s : Option (Nat × Nat)} {S : Prop} {ps : List zp_T} (hL : L ≤ 8) (hN : N ≤ 512) (hD : zd_put (2 ^ (L + 1)) KD AG LF LG W len W1 len1 n vi vj s o ps o') (hz : zt_N N KD AG LF SZ SC LB LG n) (hlo : ∀ m, n + 1 ≤ m + SZ n → lo ≤ m)
    (hn2 : n ≤ r) (hr : r < 16) (hij : vi ≤ vj) (hj : vj ≤ len1) (hl1 : len1 ≤ 8) (hs : zp_ok S len s) (hl : len ≤ 8) (ht : t + 2 ≤ 64) (ho : o < 2 ^ (L + 1)) (hLG : ∀ i, LG i < 2) (hb : b = if KD n = 6 then n else SC n)
    (h : J (nI o') (nI (st + 1)) mn (nI L) ct (nI (t + ps.length)) yr (za_n KD) (za_n AG) yf ys yz (za_n LG) yw (zg_p yn t (fun a => nI a.1) ps) (zg_p yv t (fun a => nI (zc_sub W1 len1 a.2.1 a.2.2.1)) ps) (zg_p yo t (fun a => nI (zp_y W len a.2.2.2)) ps)) :
    wY_runPut_109 post J (nI o) (nI st) (nI n) (nI (zc_sub W1 len1 vi vj)) (nI (zp_y W len s)) (nI (LF n)) (nI b) mn (nI L) ct (nI t) yr (za_n KD) (za_n AG) yf ys yz (za_n LG) yw yn yv yo := by
  have p9 : 2 ^ (L + 1) ≤ 2 ^ 9 := za_p2 (by omega)
  have hn : n < 16 := by omega
  have hin : vp_in (nI n) 16 := vp_in_nI (by omega) (by omega)
  have cn : (nI n).toNatClampNeg = n := za_cl (by omega)
  have hv : zc_sub W1 len1 vi vj < 512 := zc_sub_le (L := 8) (by omega)
  have hv1 := zc_sub_ge W1 len1 vi vj
  have hv2 := zc_sub_lt W1 len1 vi vj
  have hsv := zp_yb (W := W) hl hs
  have hK := zt_K6 hz
  obtain ⟨hLF, hbb⟩ := zt_LFb hz hn hb
  unfold wY_runPut_109
  rw [cn, za_ap KD]
  refine ⟨hin, ?_⟩
  rcases hD with ⟨hk, rfl, eo⟩ | ⟨hk, rfl, eo⟩ | ⟨hk, rfl, hc⟩ | ⟨hk, rfl, eo⟩ | ⟨hk, rfl, eo⟩ | ⟨hk, hx, eo⟩ | ⟨hk, hij', rfl, eo⟩ | ⟨hk, hij', rfl, eo⟩
  · rw [hk]
    refine br_f (by decide) ?_
    have e2 : zc_sub W1 len1 vi vj - 2 ^ (vj - vi) = W1 / 2 ^ (len1 - vj) % 2 ^ (vj - vi) := by
      unfold zc_sub zc_tl
      omega
    refine zy_p132 hL hn hLF hbb hv1 hv2 (by omega) hsv (by omega) hLG hK ?_
    rw [if_pos hk, e2, ← eo]
    unfold wY_runPut_232
    rw [cn, za_ap KD, hk]
    refine ⟨hin, br_f (by decide) ?_⟩
    exact zy_p268 hn hLF hbb hv hsv hLG hK (by omega) (by omega) (by omega) (by omega) h
  · rw [hk]
    refine br_f (by decide) ?_
    refine zy_p132 hL hn hLF hbb hv1 hv2 (by omega) hsv (by omega) hLG hK ?_
    rw [if_neg (show ¬ KD n = 0 by omega), ← eo]
    unfold wY_runPut_232
    rw [cn, za_ap KD, hk]
    refine ⟨hin, br_f (by decide) ?_⟩
    exact zy_p268 hn hLF hbb hv hsv hLG hK (by omega) (by omega) (by omega) (by omega) h
  · rw [hk]
    refine br_f (by decide) ?_
    refine zy_p132 hL hn hLF hbb hv1 hv2 (by omega) hsv (by omega) hLG hK ?_
    rw [if_neg (show ¬ KD n = 0 by omega)]
    unfold wY_runPut_232
    rw [cn, za_ap KD, hk]
    refine ⟨hin, br_t rfl ?_⟩
    rcases hc with ⟨es, c, c8, c1, c2, eo⟩ | ⟨p, es, eo⟩
    · subst es
      refine br_t rfl ⟨hin, ?_⟩
      unfold wY_runPut_263
      rw [za_ap AG]
      refine zy_join hL c8 (by omega) c1 c2 ?_
      rw [← eo]
      exact zy_p268 hn hLF hbb hv hsv hLG hK (by omega) (by omega) (by omega) (by omega) h
    · subst es
      obtain ⟨s1, s2, s3⟩ := hs
      have q1 := zc_sub_ge W len p.1 p.2
      have q2 := zc_sub_lt W len p.1 p.2
      have q3 := zc_sub_pos W len p.1 p.2
      have e2 : zc_sub W len p.1 p.2 - 2 ^ (p.2 - p.1) = W / 2 ^ (len - p.2) % 2 ^ (p.2 - p.1) := by
        unfold zc_sub zc_tl
        omega
      have hsv' : zc_sub W len p.1 p.2 < 512 := hsv
      refine br_f (fun z => by have := (za_e0 (x := zc_sub W len p.1 p.2) (by omega)).mp z; omega) ?_
      unfold wY_runPut_263
      refine zy_join hL (w := zc_sub W len p.1 p.2) (c := p.2 - p.1) (by omega) (by omega) q1 q2 ?_
      rw [e2, ← eo]
      exact zy_p268 hn hLF hbb hv hsv hLG hK (by omega) (by omega) (by omega) (by omega) h
  · have c := zt_ch hz hlo (by omega)
    have eb : b = n - 1 := by rw [hb, if_neg (by omega)]; exact c.2.2.1
    subst eb
    have sb := zd_sub (LG := LG) (x := LF n) (y := n - 1) (s := 1) (W := W1) hij hj
    have ss := zp_y1 (LG := LG) (x := LF n) (y := n - 1) (W := W) hs
    have k0 := ze_c9 LG (LF n) (n - 1) 0 (zp_y W len s)
    have k1 := ze_c9 LG (LF n) (n - 1) 1 (zc_sub W1 len1 vi vj)
    rw [hk]
    refine br_f (by decide) ?_
    refine zy_p132 hL hn hLF hbb hv1 hv2 (by omega) hsv (by omega) hLG hK ?_
    rw [if_neg (show ¬ KD n = 0 by omega), if_neg (show ¬ KD n = 4 by omega), ← eo, ss.2, sb.2]
    unfold wY_runPut_232
    rw [cn, za_ap KD, hk]
    refine ⟨hin, br_f (by decide) ?_⟩
    unfold wY_runPut_268
    rw [cn, za_ap KD, hk]
    refine ⟨hin, br_t rfl ?_⟩
    unfold wY_runPut_297
    rw [za_shk (by omega) (by omega), za_shk (by omega) (by omega), sb.1, ss.1]
    refine zy_pt (by omega) (zy_pt (by omega) ?_)
    exact zy_p323 hn hLF hbb hv hsv hLG hK (by omega) (by omega) h
  · have c := zt_ch hz hlo (by omega)
    have eb : b = n - 1 := by rw [hb, if_neg (by omega)]; exact c.2.2.1
    subst eb
    have sb := zd_sub (LG := LG) (x := n - 1) (y := LF n) (s := 1) (W := W1) hij hj
    have ss := zp_y1 (LG := LG) (x := LF n) (y := n - 1) (W := W) hs
    have k0 := ze_c9 LG (LF n) (n - 1) 0 (zp_y W len s)
    have k1 := ze_c9 LG (n - 1) (LF n) 1 (zc_sub W1 len1 vi vj)
    rw [hk]
    refine br_f (by decide) ?_
    refine zy_p132 hL hn hLF hbb hv1 hv2 (by omega) hsv (by omega) hLG hK ?_
    rw [if_neg (show ¬ KD n = 0 by omega), if_pos hk, ← eo, ss.2, sb.2]
    unfold wY_runPut_232
    rw [cn, za_ap KD, hk]
    refine ⟨hin, br_f (by decide) ?_⟩
    unfold wY_runPut_268
    rw [cn, za_ap KD, hk]
    refine ⟨hin, br_f (by decide) ⟨hin, br_f (by decide) ?_⟩⟩
    unfold wY_runPut_323
    rw [cn, za_ap KD, hk]
    rw [za_shk (by omega) (by omega), za_shk (by omega) (by omega), sb.1, ss.1]
    refine ⟨hin, br_t rfl (zy_pt (by omega) (zy_pt (by omega) ?_))⟩
    exact zy_p360 hn hLF hbb hv hsv hLG hK (by omega) h
  · have c := zt_ch hz hlo (by omega)
    have eb : b = n - 1 := by rw [hb, if_neg (by omega)]; exact c.2.2.1
    subst eb
    have hab : LF n ≠ n - 1 := by
      rcases hz with q | q | q | q | q | q | q
      · omega
      · omega
      · omega
      · omega
      · omega
      · have := q.2.1.2.2.1
        have := q.2.1.2.2.2.2.1
        omega
      · omega
    obtain ⟨x, y, hxy, hp⟩ := hx
    rw [hk]
    refine br_f (by decide) ?_
    refine zy_p132 hL hn hLF hbb hv1 hv2 (by omega) hsv (by omega) hLG hK ?_
    rw [if_neg (show ¬ KD n = 0 by omega), ← eo]
    unfold wY_runPut_232
    rw [cn, za_ap KD, hk]
    refine ⟨hin, br_f (by decide) ?_⟩
    unfold wY_runPut_268
    rw [cn, za_ap KD, hk]
    refine ⟨hin, br_f (by decide) ⟨hin, br_f (by decide) ?_⟩⟩
    unfold wY_runPut_323
    rw [cn, za_ap KD, hk]
    refine ⟨hin, br_f (by decide) ?_⟩
    have fA : zp_own LG (LF n) (n - 1) W len s = true → wY_runPut_377 post J (nI o') (nI st) (nI n) (nI (zc_sub W1 len1 vi vj)) (nI (zp_y W len s)) (nI (LF n)) (nI (n - 1)) mn (nI L) ct (nI t) yr (za_n KD) (za_n AG) yf ys yz (za_n LG) yw yn yv yo := by
      intro q
      rcases hxy with ⟨_, e1, e2⟩ | ⟨q', _⟩
      · unfold wY_runPut_377
        rw [← e1]
        rw [← e1] at hab hLF
        exact zy_p384 hn hLF hbb hab hl1 hj hLG hk (by omega) (Or.inl ⟨rfl, e2⟩) hp h
      · rw [q] at q'; cases q'
    have fB : zp_own LG (LF n) (n - 1) W len s = false → wY_runPut_384 post J (nI o') (nI st) (nI n) (nI (zc_sub W1 len1 vi vj)) (nI (zp_y W len s)) (nI (LF n)) (nI (n - 1)) (nI (n - 1)) mn (nI L) ct (nI t) yr (za_n KD) (za_n AG) yf ys yz (za_n LG) yw yn yv yo := by
      intro q
      rcases hxy with ⟨q', _⟩ | ⟨_, e1, e2⟩
      · rw [q] at q'; cases q'
      · rw [e1] at hp
        exact zy_p384 hn hLF hbb hab hl1 hj hLG hk (by omega) (Or.inr ⟨rfl, e2⟩) hp h
    unfold wY_runPut_360
    refine za_br (za_e0 (by omega)) (fun z => fA (decide_eq_true (Or.inl (zp_y0.mp z)))) (fun z => ?_)
    refine zy_has (s := 0) hLF (by omega) (by omega) hLG (za_brb (fun q => fB ?_) (fun q => fA (decide_eq_true (Or.inr q))))
    refine decide_eq_false ?_
    rintro (y1 | y1)
    · exact z (zp_y0.mpr y1)
    · rw [q] at y1; cases y1
  · have w1 : zc_sub W1 len1 vi vj = 1 := (zc_sub_one hij).mpr hij'
    have top : ∀ sv, sv < 512 → wY_runPut_132 post J (nI o) (nI st) (nI n) (nI (zc_sub W1 len1 vi vj)) (nI sv) (nI (LF n)) (nI b) mn (nI L) ct (nI t) yr (za_n KD) (za_n AG) yf ys yz (za_n LG) yw yn yv yo := by
      intro sv hsv
      refine zy_p132 hL hn hLF hbb hv1 hv2 (by omega) hsv (by omega) hLG hK ?_
      rw [if_neg (show ¬ KD n = 0 by omega), ← eo]
      unfold wY_runPut_232
      rw [cn, za_ap KD, hk]
      refine ⟨hin, br_f (by decide) ?_⟩
      exact zy_p268 hn hLF hbb hv hsv hLG hK (by omega) (by omega) (by omega) (fun _ => w1) h
    rw [hk]
    exact br_t rfl (br_c (fun _ => top 0 (by omega)) (fun _ => top _ hsv))
  · have c := zt_ch hz hlo (by omega)
    have k6 := zt_k6 hz hk
    have eb : b = n := by rw [hb, if_pos hk]
    subst eb
    have w1 : ¬ nI (zc_sub W1 len1 vi vj) = 1 := fun z => by
      have := (za_eq (b := 1) (by omega) (by omega)).mp z
      have := (zc_sub_one hij).mp this
      omega
    have sb := zd_sub (LG := LG) (x := b - 1) (y := b) (s := 1) (W := W1) hij hj
    have se := zp_oke hs
    have hse := zp_yb (W := W) hl se
    have ss := zp_y1 (LG := LG) (x := b - 1) (y := b) (W := W) se
    have k0 := ze_c9 LG (b - 1) b 0 (zp_y W len (zp_e s))
    have k1 := ze_c9 LG (b - 1) b 1 (zc_sub W1 len1 vi vj)
    have top : wY_runPut_132 post J (nI o) (nI st) (nI b) (nI (zc_sub W1 len1 vi vj)) (nI (zp_y W len (zp_e s))) (nI (b - 1)) (nI b) mn (nI L) ct (nI t) yr (za_n KD) (za_n AG) yf ys yz (za_n LG) yw yn yv yo := by
      refine zy_p132 hL hn (by omega) hbb hv1 hv2 (by omega) hse (by omega) hLG hK ?_
      rw [if_neg (show ¬ KD b = 0 by omega), if_neg (show ¬ KD b = 4 by omega), ← eo, ss.2, sb.2]
      unfold wY_runPut_232
      rw [cn, za_ap KD, hk]
      refine ⟨hin, br_f (by decide) ?_⟩
      unfold wY_runPut_268
      rw [cn, za_ap KD, hk]
      refine ⟨hin, br_f (by decide) ⟨hin, br_t rfl (br_f w1 ?_)⟩⟩
      unfold wY_runPut_297
      rw [za_shk (by omega) (by omega), za_shk (by omega) (by omega), sb.1, ss.1]
      refine zy_pt (by omega) (zy_pt (by omega) ?_)
      exact zy_p323 hn (by omega) hbb hv hse hLG hK (by omega) (by omega) h
    have ye := zp_ye (W := W) hs
    rw [hk, k6.2.1]
    refine br_t rfl (za_br (za_eq (b := 1) (by omega) (by omega)) (fun z => ?_) (fun z => ?_))
    · rw [ye.1 z] at top
      exact top
    · rw [ye.2 z] at top
      exact top
end
end
section
/-! put: the whole run, in lockstep -/
section
variable {kC kI kE kN kS kU kT nl ll us dp tk ot : Int32} {rt kd ag lf sz lb nu fi la fo be ne en wd ln tn tv te ts tz : Nat → Int32} {mn ml ct tp : Int32} {yr yk ya yf ys yz yl yw yn yv yo : Nat → Int32}
theorem zg_put {N L : Nat} {KD AG LF SZ SC LB LG EN WD LN : Nat → Nat} {W len W1 len1 lo r : Nat} {S : Prop} (hL : L ≤ 8) (hN : N ≤ 512) (hz : ∀ n, n ≤ r → zt_N N KD AG LF SZ SC LB LG n) (hlo : lo = r + 1 - SZ r) (hr : r < 16) (hl1 : len1 ≤ 8) (hWD : WD 1 = W1) (hLN : LN 1 = len1) (hW1 : W1 < 512) (hT : zt_T LG EN W1 len1 1 lo r) (hLG : ∀ i, LG i < 2)
    (hl : len ≤ 8) (hW : W < 512) (hS : S → WD 0 = W ∧ LN 0 = len ∧ zt_T LG EN W len 0 lo r) :
    ∀ M st o (l : List zp_T) (tn tv te ts tz yn yv yo : Nat → Int32), zg_ok (zd_okp SZ lo r len len1 S) l → zg_c (zd_cp KD SZ) l ≤ M → st + M < 1000 → o < 2 ^ (L + 1) →
      zg_S tn (fun a : zp_T => nI a.1) l → zg_S tv (fun a : zp_T => nI a.2.1) l → zg_S te (fun a : zp_T => nI a.2.2.1) l → zg_S ts (fun a : zp_T => zp_a a.2.2.2) l → zg_S tz (fun a : zp_T => zp_b a.2.2.2) l →
      zg_S yn (fun a : zp_T => nI a.1) l → zg_S yv (fun a : zp_T => nI (zc_sub W1 len1 a.2.1 a.2.2.1)) l → zg_S yo (fun a : zp_T => nI (zp_y W len a.2.2.2)) l →
      ∃ (q tk' ot' tp' : Int32) (tn' tv' te' ts' tz' yn' yv' yo' : Nat → Int32),
        (∀ (post : Int32 → SX → Prop) n, M < n → post q (kC, kI, kE, kN, kS, kU, kT, nl, nI L, us, dp, tk', ot', rt, za_n KD, za_n AG, za_n LF, sz, lb, nu, fi, la, fo, be, ne, za_n EN, za_n WD, za_n LN, tn', tv', te', ts', tz') → wX_runPut_27 post n (nI st) kC kI kE kN kS kU kT nl (nI L) us dp (nI l.length) (ze_x o) rt (za_n KD) (za_n AG) (za_n LF) sz lb nu fi la fo be ne (za_n EN) (za_n WD) (za_n LN) tn tv te ts tz) ∧
        (∀ (post : Int32 → SY → Prop) n, M < n → post q (mn, nI L, ct, tp', yr, za_n KD, za_n AG, za_n LF, za_n SC, yz, za_n LG, yw, yn', yv', yo') → wY_runPut_18 post n (nI o) (nI st) mn (nI L) ct (nI l.length) yr (za_n KD) (za_n AG) (za_n LF) (za_n SC) yz (za_n LG) yw yn yv yo) := by
  have p9 : 2 ^ (L + 1) ≤ 2 ^ 9 := za_p2 (by omega)
  have base : ∀ M st o (tn tv te ts tz yn yv yo : Nat → Int32), st + M < 1000 → o < 2 ^ (L + 1) →
      ∃ (q tk' ot' tp' : Int32) (tn' tv' te' ts' tz' yn' yv' yo' : Nat → Int32),
        (∀ (post : Int32 → SX → Prop) n, M < n → post q (kC, kI, kE, kN, kS, kU, kT, nl, nI L, us, dp, tk', ot', rt, za_n KD, za_n AG, za_n LF, sz, lb, nu, fi, la, fo, be, ne, za_n EN, za_n WD, za_n LN, tn', tv', te', ts', tz') → wX_runPut_27 post n (nI st) kC kI kE kN kS kU kT nl (nI L) us dp (nI 0) (ze_x o) rt (za_n KD) (za_n AG) (za_n LF) sz lb nu fi la fo be ne (za_n EN) (za_n WD) (za_n LN) tn tv te ts tz) ∧
        (∀ (post : Int32 → SY → Prop) n, M < n → post q (mn, nI L, ct, tp', yr, za_n KD, za_n AG, za_n LF, za_n SC, yz, za_n LG, yw, yn', yv', yo') → wY_runPut_18 post n (nI o) (nI st) mn (nI L) ct (nI 0) yr (za_n KD) (za_n AG) (za_n LF) (za_n SC) yz (za_n LG) yw yn yv yo) := by
    intro M st o tn tv te ts tz yn yv yo hst ho
    refine ⟨ze_x o, nI 0, ze_x o, nI 0, tn, tv, te, ts, tz, yn, yv, yo, fun post n hn h => ?_, fun post n hn h => ?_⟩
    · obtain ⟨n, rfl⟩ : ∃ m, n = m + 1 := ⟨n - 1, by omega⟩
      rw [wX_runPut_27]
      exact br_f (fun z => by have := (za_le (a := 1024) (by omega) (by omega)).mp z; omega) (br_t (by decide) h)
    · obtain ⟨n, rfl⟩ : ∃ m, n = m + 1 := ⟨n - 1, by omega⟩
      rw [wY_runPut_18]
      refine br_f (fun z => by have := (za_le (a := 1000) (by omega) (by omega)).mp z; omega) (br_t (by decide) ?_)
      unfold wY_runPut_466
      refine za_br (za_e0 (by omega)) (fun z => ?_) (fun z => ?_)
      · subst z
        exact h
      · have e : ze_x o = nI o := if_neg z
        rw [e] at h
        exact h
  intro M
  induction M with
  | zero =>
    intro st o l tn tv te ts tz yn yv yo hok hc hst ho s1 s2 s3 s4 s5 s6 s7 s8
    cases l with
    | cons a l =>
      have := hok.1
      have hs := zt_sz (hz a.1 this.2.1)
      have := zg_n1 (KD := KD) (SZ := SZ) (n := a.1) (m := a.2.2.1 - a.2.1) hs.1
      have e : zg_c (zd_cp KD SZ) (a :: l) = zg_n KD SZ a.1 (a.2.2.1 - a.2.1) + zg_c (zd_cp KD SZ) l := rfl
      omega
    | nil => exact base 0 st o tn tv te ts tz yn yv yo hst ho
  | succ M ih =>
    intro st o l tn tv te ts tz yn yv yo hok hc hst ho s1 s2 s3 s4 s5 s6 s7 s8
    cases l with
    | nil => exact base (M + 1) st o tn tv te ts tz yn yv yo hst ho
    | cons a l =>
      obtain ⟨n, vi, vj, s⟩ := a
      obtain ⟨⟨a1, a2, a3, a4, a5, a6⟩, hl'⟩ := hok
      dsimp only at a1 a2 a3 a4 a5 a6
      have hzn := hz n a2
      have hsr := zt_sz (hz r (Nat.le_refl r))
      have nest := zt_nest (us := r + 1) (fun m hm => hz m (by omega)) r (by omega) n (by omega) a2
      have hlo' : ∀ m, n + 1 ≤ m + SZ n → lo ≤ m := fun m hm => by omega
      have hsn := zt_sz hzn
      obtain ⟨ps, o', hD⟩ := zd_put_ex (N := 2 ^ (L + 1)) (W := W) (len := len) (W1 := W1) (len1 := len1) (o := o) (s := s) hN hzn a3
      obtain ⟨hok2, hc2⟩ := zd_put_ok (r := r) (lo := lo) (l := l) hD hzn hlo' ⟨⟨a1, a2, a3, a4, a5, a6⟩, hl'⟩
      have ho' : o' < 2 ^ (L + 1) := zd_put_lt (zc_pp _) ho hD
      obtain ⟨q, tk', ot', tp', tn', tv', te', ts', tz', yn', yv', yo', hX, hY⟩ := ih (st + 1) o' (zg_r ps l) (zg_p tn l.length (fun a => nI a.1) ps) (zg_p tv l.length (fun a => nI a.2.1) ps) (zg_p te l.length (fun a => nI a.2.2.1) ps) (zg_p ts l.length (fun a => zp_a a.2.2.2) ps) (zg_p tz l.length (fun a => zp_b a.2.2.2) ps) (zg_p yn l.length (fun a => nI a.1) ps) (zg_p yv l.length (fun a => nI (zc_sub W1 len1 a.2.1 a.2.2.1)) ps) (zg_p yo l.length (fun a => nI (zp_y W len a.2.2.2)) ps)
        hok2 (by omega) (by omega) ho' (zg_S_p s1.2) (zg_S_p s2.2) (zg_S_p s3.2) (zg_S_p s4.2) (zg_S_p s5.2) (zg_S_p s6.2) (zg_S_p s7.2) (zg_S_p s8.2)
      rw [zg_rl] at hX hY
      have hin : vp_in (nI n) 16 := vp_in_nI (by omega) (by omega)
      have cn : (nI n).toNatClampNeg = n := za_cl (by omega)
      have il : vp_in (nI l.length) 64 := vp_in_nI (by omega) (by omega)
      have cl : (nI l.length).toNatClampNeg = l.length := za_cl (by omega)
      have el : nI (l.length + 1) - 1 = nI l.length := nI_pred _
      refine ⟨q, tk', ot', tp', tn', tv', te', ts', tz', yn', yv', yo', fun post m hm h => ?_, fun post m hm h => ?_⟩
      · obtain ⟨m, rfl⟩ : ∃ k, m = k + 1 := ⟨m - 1, by omega⟩
        rw [wX_runPut_27, List.length_cons]
        refine br_f (fun z => by have := (za_le (a := 1024) (by omega) (by omega)).mp z; omega) (br_f (fun z => by have := (za_le0 (by omega)).mp z; omega) ?_)
        refine nm_r el ?_
        rw [cl, s1.1, s2.1, s3.1, s4.1, s5.1]
        refine ⟨il, il, il, il, il, ?_⟩
        exact zx_pstep (SZ := SZ) (SC := SC) (LB := LB) hL hN hD hzn hlo' a1 a2 hr a3 a4 hl1 hWD hLN hW1 hT a6 hl hW hS (by omega) ho (nm_r (nI_1 st) (hX post m (by omega) h))
      · obtain ⟨m, rfl⟩ : ∃ k, m = k + 1 := ⟨m - 1, by omega⟩
        rw [wY_runPut_18, List.length_cons]
        refine br_f (fun z => by have := (za_le (a := 1000) (by omega) (by omega)).mp z; omega) (br_f (fun z => by have := (za_le0 (by omega)).mp z; omega) ?_)
        refine nm_r el ?_
        rw [cl, s6.1, s7.1, s8.1]
        refine ⟨il, nm_e ⟨il, nm_e ⟨il, nm_e ?_⟩⟩⟩
        rw [cn]
        refine ⟨hin, nm_e ⟨hin, ?_⟩⟩
        have hK := zt_K6 hzn
        refine za_br (za_eq (b := 6) (by omega) (by omega)) (fun k6 => ?_) (fun k6 => ⟨hin, ?_⟩)
        · exact zy_pstep (SZ := SZ) (SC := SC) (LB := LB) hL hN hD hzn hlo' a2 hr a3 a4 hl1 a6 hl (by omega) ho hLG (by rw [if_pos k6]) (hY post m (by omega) h)
        · exact zy_pstep (SZ := SZ) (SC := SC) (LB := LB) hL hN hD hzn hlo' a2 hr a3 a4 hl1 a6 hl (by omega) ho hLG (by rw [if_neg k6]) (hY post m (by omega) h)
end
end
section
/-! put and create, owed -/
theorem zc_lenL {w L : Nat} (w1 : 1 ≤ w) (w2 : w < 2 ^ (L + 1)) : ∃ len, len ≤ L ∧ 2 ^ len ≤ w ∧ w < 2 ^ (len + 1) := by
  obtain ⟨len, l1, l2⟩ := zc_len w w1
  have := (Nat.pow_lt_pow_iff_right (show 1 < 2 by decide)).mp (Nat.lt_of_le_of_lt l1 w2)
  exact ⟨len, by omega, l1, l2⟩
section
variable {kC kI kE kN kS kU kT nl ll us dp tk ot : Int32} {rt kd ag lf sz lb nu fi la fo be ne en wd ln tn tv te ts tz : Nat → Int32}
theorem zx_rp {post : Int32 → SX → Prop} {LN : Nat → Nat} {p0 p1 p2 : Int32} (h : ∃ n, wX_runPut_27 post n 0 kC kI kE kN kS kU kT nl ll us dp (nI 1) 1 rt kd ag lf sz lb nu fi la fo be ne en wd (za_n LN) (upd tn 0 p0) (upd tv 0 0) (upd te 0 (za_n LN 1)) (upd ts 0 p1) (upd tz 0 p2)) : wpX_runPut post (kC, kI, kE, kN, kS, kU, kT, nl, ll, us, dp, tk, ot, rt, kd, ag, lf, sz, lb, nu, fi, la, fo, be, ne, en, wd, za_n LN, tn, tv, te, ts, tz) p0 p1 p2 := by
  unfold wpX_runPut
  exact zx_pt (t := 0) (by omega) h
end
section
theorem zx_putw {post : Int32 → SX → Prop} {NL L US D : Nat} {RT KD AG LF SZ LB NU FI LA FO SC LG WY BE NE EN WD LN : Nat → Nat} {tk ot : Int32} {tn tv te ts tz : Nat → Int32} (I : zi_Inv NL L US D RT KD AG LF SZ LB NU FI LA FO SC LG WY) {x y z : Int32}
    (h1 : (x < 0 ∨ (¬ x < 0 ∧ nI D ≤ x)) → post (-1) (0, 1, 2, 3, 4, 5, 6, nI NL, nI L, nI US, nI D, tk, ot, za_n RT, za_n KD, za_n AG, za_n LF, za_n SZ, za_n LB, za_n NU, za_n FI, za_n LA, za_n FO, za_n BE, za_n NE, za_n EN, za_n WD, za_n LN, tn, tv, te, ts, tz))
    (h3 : ∀ j, j < D → x = nI j → ¬ zi_code (2 ^ (L + 1)) y → post (-3) (0, 1, 2, 3, 4, 5, 6, nI NL, nI L, nI US, nI D, tk, ot, za_n RT, za_n KD, za_n AG, za_n LF, za_n SZ, za_n LB, za_n NU, za_n FI, za_n LA, za_n FO, za_n BE, za_n NE, za_n EN, za_n WD, za_n LN, tn, tv, te, ts, tz))
    (h3' : ∀ j, j < D → x = nI j → zi_code (2 ^ (L + 1)) y → ¬ zi_code (2 ^ (L + 1)) z → post (-3) (0, 1, 2, 3, 4, 5, 6, nI NL, nI L, nI US, nI D, tk, ot, za_n RT, za_n KD, za_n AG, za_n LF, za_n SZ, za_n LB, za_n NU, za_n FI, za_n LA, za_n FO, za_n BE, za_n NE, za_n EN, za_n WD, za_n LN, tn, tv, te, ts, tz))
    (h4 : ∀ j, j < D → x = nI j → ∀ v, 1 ≤ v → v < 2 ^ (L + 1) → y = nI v → ∀ w, 1 ≤ w → w < 2 ^ (L + 1) → z = nI w → zy_h LG (RT j) 0 w = false → ∀ EN WD LN : Nat → Nat, post (-4) (0, 1, 2, 3, 4, 5, 6, nI NL, nI L, nI US, nI D, tk, ot, za_n RT, za_n KD, za_n AG, za_n LF, za_n SZ, za_n LB, za_n NU, za_n FI, za_n LA, za_n FO, za_n BE, za_n NE, za_n EN, za_n WD, za_n LN, tn, tv, te, ts, tz))
    (h5 : ∀ j, j < D → x = nI j → ∀ v, 1 ≤ v → v < 2 ^ (L + 1) → y = nI v → ∀ w, 1 ≤ w → w < 2 ^ (L + 1) → z = nI w → zy_h LG (RT j) 0 w = true → zy_h LG (RT j) 1 v = false → ∀ EN WD LN : Nat → Nat, post (-5) (0, 1, 2, 3, 4, 5, 6, nI NL, nI L, nI US, nI D, tk, ot, za_n RT, za_n KD, za_n AG, za_n LF, za_n SZ, za_n LB, za_n NU, za_n FI, za_n LA, za_n FO, za_n BE, za_n NE, za_n EN, za_n WD, za_n LN, tn, tv, te, ts, tz))
    (h6 : ∀ j, j < D → x = nI j → ∀ v, 1 ≤ v → v < 2 ^ (L + 1) → y = nI v → ∀ w, 1 ≤ w → w < 2 ^ (L + 1) → z = nI w → zy_h LG (RT j) 0 w = true → zy_h LG (RT j) 1 v = true → ∀ (EN WD LN : Nat → Nat) len len1, len ≤ L → 2 ^ len ≤ w → w < 2 ^ (len + 1) → len1 ≤ L → 2 ^ len1 ≤ v → v < 2 ^ (len1 + 1) →
      WD 0 = w → LN 0 = len → WD 1 = v → LN 1 = len1 → zt_T LG EN w len 0 (RT j + 1 - SZ (RT j)) (RT j) → zt_T LG EN v len1 1 (RT j + 1 - SZ (RT j)) (RT j) →
      ∃ n, wX_runPut_27 post n 0 0 1 2 3 4 5 6 (nI NL) (nI L) (nI US) (nI D) (nI 1) 1 (za_n RT) (za_n KD) (za_n AG) (za_n LF) (za_n SZ) (za_n LB) (za_n NU) (za_n FI) (za_n LA) (za_n FO) (za_n BE) (za_n NE) (za_n EN) (za_n WD) (za_n LN) (upd tn 0 (nI (RT j))) (upd tv 0 0) (upd te 0 (nI len1)) (upd ts 0 0) (upd tz 0 (nI len))) :
    wpX_put post (0, 1, 2, 3, 4, 5, 6, nI NL, nI L, nI US, nI D, tk, ot, za_n RT, za_n KD, za_n AG, za_n LF, za_n SZ, za_n LB, za_n NU, za_n FI, za_n LA, za_n FO, za_n BE, za_n NE, za_n EN, za_n WD, za_n LN, tn, tv, te, ts, tz) x y z := by
  have hL : L ≤ 8 := I.1.2.2.2.1
  have hU : US ≤ 16 := Nat.le_trans I.1.2.2.2.2 I.1.2.1
  have hD : D ≤ 16 := Nat.le_trans (zi_D I.2.1) hU
  unfold wpX_put
  refine zx_slot hD (fun h => br_t rfl (h1 h)) (fun j hj e => br_f (by decide) ?_)
  have hr := zi_rt I.2.1 hj
  have g3 := h3 j hj e
  have g3' := h3' j hj e
  have g4 := h4 j hj e
  have g5 := h5 j hj e
  have g6 := h6 j hj e
  clear h1 h3 h3' h4 h5 h6
  subst e
  have ij : vp_in (nI j) 16 := vp_in_nI (by omega) (by omega)
  have cj : (nI j).toNatClampNeg = j := za_cl (by omega)
  refine zx_code hL (fun h => br_t rfl (g3 h)) (fun v v1 v2 e => br_f (by decide) ?_)
  refine zx_code hL (fun h => br_t rfl (g3' ⟨v, v1, v2, e⟩ h)) (fun w w1 w2 e' => br_f (by decide) ⟨ij, ?_⟩)
  have k4 := g4 v v1 v2 e w w1 w2 e'
  have k5 := g5 v v1 v2 e w w1 w2 e'
  have k6 := g6 v v1 v2 e w w1 w2 e'
  clear g3 g3' g4 g5 g6
  subst e e'
  obtain ⟨len, ll, l1, l2⟩ := zc_lenL w1 w2
  obtain ⟨len1, ll', m1, m2⟩ := zc_lenL v1 v2
  rw [cj]
  refine nm_e ?_
  refine zx_match (s := 0) (LG := LG) (AG := AG) (SC := SC) (N := 2 ^ (L + 1)) (by omega) (by omega) (by omega) l1 l2 (za_p2 (by omega)) (fun n hn => I.2.2.1 n (by omega)) (fun EN1 hT0 _ => ?_)
  refine za_brb (fun q => k4 q EN1 _ _) (fun q => ?_)
  refine zx_match (s := 1) (LG := LG) (AG := AG) (SC := SC) (N := 2 ^ (L + 1)) (by omega) (by omega) (by omega) m1 m2 (za_p2 (by omega)) (fun n hn => I.2.2.1 n (by omega)) (fun EN2 hT1 hO => ?_)
  refine za_brb (fun q1 => k5 q q1 EN2 _ _) (fun q1 => ?_)
  have hT0' : zt_T LG EN2 w len 0 (RT j + 1 - SZ (RT j)) (RT j) := by
    intro n a b i c
    rw [hO _ (by unfold zt_ix; omega)]
    exact hT0 n a b i c
  have e0 : za_n (za_u (za_u LN 0 len) 1 len1) 0 = nI len := by rw [za_ap, za_un (by omega), za_us]
  have e1 : za_n (za_u (za_u LN 0 len) 1 len1) 1 = nI len1 := by rw [za_ap, za_us]
  rw [e0]
  refine zx_rp ?_
  rw [e1]
  exact (k6 q q1 EN2 _ _ len len1 ll l1 l2 ll' m1 m2 (by rw [za_un (by omega), za_us]) (by rw [za_un (by omega), za_us]) za_us za_us hT0' hT1)
theorem zx_crew {post : Int32 → SX → Prop} {NL L US D : Nat} {RT KD AG LF SZ LB NU FI LA FO SC LG WY BE NE EN WD LN : Nat → Nat} {tk ot : Int32} {tn tv te ts tz : Nat → Int32} (I : zi_Inv NL L US D RT KD AG LF SZ LB NU FI LA FO SC LG WY) {x y : Int32}
    (h1 : (x < 0 ∨ (¬ x < 0 ∧ nI D ≤ x)) → post (-1) (0, 1, 2, 3, 4, 5, 6, nI NL, nI L, nI US, nI D, tk, ot, za_n RT, za_n KD, za_n AG, za_n LF, za_n SZ, za_n LB, za_n NU, za_n FI, za_n LA, za_n FO, za_n BE, za_n NE, za_n EN, za_n WD, za_n LN, tn, tv, te, ts, tz))
    (h3 : ∀ j, j < D → x = nI j → ¬ zi_code (2 ^ (L + 1)) y → post (-3) (0, 1, 2, 3, 4, 5, 6, nI NL, nI L, nI US, nI D, tk, ot, za_n RT, za_n KD, za_n AG, za_n LF, za_n SZ, za_n LB, za_n NU, za_n FI, za_n LA, za_n FO, za_n BE, za_n NE, za_n EN, za_n WD, za_n LN, tn, tv, te, ts, tz))
    (h5 : ∀ j, j < D → x = nI j → ∀ v, 1 ≤ v → v < 2 ^ (L + 1) → y = nI v → zy_h LG (RT j) 1 v = false → ∀ EN WD LN : Nat → Nat, post (-5) (0, 1, 2, 3, 4, 5, 6, nI NL, nI L, nI US, nI D, tk, ot, za_n RT, za_n KD, za_n AG, za_n LF, za_n SZ, za_n LB, za_n NU, za_n FI, za_n LA, za_n FO, za_n BE, za_n NE, za_n EN, za_n WD, za_n LN, tn, tv, te, ts, tz))
    (h6 : ∀ j, j < D → x = nI j → ∀ v, 1 ≤ v → v < 2 ^ (L + 1) → y = nI v → zy_h LG (RT j) 1 v = true → ∀ (EN WD LN : Nat → Nat) len1, len1 ≤ L → 2 ^ len1 ≤ v → v < 2 ^ (len1 + 1) → WD 1 = v → LN 1 = len1 → zt_T LG EN v len1 1 (RT j + 1 - SZ (RT j)) (RT j) →
      ∃ n, wX_runPut_27 post n 0 0 1 2 3 4 5 6 (nI NL) (nI L) (nI US) (nI D) (nI 1) 1 (za_n RT) (za_n KD) (za_n AG) (za_n LF) (za_n SZ) (za_n LB) (za_n NU) (za_n FI) (za_n LA) (za_n FO) (za_n BE) (za_n NE) (za_n EN) (za_n WD) (za_n LN) (upd tn 0 (nI (RT j))) (upd tv 0 0) (upd te 0 (nI len1)) (upd ts 0 (-1)) (upd tz 0 (-1))) :
    wpX_create post (0, 1, 2, 3, 4, 5, 6, nI NL, nI L, nI US, nI D, tk, ot, za_n RT, za_n KD, za_n AG, za_n LF, za_n SZ, za_n LB, za_n NU, za_n FI, za_n LA, za_n FO, za_n BE, za_n NE, za_n EN, za_n WD, za_n LN, tn, tv, te, ts, tz) x y := by
  have hL : L ≤ 8 := I.1.2.2.2.1
  have hU : US ≤ 16 := Nat.le_trans I.1.2.2.2.2 I.1.2.1
  have hD : D ≤ 16 := Nat.le_trans (zi_D I.2.1) hU
  unfold wpX_create
  refine zx_slot hD (fun h => br_t rfl (h1 h)) (fun j hj e => br_f (by decide) ?_)
  have hr := zi_rt I.2.1 hj
  have g3 := h3 j hj e
  have g5 := h5 j hj e
  have g6 := h6 j hj e
  clear h1 h3 h5 h6
  subst e
  have ij : vp_in (nI j) 16 := vp_in_nI (by omega) (by omega)
  have cj : (nI j).toNatClampNeg = j := za_cl (by omega)
  refine zx_code hL (fun h => br_t rfl (g3 h)) (fun v v1 v2 e => br_f (by decide) ⟨ij, ?_⟩)
  have k5 := g5 v v1 v2 e
  have k6 := g6 v v1 v2 e
  clear g3 g5 g6
  subst e
  obtain ⟨len1, ll', m1, m2⟩ := zc_lenL v1 v2
  rw [cj]
  refine nm_e ?_
  refine zx_match (s := 1) (LG := LG) (AG := AG) (SC := SC) (N := 2 ^ (L + 1)) (by omega) (by omega) (by omega) m1 m2 (za_p2 (by omega)) (fun n hn => I.2.2.1 n (by omega)) (fun EN2 hT1 hO => ?_)
  refine za_brb (fun q1 => k5 q1 EN2 _ _) (fun q1 => ?_)
  have e1 : za_n (za_u LN 1 len1) 1 = nI len1 := by rw [za_ap, za_us]
  refine zx_rp ?_
  rw [e1]
  exact (k6 q1 EN2 _ _ len1 ll' m1 m2 za_us za_us hT1)
theorem zy_put1 {post : Int32 → SY → Prop} {NL L US D : Nat} {RT KD AG LF SZ LB NU FI LA FO SC LG WY : Nat → Nat} {tp : Int32} {yn yv yo : Nat → Int32} (_ : zi_Inv NL L US D RT KD AG LF SZ LB NU FI LA FO SC LG WY) {x y z : Int32} (h : x < 0 ∨ (¬ x < 0 ∧ nI D ≤ x)) (hp : post (-1) (nI NL, nI L, nI D, tp, za_n RT, za_n KD, za_n AG, za_n LF, za_n SC, za_n SZ, za_n LG, za_n WY, yn, yv, yo)) : wpY_put post (nI NL, nI L, nI D, tp, za_n RT, za_n KD, za_n AG, za_n LF, za_n SC, za_n SZ, za_n LG, za_n WY, yn, yv, yo) x y z := by
  unfold wpY_put
  rcases h with h | h
  · exact br_t h hp
  · exact br_f h.1 (br_f (fun z => Int32.lt_irrefl (Int32.lt_of_le_of_lt h.2 z)) hp)
theorem zy_put3 {post : Int32 → SY → Prop} {NL L US D : Nat} {RT KD AG LF SZ LB NU FI LA FO SC LG WY : Nat → Nat} {tp : Int32} {yn yv yo : Nat → Int32} (I : zi_Inv NL L US D RT KD AG LF SZ LB NU FI LA FO SC LG WY) {j : Nat} {y z : Int32} (hj : j < D) (h : ¬ zi_code (2 ^ (L + 1)) y ∨ (zi_code (2 ^ (L + 1)) y ∧ ¬ zi_code (2 ^ (L + 1)) z)) (hp : post (-3) (nI NL, nI L, nI D, tp, za_n RT, za_n KD, za_n AG, za_n LF, za_n SC, za_n SZ, za_n LG, za_n WY, yn, yv, yo)) : wpY_put post (nI NL, nI L, nI D, tp, za_n RT, za_n KD, za_n AG, za_n LF, za_n SC, za_n SZ, za_n LG, za_n WY, yn, yv, yo) (nI j) y z := by
  have hU : US ≤ 16 := Nat.le_trans I.1.2.2.2.2 I.1.2.1
  have hD : D ≤ 16 := Nat.le_trans (zi_D I.2.1) hU
  have hL : L ≤ 8 := I.1.2.2.2.1
  unfold wpY_put
  refine br_f (za_ng (by omega)) (br_t ((za_lt (by omega) (by omega)).mpr hj) (zy_code hL (fun _ => br_t rfl hp) (fun w a b e => br_f (by decide) ?_)))
  rcases h with h | ⟨_, h⟩
  · exact absurd ⟨w, a, b, e⟩ h
  · exact zy_code hL (fun _ => br_t rfl hp) (fun w a b e => absurd ⟨w, a, b, e⟩ h)
theorem zy_put4 {post : Int32 → SY → Prop} {NL L US D : Nat} {RT KD AG LF SZ LB NU FI LA FO SC LG WY : Nat → Nat} {tp : Int32} {yn yv yo : Nat → Int32} (I : zi_Inv NL L US D RT KD AG LF SZ LB NU FI LA FO SC LG WY) {j v w : Nat} (hj : j < D) (v1 : 1 ≤ v) (v2 : v < 2 ^ (L + 1)) (w1 : 1 ≤ w) (w2 : w < 2 ^ (L + 1))
    (h0 : zy_h LG (RT j) 0 w = false → post (-4) (nI NL, nI L, nI D, tp, za_n RT, za_n KD, za_n AG, za_n LF, za_n SC, za_n SZ, za_n LG, za_n WY, yn, yv, yo))
    (h1 : zy_h LG (RT j) 0 w = true → zy_h LG (RT j) 1 v = false → post (-5) (nI NL, nI L, nI D, tp, za_n RT, za_n KD, za_n AG, za_n LF, za_n SC, za_n SZ, za_n LG, za_n WY, yn, yv, yo))
    (h2 : zy_h LG (RT j) 0 w = true → zy_h LG (RT j) 1 v = true → ∃ n, wY_runPut_18 post n 1 0 (nI NL) (nI L) (nI D) (nI 1) (za_n RT) (za_n KD) (za_n AG) (za_n LF) (za_n SC) (za_n SZ) (za_n LG) (za_n WY) (upd yn 0 (nI (RT j))) (upd yv 0 (nI v)) (upd yo 0 (nI w))) : wpY_put post (nI NL, nI L, nI D, tp, za_n RT, za_n KD, za_n AG, za_n LF, za_n SC, za_n SZ, za_n LG, za_n WY, yn, yv, yo) (nI j) (nI v) (nI w) := by
  have hL : L ≤ 8 := I.1.2.2.2.1
  have p9 : 2 ^ (L + 1) ≤ 2 ^ 9 := za_p2 (by omega)
  have hU : US ≤ 16 := Nat.le_trans I.1.2.2.2.2 I.1.2.1
  have hD : D ≤ 16 := Nat.le_trans (zi_D I.2.1) hU
  have hr := zi_rt I.2.1 hj
  have ij : vp_in (nI j) 16 := vp_in_nI (by omega) (by omega)
  have cj : (nI j).toNatClampNeg = j := za_cl (by omega)
  unfold wpY_put
  refine br_f (za_ng (by omega)) (br_t ((za_lt (by omega) (by omega)).mpr hj) (zy_code hL (fun h => absurd ⟨v, v1, v2, rfl⟩ h) (fun _ _ _ _ => br_f (by decide) (zy_code hL (fun h => absurd ⟨w, w1, w2, rfl⟩ h) (fun _ _ _ _ => br_f (by decide) ⟨ij, ?_⟩)))))
  rw [cj]
  refine zy_has (s := 0) (by omega) (by omega) (by omega) I.2.2.2.2.2.1.1 (za_brb h0 (fun q => ⟨ij, ?_⟩))
  refine zy_has (s := 1) (by omega) (by omega) (by omega) I.2.2.2.2.2.1.1 (za_brb (h1 q) (fun q1 => ⟨ij, ?_⟩))
  unfold wpY_runPut
  exact zy_pt (t := 0) (by omega) (h2 q q1)
theorem zy_cre1 {post : Int32 → SY → Prop} {NL L US D : Nat} {RT KD AG LF SZ LB NU FI LA FO SC LG WY : Nat → Nat} {tp : Int32} {yn yv yo : Nat → Int32} (_ : zi_Inv NL L US D RT KD AG LF SZ LB NU FI LA FO SC LG WY) {x y : Int32} (h : x < 0 ∨ (¬ x < 0 ∧ nI D ≤ x)) (hp : post (-1) (nI NL, nI L, nI D, tp, za_n RT, za_n KD, za_n AG, za_n LF, za_n SC, za_n SZ, za_n LG, za_n WY, yn, yv, yo)) : wpY_create post (nI NL, nI L, nI D, tp, za_n RT, za_n KD, za_n AG, za_n LF, za_n SC, za_n SZ, za_n LG, za_n WY, yn, yv, yo) x y := by
  unfold wpY_create
  rcases h with h | h
  · exact br_t h hp
  · exact br_f h.1 (br_f (fun z => Int32.lt_irrefl (Int32.lt_of_le_of_lt h.2 z)) hp)
theorem zy_cre3 {post : Int32 → SY → Prop} {NL L US D : Nat} {RT KD AG LF SZ LB NU FI LA FO SC LG WY : Nat → Nat} {tp : Int32} {yn yv yo : Nat → Int32} (I : zi_Inv NL L US D RT KD AG LF SZ LB NU FI LA FO SC LG WY) {j : Nat} {y : Int32} (hj : j < D) (h : ¬ zi_code (2 ^ (L + 1)) y) (hp : post (-3) (nI NL, nI L, nI D, tp, za_n RT, za_n KD, za_n AG, za_n LF, za_n SC, za_n SZ, za_n LG, za_n WY, yn, yv, yo)) : wpY_create post (nI NL, nI L, nI D, tp, za_n RT, za_n KD, za_n AG, za_n LF, za_n SC, za_n SZ, za_n LG, za_n WY, yn, yv, yo) (nI j) y := by
  have hU : US ≤ 16 := Nat.le_trans I.1.2.2.2.2 I.1.2.1
  have hD : D ≤ 16 := Nat.le_trans (zi_D I.2.1) hU
  unfold wpY_create
  exact br_f (za_ng (by omega)) (br_t ((za_lt (by omega) (by omega)).mpr hj) (zy_code I.1.2.2.2.1 (fun _ => br_t rfl hp) (fun w a b e => absurd ⟨w, a, b, e⟩ h)))
theorem zy_cre4 {post : Int32 → SY → Prop} {NL L US D : Nat} {RT KD AG LF SZ LB NU FI LA FO SC LG WY : Nat → Nat} {tp : Int32} {yn yv yo : Nat → Int32} (I : zi_Inv NL L US D RT KD AG LF SZ LB NU FI LA FO SC LG WY) {j v : Nat} (hj : j < D) (v1 : 1 ≤ v) (v2 : v < 2 ^ (L + 1))
    (h0 : zy_h LG (RT j) 1 v = false → post (-5) (nI NL, nI L, nI D, tp, za_n RT, za_n KD, za_n AG, za_n LF, za_n SC, za_n SZ, za_n LG, za_n WY, yn, yv, yo))
    (h1 : zy_h LG (RT j) 1 v = true → ∃ n, wY_runPut_18 post n 1 0 (nI NL) (nI L) (nI D) (nI 1) (za_n RT) (za_n KD) (za_n AG) (za_n LF) (za_n SC) (za_n SZ) (za_n LG) (za_n WY) (upd yn 0 (nI (RT j))) (upd yv 0 (nI v)) (upd yo 0 0)) : wpY_create post (nI NL, nI L, nI D, tp, za_n RT, za_n KD, za_n AG, za_n LF, za_n SC, za_n SZ, za_n LG, za_n WY, yn, yv, yo) (nI j) (nI v) := by
  have hL : L ≤ 8 := I.1.2.2.2.1
  have p9 : 2 ^ (L + 1) ≤ 2 ^ 9 := za_p2 (by omega)
  have hU : US ≤ 16 := Nat.le_trans I.1.2.2.2.2 I.1.2.1
  have hD : D ≤ 16 := Nat.le_trans (zi_D I.2.1) hU
  have hr := zi_rt I.2.1 hj
  have ij : vp_in (nI j) 16 := vp_in_nI (by omega) (by omega)
  have cj : (nI j).toNatClampNeg = j := za_cl (by omega)
  unfold wpY_create
  refine br_f (za_ng (by omega)) (br_t ((za_lt (by omega) (by omega)).mpr hj) (zy_code hL (fun h => absurd ⟨v, v1, v2, rfl⟩ h) (fun _ _ _ _ => br_f (by decide) ⟨ij, ?_⟩)))
  rw [cj]
  refine zy_has (s := 1) (by omega) (by omega) (by omega) I.2.2.2.2.2.1.1 (za_brb h0 (fun q => ⟨ij, ?_⟩))
  unfold wpY_runPut
  exact zy_pt (t := 0) (by omega) (h1 q)
end
theorem i_vc_put {k : Nat} {u : SX} {v : SY} (I : i_Rel k u v) (hk : k + 4 ≤ 2050) (v1 : Int32) (v2 : Int32) (v3 : Int32) : wpX_put (fun r u' => wpY_put (fun r' v' => r' = r ∧ i_Rel (k + 4) u' v') v v1 v2 v3) u v1 v2 v3 := by
  refine zi_el (P := fun u v => wpX_put (fun r u' => wpY_put (fun r' v' => r' = r ∧ i_Rel (k + 4) u' v') v v1 v2 v3) u v1 v2 v3) ?_ I
  intro NL L US D RT KD AG LF SZ LB NU FI LA FO SC LG WY BE NE EN WD LN tk ot tp tn tv te ts tz yn yv yo I
  have hL : L ≤ 8 := I.1.2.2.2.1
  have p9 : 2 ^ (L + 1) ≤ 2 ^ 9 := za_p2 (by omega)
  have hU : US ≤ 16 := Nat.le_trans I.1.2.2.2.2 I.1.2.1
  refine zx_putw I ?_ ?_ ?_ ?_ ?_ ?_
  · intro h
    exact zy_put1 I h ⟨rfl, zi_mk I⟩
  · rintro j hj rfl h
    exact zy_put3 I hj (Or.inl h) ⟨rfl, zi_mk I⟩
  · rintro j hj rfl hy h
    exact zy_put3 I hj (Or.inr ⟨hy, h⟩) ⟨rfl, zi_mk I⟩
  · rintro j hj rfl v a1 a2 rfl w w1 w2 rfl q EN WD LN
    exact zy_put4 I hj a1 a2 w1 w2 (fun _ => ⟨rfl, zi_mk I⟩) (fun z => by rw [q] at z; cases z) (fun z => by rw [q] at z; cases z)
  · rintro j hj rfl v a1 a2 rfl w w1 w2 rfl q q1 EN WD LN
    exact zy_put4 I hj a1 a2 w1 w2 (fun z => by rw [q] at z; cases z) (fun _ _ => ⟨rfl, zi_mk I⟩) (fun _ z => by rw [q1] at z; cases z)
  · rintro j hj rfl v a1 a2 rfl w w1 w2 rfl q q1 EN WD LN len len1 ll l1 l2 ll' m1 m2 d0 e0 d1 e1 hT0 hT1
    have hr := zi_rt I.2.1 hj
    have hs := zt_sz (I.2.2.1 (RT j) hr)
    obtain ⟨ans, tk', ot', tp', tn', tv', te', ts', tz', yn', yv', yo', hX, hY⟩ := zg_put (kC := 0) (kI := 1) (kE := 2) (kN := 3) (kS := 4) (kU := 5) (kT := 6) (nl := nI NL) (us := nI US) (dp := nI D) (rt := za_n RT) (sz := za_n SZ) (lb := za_n LB) (nu := za_n NU) (fi := za_n FI) (la := za_n LA) (fo := za_n FO) (be := za_n BE) (ne := za_n NE) (mn := nI NL) (ct := nI D) (yr := za_n RT) (yz := za_n SZ) (yw := za_n WY) (L := L) (N := 2 ^ (L + 1)) (KD := KD) (AG := AG) (LF := LF) (SZ := SZ) (SC := SC) (LB := LB) (LG := LG) (EN := EN) (WD := WD) (LN := LN) (W := w) (len := len) (W1 := v) (len1 := len1) (r := RT j) (S := True) hL (by omega) (fun n hn => I.2.2.1 n (by omega)) rfl (by omega) (by omega) d1 e1 (by omega) hT1 I.2.2.2.2.2.1.1 (by omega) (by omega) (fun _ => ⟨d0, e0, hT0⟩)
      256 0 1 [(RT j, 0, len1, some (0, len))] (upd tn 0 (nI (RT j))) (upd tv 0 0) (upd te 0 (nI len1)) (upd ts 0 0) (upd tz 0 (nI len)) (upd yn 0 (nI (RT j))) (upd yv 0 (nI v)) (upd yo 0 (nI w))
      ⟨⟨by show RT j + 1 - SZ (RT j) ≤ RT j; omega, Nat.le_refl _, Nat.zero_le _, Nat.le_refl _, by show SZ (RT j) + 0 ≤ 16; omega, ⟨Nat.zero_le _, Nat.le_refl _, trivial⟩⟩, trivial⟩
      (by
        have := zg_start (KD := KD) (SZ := SZ) (r := RT j) (m := len1 - 0) hs.1 (by omega) (by omega)
        exact this) (by omega) (by have := zc_pp L; rw [Nat.pow_succ]; omega)
      ⟨pk_us, trivial⟩ ⟨pk_us, trivial⟩ ⟨pk_us, trivial⟩ ⟨pk_us, trivial⟩ ⟨pk_us, trivial⟩ ⟨pk_us, trivial⟩
      ⟨by show upd yv 0 (nI v) 0 = nI (zc_sub v len1 0 len1); rw [zc_sub_all m1 m2]; exact pk_us, trivial⟩ ⟨by show upd yo 0 (nI w) 0 = nI (zc_sub w len 0 len); rw [zc_sub_all l1 l2]; exact pk_us, trivial⟩
    refine Exists.intro 257 (hX _ 257 (by omega) ?_)
    refine zy_put4 I hj a1 a2 w1 w2 (fun z => by rw [q] at z; cases z) (fun _ z => by rw [q1] at z; cases z) (fun _ _ => Exists.intro 257 (hY _ 257 (by omega) ?_))
    exact ⟨rfl, zi_mk I⟩
theorem i_vc_create {k : Nat} {u : SX} {v : SY} (I : i_Rel k u v) (hk : k + 4 ≤ 2050) (v1 : Int32) (v2 : Int32) : wpX_create (fun r u' => wpY_create (fun r' v' => r' = r ∧ i_Rel (k + 4) u' v') v v1 v2) u v1 v2 := by
  refine zi_el (P := fun u v => wpX_create (fun r u' => wpY_create (fun r' v' => r' = r ∧ i_Rel (k + 4) u' v') v v1 v2) u v1 v2) ?_ I
  intro NL L US D RT KD AG LF SZ LB NU FI LA FO SC LG WY BE NE EN WD LN tk ot tp tn tv te ts tz yn yv yo I
  have hL : L ≤ 8 := I.1.2.2.2.1
  have p9 : 2 ^ (L + 1) ≤ 2 ^ 9 := za_p2 (by omega)
  have hU : US ≤ 16 := Nat.le_trans I.1.2.2.2.2 I.1.2.1
  refine zx_crew I ?_ ?_ ?_ ?_
  · intro h
    exact zy_cre1 I h ⟨rfl, zi_mk I⟩
  · rintro j hj rfl h
    exact zy_cre3 I hj h ⟨rfl, zi_mk I⟩
  · rintro j hj rfl v a1 a2 rfl q EN WD LN
    exact zy_cre4 I hj a1 a2 (fun _ => ⟨rfl, zi_mk I⟩) (fun z => by rw [q] at z; cases z)
  · rintro j hj rfl v a1 a2 rfl q1 EN WD LN len1 ll' m1 m2 d1 e1 hT1
    have hr := zi_rt I.2.1 hj
    have hs := zt_sz (I.2.2.1 (RT j) hr)
    obtain ⟨ans, tk', ot', tp', tn', tv', te', ts', tz', yn', yv', yo', hX, hY⟩ := zg_put (kC := 0) (kI := 1) (kE := 2) (kN := 3) (kS := 4) (kU := 5) (kT := 6) (nl := nI NL) (us := nI US) (dp := nI D) (rt := za_n RT) (sz := za_n SZ) (lb := za_n LB) (nu := za_n NU) (fi := za_n FI) (la := za_n LA) (fo := za_n FO) (be := za_n BE) (ne := za_n NE) (mn := nI NL) (ct := nI D) (yr := za_n RT) (yz := za_n SZ) (yw := za_n WY) (L := L) (N := 2 ^ (L + 1)) (KD := KD) (AG := AG) (LF := LF) (SZ := SZ) (SC := SC) (LB := LB) (LG := LG) (EN := EN) (WD := WD) (LN := LN) (W := 1) (len := 0) (W1 := v) (len1 := len1) (r := RT j) (S := False) hL (by omega) (fun n hn => I.2.2.1 n (by omega)) rfl (by omega) (by omega) d1 e1 (by omega) hT1 I.2.2.2.2.2.1.1 (by omega) (by omega) (fun z => absurd z id)
      256 0 1 [(RT j, 0, len1, none)] (upd tn 0 (nI (RT j))) (upd tv 0 0) (upd te 0 (nI len1)) (upd ts 0 (-1)) (upd tz 0 (-1)) (upd yn 0 (nI (RT j))) (upd yv 0 (nI v)) (upd yo 0 0)
      ⟨⟨by show RT j + 1 - SZ (RT j) ≤ RT j; omega, Nat.le_refl _, Nat.zero_le _, Nat.le_refl _, by show SZ (RT j) + 0 ≤ 16; omega, trivial⟩, trivial⟩
      (by
        have := zg_start (KD := KD) (SZ := SZ) (r := RT j) (m := len1 - 0) hs.1 (by omega) (by omega)
        exact this) (by omega) (by have := zc_pp L; rw [Nat.pow_succ]; omega)
      ⟨pk_us, trivial⟩ ⟨pk_us, trivial⟩ ⟨pk_us, trivial⟩ ⟨pk_us, trivial⟩ ⟨pk_us, trivial⟩ ⟨pk_us, trivial⟩
      ⟨by show upd yv 0 (nI v) 0 = nI (zc_sub v len1 0 len1); rw [zc_sub_all m1 m2]; exact pk_us, trivial⟩ ⟨pk_us, trivial⟩
    refine Exists.intro 257 (hX _ 257 (by omega) ?_)
    refine zy_cre4 I hj a1 a2 (fun z => by rw [q1] at z; cases z) (fun _ => Exists.intro 257 (hY _ 257 (by omega) ?_))
    exact ⟨rfl, zi_mk I⟩
end
