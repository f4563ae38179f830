section
/-! rows pasted from the kit's rows to paste (starting texts) -/
theorem pk_us {f : Nat → Int32} {k : Nat} {x : Int32} : upd f k x k = x := if_pos rfl
theorem pk_un {f : Nat → Int32} {k j : Nat} {x : Int32} (h : j ≠ k) : upd f k x j = f j := if_neg h
theorem pk_sub {a b : Nat} (h : b ≤ a) : nI a - nI b = nI (a - b) := by
  obtain ⟨c, rfl⟩ : ∃ c, a = c + b := ⟨a - b, by omega⟩
  rw [← nI_add, Int32.add_sub_cancel, Nat.add_sub_cancel]
theorem pk_m1 (n : Nat) : nI (n + 1) + (-1) = nI n := by
  rw [← nI_1, Int32.add_assoc, show (1 : Int32) + (-1) = 0 from rfl, Int32.add_zero]
theorem pk_mul (a b : Nat) : nI a * nI b = nI (a * b) := (Int32.ofNat_mul a b).symm
theorem pk_div {a d : Nat} (ha : a < 2 ^ 31) (h0 : 0 < d) (hd : d < 2 ^ 31) : nI a / nI d = nI (a / d) := by
  apply Int32.toInt_inj.mp
  rw [lg_idiv_nonneg (by rw [nI_toInt ha]; omega) (by rw [nI_toInt hd]; omega), nI_toInt ha, nI_toInt hd, nI_toInt (Nat.lt_of_le_of_lt (Nat.div_le_self a d) ha)]
  first | rfl | exact (Int.natCast_ediv _ _).symm
theorem pk_rem {a d : Nat} (ha : a < 2 ^ 31) (h0 : 0 < d) (hd : d < 2 ^ 31) : nI a - nI a / nI d * nI d = nI (a % d) := by
  rw [pk_div ha h0 hd, pk_mul, pk_sub (Nat.div_mul_le_self a d)]
  exact congrArg nI (by have := Nat.div_add_mod' a d; omega)
theorem pk_sub_toInt {a b : Nat} (ha : a < 2 ^ 30) (hb : b < 2 ^ 30) : (nI a - nI b).toInt = (a : Int) - b := by
  rw [Int32.toInt_sub, nI_toInt (by omega), nI_toInt (by omega)]
  exact Int.bmod_eq_of_le (by omega) (by omega)
theorem pk_sneg {a b : Nat} (hb : b < 2 ^ 30) (h : a < b) : nI a - nI b < 0 := by
  rw [Int32.lt_iff_toInt_lt, pk_sub_toInt (by omega) hb, show (0 : Int32).toInt = 0 from by decide]
  omega
theorem pk_ix (x : Int32) {n : Nat} (hn : n < 2 ^ 31) : x < 0 ∨ nI n ≤ x ∨ ∃ j : Nat, j < n ∧ x = nI j := by
  by_cases h : x < 0
  · exact Or.inl h
  · obtain ⟨j, hj, rfl⟩ := nI_of h
    by_cases h2 : j < n
    · exact Or.inr (Or.inr ⟨j, h2, rfl⟩)
    · exact Or.inr (Or.inl (nI_le (by omega) hj))
theorem pk_le {x y : Int32} {A B : Prop} (a b : Nat) (f : a ≤ b → A) (g : b < a → B) (hx : x = nI a := by rfl) (hy : y = nI b := by rfl) (ha : a < 2 ^ 31 := by omega) (hb : b < 2 ^ 31 := by omega) : (x ≤ y → A) ∧ (¬ x ≤ y → B) := by
  subst hx hy
  rw [nI_leI ha hb]
  exact ⟨f, fun z => g (by omega)⟩
theorem pk_lt {x y : Int32} {A B : Prop} (a b : Nat) (f : a < b → A) (g : b ≤ a → B) (hx : x = nI a := by rfl) (hy : y = nI b := by rfl) (ha : a < 2 ^ 31 := by omega) (hb : b < 2 ^ 31 := by omega) : (x < y → A) ∧ (¬ x < y → B) := by
  subst hx hy
  rw [nI_ltI ha hb]
  exact ⟨f, fun z => g (by omega)⟩
theorem pk_eq {x y : Int32} {A B : Prop} (a b : Nat) (f : a = b → A) (g : a ≠ b → B) (hx : x = nI a := by rfl) (hy : y = nI b := by rfl) (ha : a < 2 ^ 31 := by omega) (hb : b < 2 ^ 31 := by omega) : (x = y → A) ∧ (¬ x = y → B) := by
  subst hx hy
  rw [nI_eq ha hb]
  exact ⟨f, g⟩
theorem pk_in {x : Int32} (n N : Nat) (h : n < N) (hx : x = nI n := by rfl) (hN : N < 2 ^ 31 := by omega) : vp_in x N := by
  subst hx
  exact vp_in_nI h hN
theorem pk_cl {x : Int32} (n : Nat) (hx : x = nI n := by rfl) (h : n < 2 ^ 31 := by omega) : x.toNatClampNeg = n := by
  subst hx
  exact nI_clamp h
theorem pk_tn {n : Nat} (h : n < 2 ^ 32) : (nI n).toBitVec.toNat = n := Nat.mod_eq_of_lt h
theorem pk_and (x : Int32) {m : Int32} (k : Nat) (hm : m.toBitVec.toNat = 2 ^ k - 1) : x &&& m = nI (x.toBitVec.toNat % 2 ^ k) := by
  apply Int32.toBitVec_inj.mp
  apply BitVec.eq_of_toNat_eq
  rw [Int32.toBitVec_and, BitVec.toNat_and, hm, Nat.and_two_pow_sub_one_eq_mod]
  show _ = (BitVec.ofNat 32 _).toNat
  rw [BitVec.toNat_ofNat]
  exact (Nat.mod_eq_of_lt (Nat.lt_of_le_of_lt (Nat.mod_le _ _) x.toBitVec.isLt)).symm
theorem pk_andN {n : Nat} (h : n < 2 ^ 32) {m : Int32} (k : Nat) (hm : m.toBitVec.toNat = 2 ^ k - 1) : nI n &&& m = nI (n % 2 ^ k) := by
  rw [pk_and _ k hm, pk_tn h]
theorem pk_andE (x : Int32) {m : Int32} (k : Nat) (hm : m.toBitVec.toNat = 2 ^ k - 1) : ∃ j : Nat, j < 2 ^ k ∧ x &&& m = nI j := ⟨_, Nat.mod_lt _ (Nat.two_pow_pos k), pk_and x k hm⟩
theorem pk_andIn (x : Int32) {m : Int32} (k : Nat) (hm : m.toBitVec.toNat = 2 ^ k - 1) (hk : k ≤ 30) : vp_in (x &&& m) (2 ^ k) := by
  obtain ⟨j, hj, e⟩ := pk_andE x k hm
  rw [e]
  exact vp_in_nI hj (Nat.lt_of_le_of_lt (Nat.pow_le_pow_right (by decide) hk) (by decide))
theorem pk_shl (a s : Int32) (k : Nat) (hs : (s.toBitVec.smod 32).toNat = k) : (a <<< s).toBitVec.toNat = a.toBitVec.toNat * 2 ^ k % 2 ^ 32 := by
  show (a.toBitVec <<< (s.toBitVec.smod 32).toNat).toNat = _
  rw [hs, BitVec.toNat_shiftLeft, Nat.shiftLeft_eq]
theorem pk_shlN {n : Nat} (s : Int32) (k : Nat) (hs : (s.toBitVec.smod 32).toNat = k) (h : n * 2 ^ k < 2 ^ 32) : nI n <<< s = nI (n * 2 ^ k) := by
  apply Int32.toBitVec_inj.mp
  apply BitVec.eq_of_toNat_eq
  have hn : n < 2 ^ 32 := Nat.lt_of_le_of_lt (Nat.le_mul_of_pos_right n (Nat.two_pow_pos k)) h
  rw [pk_shl _ _ k hs, pk_tn hn, pk_tn h, Nat.mod_eq_of_lt h]
theorem pk_shr (a s : Int32) (k : Nat) (hs : (s.toBitVec.smod 32).toNat = k) : (a >>> s).toInt = a.toInt >>> k := by
  show (a.toBitVec.sshiftRight (s.toBitVec.smod 32).toNat).toInt = _
  rw [hs, BitVec.toInt_sshiftRight]
  rfl
theorem pk_shrN {n : Nat} (h : n < 2 ^ 31) (s : Int32) (k : Nat) (hs : (s.toBitVec.smod 32).toNat = k) : nI n >>> s = nI (n / 2 ^ k) := by
  apply Int32.toInt_inj.mp
  have h2 : n / 2 ^ k ≤ n := Nat.div_le_self _ _
  rw [pk_shr _ _ k hs, nI_toInt h, nI_toInt (by omega), Int.shiftRight_eq_div_pow]
  rfl
theorem s_l : ∀ n, n < 32 → ((nI n &&& 31).toBitVec.smod 32).toNat = n := by decide +kernel
theorem nx_and (a b : Nat) : nI a &&& nI b = nI (a &&& b) := by
  apply Int32.toBitVec_inj.1
  show BitVec.ofNat 32 a &&& BitVec.ofNat 32 b = BitVec.ofNat 32 (a &&& b)
  apply BitVec.eq_of_getLsbD_eq
  intro i hi
  simp [hi]
theorem nx_xor (a b : Nat) : nI a ^^^ nI b = nI (a ^^^ b) := by
  apply Int32.toBitVec_inj.1
  show BitVec.ofNat 32 a ^^^ BitVec.ofNat 32 b = BitVec.ofNat 32 (a ^^^ b)
  apply BitVec.eq_of_getLsbD_eq
  intro i hi
  simp [hi]
end
section
/-! interleaved numbers: spread bits, their coordinates, the order -/
theorem ci_or (a b : Nat) : nI a ||| nI b = nI (a ||| b) := by
  apply Int32.toBitVec_inj.1
  show BitVec.ofNat 32 a ||| BitVec.ofNat 32 b = BitVec.ofNat 32 (a ||| b)
  apply BitVec.eq_of_getLsbD_eq
  intro i hi
  simp [hi]
def ci_E (x : Nat) : Nat := x % 2 + x / 2 % 2 * 4 + x / 4 % 2 * 16 + x / 8 % 2 * 64 + x / 16 % 2 * 256 + x / 32 % 2 * 1024
def ci_X (z : Nat) : Nat := z % 2 + z / 4 % 2 * 2 + z / 16 % 2 * 4 + z / 64 % 2 * 8 + z / 256 % 2 * 16 + z / 1024 % 2 * 32
def ci_Y (z : Nat) : Nat := ci_X (z / 2)
def ci_Z (x y : Nat) : Nat := ci_E x + 2 * ci_E y
theorem ci_E_s : ∀ x, x < 63 → ci_E x < ci_E (x + 1) := by decide +kernel
theorem ci_E_mono {x : Nat} : ∀ d, x + d < 64 → ci_E x ≤ ci_E (x + d) := by
  intro d
  induction d with
  | zero => intro _; exact Nat.le_refl _
  | succ d ih => intro h; exact Nat.le_trans (ih (by omega)) (Nat.le_of_lt (ci_E_s (x + d) (by omega)))
theorem ci_XZ : ∀ x, x < 64 → ∀ y, y < 64 → ci_X (ci_Z x y) = x ∧ ci_Y (ci_Z x y) = y ∧ ci_Z x y < 4096 := by decide +kernel
theorem ci_ZX0 : ∀ a, a < 64 → ∀ b, b < 64 → ci_Z (ci_X (a * 64 + b)) (ci_Y (a * 64 + b)) = a * 64 + b := by decide +kernel
theorem ci_ZX {z : Nat} (h : z < 4096) : ci_Z (ci_X z) (ci_Y z) = z := by
  have := ci_ZX0 (z / 64) (by omega) (z % 64) (by omega)
  rwa [show z / 64 * 64 + z % 64 = z from by omega] at this
theorem ci_X_lt (z : Nat) : ci_X z < 64 := by unfold ci_X; omega
theorem ci_Y_lt (z : Nat) : ci_Y z < 64 := ci_X_lt _
theorem ci_Z_mono {a b c d : Nat} (h1 : a ≤ c) (h2 : b ≤ d) (hc : c < 64) (hd : d < 64) : ci_Z a b ≤ ci_Z c d := by
  have e1 := ci_E_mono (x := a) (c - a) (by omega)
  have e2 := ci_E_mono (x := b) (d - b) (by omega)
  rw [show a + (c - a) = c from by omega] at e1
  rw [show b + (d - b) = d from by omega] at e2
  unfold ci_Z; omega
theorem ci_le {a b : Nat} (ha : a < 4096) (hb : b < 4096) (h1 : ci_X a ≤ ci_X b) (h2 : ci_Y a ≤ ci_Y b) : a ≤ b := by
  have := ci_Z_mono h1 h2 (ci_X_lt _) (ci_Y_lt _)
  rwa [ci_ZX ha, ci_ZX hb] at this
def ci_In (l h w : Nat) : Prop := (ci_X l ≤ ci_X w ∧ ci_X w ≤ ci_X h) ∧ (ci_Y l ≤ ci_Y w ∧ ci_Y w ≤ ci_Y h)
theorem ci_In_le {l h w : Nat} (hl : l < 4096) (hh : h < 4096) (hw : w < 4096) (i : ci_In l h w) : l ≤ w ∧ w ≤ h :=
  ⟨ci_le hl hw i.1.1 i.2.1, ci_le hw hh i.1.2 i.2.2⟩
/-! the two halves of a box at a bit -/
def ci_C (b z : Nat) : Nat := if b % 2 = 0 then ci_X z else ci_Y z
def ci_D (b z : Nat) : Nat := if b % 2 = 0 then ci_Y z else ci_X z
theorem ci_In_iff (b l h w : Nat) : ci_In l h w ↔ (ci_C b l ≤ ci_C b w ∧ ci_C b w ≤ ci_C b h) ∧ (ci_D b l ≤ ci_D b w ∧ ci_D b w ≤ ci_D b h) := by
  unfold ci_In ci_C ci_D
  by_cases hb : b % 2 = 0
  · simp only [if_pos hb]
  · simp only [if_neg hb]
    exact And.comm
def ci_u (b : Nat) : Nat := (4 ^ (b / 2) - 1) / 3 * (1 + b % 2)
def ci_lo (l b : Nat) : Nat := (l &&& (ci_u b ^^^ 4294967295)) ||| 2 ^ b
def ci_hi (h b : Nat) : Nat := (h &&& (2 ^ b ^^^ 4294967295)) ||| ci_u b
theorem ci_T0a : ∀ b, b < 12 → ∀ a, a < 64 → ∀ c, c < 64 → (a * 64 + c) / 2 ^ b % 2 = ci_C b (a * 64 + c) / 2 ^ (b / 2) % 2 := by decide +kernel
def ci_t1 (b z : Nat) : Bool := decide (¬ z / 2 ^ b % 2 = 0) || (decide (ci_lo z b < 4096) && (decide (ci_lo z b / 2 ^ b = z / 2 ^ b + 1) && (decide (ci_C b (ci_lo z b) = (ci_C b z / 2 ^ (b / 2) + 1) * 2 ^ (b / 2)) && decide (ci_D b (ci_lo z b) = ci_D b z))))
theorem ci_T1a : ∀ b, b < 12 → ∀ a, a < 64 → ∀ c, c < 64 → ci_t1 b (a * 64 + c) = true := by decide +kernel
def ci_t2 (b z : Nat) : Bool := decide (¬ z / 2 ^ b % 2 = 1) || (decide (ci_hi z b < 4096) && (decide (ci_hi z b / 2 ^ b + 1 = z / 2 ^ b) && (decide (ci_C b (ci_hi z b) + 1 = ci_C b z / 2 ^ (b / 2) * 2 ^ (b / 2)) && decide (ci_D b (ci_hi z b) = ci_D b z))))
theorem ci_T2a : ∀ b, b < 12 → ∀ a, a < 64 → ∀ c, c < 64 → ci_t2 b (a * 64 + c) = true := by decide +kernel
theorem ci_T0 {b z : Nat} (hb : b < 12) (hz : z < 4096) : z / 2 ^ b % 2 = ci_C b z / 2 ^ (b / 2) % 2 := by
  have := ci_T0a b hb (z / 64) (by omega) (z % 64) (by omega)
  rwa [show z / 64 * 64 + z % 64 = z from by omega] at this
theorem ci_T1 {b z : Nat} (hb : b < 12) (hz : z < 4096) : z / 2 ^ b % 2 = 0 → ci_lo z b < 4096 ∧ ci_lo z b / 2 ^ b = z / 2 ^ b + 1 ∧ ci_C b (ci_lo z b) = (ci_C b z / 2 ^ (b / 2) + 1) * 2 ^ (b / 2) ∧ ci_D b (ci_lo z b) = ci_D b z := by
  intro h0
  have t := ci_T1a b hb (z / 64) (by omega) (z % 64) (by omega)
  rw [show z / 64 * 64 + z % 64 = z from by omega] at t
  simp only [ci_t1, Bool.or_eq_true, Bool.and_eq_true, decide_eq_true_eq] at t
  rcases t with t | t
  · exact absurd h0 t
  · exact t
theorem ci_T2 {b z : Nat} (hb : b < 12) (hz : z < 4096) : z / 2 ^ b % 2 = 1 → ci_hi z b < 4096 ∧ ci_hi z b / 2 ^ b + 1 = z / 2 ^ b ∧ ci_C b (ci_hi z b) + 1 = ci_C b z / 2 ^ (b / 2) * 2 ^ (b / 2) ∧ ci_D b (ci_hi z b) = ci_D b z := by
  intro h0
  have t := ci_T2a b hb (z / 64) (by omega) (z % 64) (by omega)
  rw [show z / 64 * 64 + z % 64 = z from by omega] at t
  simp only [ci_t2, Bool.or_eq_true, Bool.and_eq_true, decide_eq_true_eq] at t
  rcases t with t | t
  · exact absurd h0 t
  · exact t
/-- the upper half holds every number of the box with the bit -/
theorem ci_up {b l h w : Nat} (hb : b < 12) (hl : l < 4096) (hw : w < 4096) (l0 : l / 2 ^ b % 2 = 0) (w1 : w / 2 ^ b % 2 = 1) (i : ci_In l h w) : ci_In (ci_lo l b) h w := by
  rw [ci_In_iff b] at i ⊢
  obtain ⟨_, _, e1, e2⟩ := ci_T1 hb hl l0
  rw [ci_T0 hb hl] at l0
  rw [ci_T0 hb hw] at w1
  rw [e1, e2]
  refine ⟨⟨?_, i.1.2⟩, i.2⟩
  have h1 := Nat.div_le_div_right (c := 2 ^ (b / 2)) i.1.1
  have h2 : ci_C b l / 2 ^ (b / 2) + 1 ≤ ci_C b w / 2 ^ (b / 2) := by
    generalize ci_C b l / 2 ^ (b / 2) = s at *
    generalize ci_C b w / 2 ^ (b / 2) = t at *
    omega
  exact Nat.le_trans (Nat.mul_le_mul_right _ h2) (Nat.div_mul_le_self _ _)
/-- the lower half holds every number of the box without the bit -/
theorem ci_dn {b l h w : Nat} (hb : b < 12) (hh : h < 4096) (hw : w < 4096) (h1 : h / 2 ^ b % 2 = 1) (w0 : w / 2 ^ b % 2 = 0) (i : ci_In l h w) : ci_In l (ci_hi h b) w := by
  rw [ci_In_iff b] at i ⊢
  obtain ⟨_, _, e1, e2⟩ := ci_T2 hb hh h1
  rw [ci_T0 hb hh] at h1
  rw [ci_T0 hb hw] at w0
  rw [e2]
  refine ⟨⟨i.1.1, ?_⟩, i.2⟩
  have g1 := Nat.div_le_div_right (c := 2 ^ (b / 2)) i.1.2
  have g2 : ci_C b w / 2 ^ (b / 2) + 1 ≤ ci_C b h / 2 ^ (b / 2) := by
    generalize ci_C b h / 2 ^ (b / 2) = s at *
    generalize ci_C b w / 2 ^ (b / 2) = t at *
    omega
  have g3 : ci_C b w < ci_C b h / 2 ^ (b / 2) * 2 ^ (b / 2) :=
    (Nat.div_lt_iff_lt_mul (Nat.two_pow_pos _)).mp (Nat.lt_of_succ_le g2)
  omega
/-! the search for the next number inside: what holds at its head, c bits still to come -/
theorem ci_dl {a b p : Nat} (h : a / p < b / p) : a < b := Nat.lt_of_not_le (fun g => absurd (Nat.div_le_div_right (c := p) g) (Nat.not_le.mpr h))
theorem ci_dd (a c : Nat) : a / 2 ^ c = 2 * (a / 2 ^ (c + 1)) + a / 2 ^ c % 2 := by
  rw [Nat.pow_succ, ← Nat.div_div_eq_div_mul]
  omega
def ci_NI (B : Nat → Prop) (z l h a c : Nat) : Prop := l < 4096 ∧ h < 4096 ∧ a ≤ 4096 ∧ l / 2 ^ c = z / 2 ^ c ∧ h / 2 ^ c = z / 2 ^ c ∧ z / 2 ^ c < a / 2 ^ c ∧ ∀ w, w < 4096 → B w → z ≤ w → ci_In l h w ∨ a ≤ w
def ci_NR (B : Nat → Prop) (z r : Nat) : Prop := z < r ∧ r ≤ 4096 ∧ ∀ w, w < 4096 → B w → z ≤ w → r ≤ w
theorem ci_N_low {B : Nat → Prop} {z l h a c : Nat} (I : ci_NI B z l h a (c + 1)) (hz : z / 2 ^ c % 2 = 0) (hl : l / 2 ^ c % 2 = 1) : ci_NR B z l := by
  obtain ⟨i1, i2, i3, i4, i5, i6, i7⟩ := I
  have d1 := ci_dd z c
  have d2 := ci_dd l c
  refine ⟨ci_dl (p := 2 ^ c) (by omega), by omega, fun w hw bw zw => ?_⟩
  rcases i7 w hw bw zw with k | k
  · exact (ci_In_le i1 i2 hw k).1
  · have : l < a := ci_dl (p := 2 ^ (c + 1)) (by omega)
    omega
theorem ci_N_ans {B : Nat → Prop} {z l h a c : Nat} (I : ci_NI B z l h a (c + 1)) (hz : z / 2 ^ c % 2 = 1) (hh : h / 2 ^ c % 2 = 0) : ci_NR B z a := by
  obtain ⟨i1, i2, i3, i4, i5, i6, i7⟩ := I
  have d1 := ci_dd z c
  have d2 := ci_dd h c
  refine ⟨ci_dl i6, i3, fun w hw bw zw => ?_⟩
  rcases i7 w hw bw zw with k | k
  · have g := (ci_In_le i1 i2 hw k).2
    have : h < z := ci_dl (p := 2 ^ c) (by omega)
    omega
  · exact k
theorem ci_N_end {B : Nat → Prop} {z l h a : Nat} (I : ci_NI B z l h a 0) (hB : ¬ B z) : ci_NR B z a := by
  obtain ⟨i1, i2, i3, i4, i5, i6, i7⟩ := I
  rw [Nat.pow_zero, Nat.div_one, Nat.div_one] at i4 i5 i6
  refine ⟨i6, i3, fun w hw bw zw => ?_⟩
  rcases i7 w hw bw zw with k | k
  · have g := ci_In_le i1 i2 hw k
    have : w = z := by omega
    rw [this] at bw
    exact absurd bw hB
  · exact k
theorem ci_N_same {B : Nat → Prop} {z l h a c : Nat} (I : ci_NI B z l h a (c + 1)) (h1 : l / 2 ^ c % 2 = z / 2 ^ c % 2) (h2 : h / 2 ^ c % 2 = z / 2 ^ c % 2) : ci_NI B z l h a c := by
  obtain ⟨i1, i2, i3, i4, i5, i6, i7⟩ := I
  have d1 := ci_dd z c
  have d2 := ci_dd h c
  have d3 := ci_dd l c
  have d4 := ci_dd a c
  exact ⟨i1, i2, i3, by omega, by omega, by omega, i7⟩
theorem ci_N_split {B : Nat → Prop} {z l h a c : Nat} (I : ci_NI B z l h a (c + 1)) (hc : c < 12) (hz : z / 2 ^ c % 2 = 0) (hl : l / 2 ^ c % 2 = 0) (hh : h / 2 ^ c % 2 = 1) : ci_NI B z l (ci_hi h c) (ci_lo l c) c := by
  obtain ⟨i1, i2, i3, i4, i5, i6, i7⟩ := I
  have d1 := ci_dd z c
  have d2 := ci_dd h c
  have d3 := ci_dd l c
  have d4 := ci_dd a c
  obtain ⟨e1, e2, e3, e4⟩ := ci_T1 hc i1 hl
  obtain ⟨f1, f2, f3, f4⟩ := ci_T2 hc i2 hh
  refine ⟨i1, f1, by omega, by omega, by omega, by omega, fun w hw bw zw => ?_⟩
  rcases i7 w hw bw zw with k | k
  · by_cases w1 : w / 2 ^ c % 2 = 0
    · exact Or.inl (ci_dn hc i2 hw hh w1 k)
    · exact Or.inr (ci_In_le e1 i2 hw (ci_up hc i1 hw hl (by omega) k)).1
  · refine Or.inr (Nat.le_trans (Nat.le_of_lt (ci_dl (p := 2 ^ (c + 1)) ?_)) k)
    have d5 := ci_dd (ci_lo l c) c
    omega
theorem ci_N_go {B : Nat → Prop} {z l h a c : Nat} (I : ci_NI B z l h a (c + 1)) (hc : c < 12) (hz : z / 2 ^ c % 2 = 1) (hl : l / 2 ^ c % 2 = 0) (hh : h / 2 ^ c % 2 = 1) : ci_NI B z (ci_lo l c) h a c := by
  obtain ⟨i1, i2, i3, i4, i5, i6, i7⟩ := I
  have d1 := ci_dd z c
  have d2 := ci_dd h c
  have d3 := ci_dd l c
  have d4 := ci_dd a c
  obtain ⟨e1, e2, e3, e4⟩ := ci_T1 hc i1 hl
  refine ⟨e1, i2, i3, by omega, by omega, by omega, fun w hw bw zw => ?_⟩
  rcases i7 w hw bw zw with k | k
  · by_cases w1 : w / 2 ^ c % 2 = 0
    · have d5 := ci_dd w c
      have g := ci_In_le i1 i2 hw k
      have g1 := Nat.div_le_div_right (c := 2 ^ (c + 1)) g.1
      have g2 := Nat.div_le_div_right (c := 2 ^ (c + 1)) g.2
      have g3 := Nat.div_le_div_right (c := 2 ^ c) zw
      omega
    · exact Or.inl (ci_up hc i1 hw hl (by omega) k)
  · exact Or.inr k
end
section
/-! lists of numbers, by their places -/
def ci_g : List Nat → Nat → Nat
  | [], _ => 0
  | a :: _, 0 => a
  | _ :: l, j + 1 => ci_g l j
theorem ci_g_l {l m : List Nat} : ∀ {j : Nat}, j < l.length → ci_g (l ++ m) j = ci_g l j := by
  induction l with
  | nil => intro j h; exact absurd h (Nat.not_lt_zero j)
  | cons a l ih =>
    intro j h
    cases j with
    | zero => rfl
    | succ j => exact ih (Nat.lt_of_succ_lt_succ h)
theorem ci_g_r {l m : List Nat} {j : Nat} : ci_g (l ++ m) (l.length + j) = ci_g m j := by
  induction l with
  | nil => rw [List.nil_append, List.length_nil, Nat.zero_add]
  | cons a l ih =>
    rw [List.cons_append, List.length_cons, show l.length + 1 + j = (l.length + j) + 1 from by omega]
    exact ih
theorem ci_g_mem {l : List Nat} : ∀ {j : Nat}, j < l.length → ci_g l j ∈ l := by
  induction l with
  | nil => intro j h; exact absurd h (Nat.not_lt_zero j)
  | cons a l ih =>
    intro j h
    cases j with
    | zero => exact List.mem_cons_self
    | succ j => exact List.mem_cons_of_mem _ (ih (Nat.lt_of_succ_lt_succ h))
theorem ci_mem_g {l : List Nat} {a : Nat} (h : a ∈ l) : ∃ j, j < l.length ∧ ci_g l j = a := by
  induction l with
  | nil => cases h
  | cons b l ih =>
    cases h with
    | head => exact ⟨0, Nat.succ_pos _, rfl⟩
    | tail _ h =>
      obtain ⟨j, h1, h2⟩ := ih h
      exact ⟨j + 1, Nat.succ_lt_succ h1, h2⟩
theorem ci_g_take {l : List Nat} : ∀ {j k : Nat}, j < k → ci_g (l.take k) j = ci_g l j := by
  induction l with
  | nil => intro j k _; rw [List.take_nil]
  | cons a l ih =>
    intro j k h
    cases k with
    | zero => exact absurd h (Nat.not_lt_zero j)
    | succ k =>
      rw [List.take_succ_cons]
      cases j with
      | zero => rfl
      | succ j => exact ih (Nat.lt_of_succ_lt_succ h)
theorem ci_g_drop {l : List Nat} : ∀ {j k : Nat}, ci_g (l.drop k) j = ci_g l (k + j) := by
  induction l with
  | nil => intro j k; rw [List.drop_nil]; rfl
  | cons a l ih =>
    intro j k
    cases k with
    | zero => rw [List.drop_zero, Nat.zero_add]
    | succ k =>
      rw [List.drop_succ_cons, show k + 1 + j = (k + j) + 1 from by omega]
      exact ih
theorem ci_take_s {l : List Nat} : ∀ {k : Nat}, k < l.length → l.take (k + 1) = l.take k ++ [ci_g l k] := by
  induction l with
  | nil => intro k h; exact absurd h (Nat.not_lt_zero k)
  | cons a l ih =>
    intro k h
    cases k with
    | zero => rfl
    | succ k =>
      rw [List.take_succ_cons, List.take_succ_cons, ih (Nat.lt_of_succ_lt_succ h)]
      rfl
theorem ci_drop_c {l : List Nat} : ∀ {k : Nat}, k < l.length → l.drop k = ci_g l k :: l.drop (k + 1) := by
  induction l with
  | nil => intro k h; exact absurd h (Nat.not_lt_zero k)
  | cons a l ih =>
    intro k h
    cases k with
    | zero => rfl
    | succ k =>
      rw [List.drop_succ_cons, List.drop_succ_cons, ih (Nat.lt_of_succ_lt_succ h)]
      rfl
theorem ci_g_map {l : List Nat} (f : Nat → Nat) : ∀ {j : Nat}, j < l.length → ci_g (l.map f) j = f (ci_g l j) := by
  induction l with
  | nil => intro j h; exact absurd h (Nat.not_lt_zero j)
  | cons a l ih =>
    intro j h
    cases j with
    | zero => rfl
    | succ j => exact ih (Nat.lt_of_succ_lt_succ h)
/-- a list with p put in at place k, and one with its place k taken out -/
def ci_ins (l : List Nat) (k p : Nat) : List Nat := l.take k ++ p :: l.drop k
def ci_del (l : List Nat) (k : Nat) : List Nat := l.take k ++ l.drop (k + 1)
theorem ci_ins_len {l : List Nat} {k p : Nat} (h : k ≤ l.length) : (ci_ins l k p).length = l.length + 1 := by
  unfold ci_ins
  rw [List.length_append, List.length_cons, List.length_take_of_le h, List.length_drop]
  omega
theorem ci_del_len {l : List Nat} {k : Nat} (h : k < l.length) : (ci_del l k).length = l.length - 1 := by
  unfold ci_del
  rw [List.length_append, List.length_take_of_le (Nat.le_of_lt h), List.length_drop]
  omega
theorem ci_ins_lt {l : List Nat} {k p j : Nat} (h : k ≤ l.length) (hj : j < k) : ci_g (ci_ins l k p) j = ci_g l j := by
  unfold ci_ins
  rw [ci_g_l (by rw [List.length_take_of_le h]; exact hj), ci_g_take hj]
theorem ci_ins_eq {l : List Nat} {k p : Nat} (h : k ≤ l.length) : ci_g (ci_ins l k p) k = p := by
  unfold ci_ins
  have e : ci_g (l.take k ++ p :: l.drop k) ((l.take k).length + 0) = ci_g (p :: l.drop k) 0 := ci_g_r
  rw [List.length_take_of_le h] at e
  exact e
theorem ci_ins_gt {l : List Nat} {k p j : Nat} (h : k ≤ l.length) (hj : k ≤ j) : ci_g (ci_ins l k p) (j + 1) = ci_g l j := by
  unfold ci_ins
  have e : ci_g (l.take k ++ p :: l.drop k) ((l.take k).length + ((j - k) + 1)) = ci_g (p :: l.drop k) ((j - k) + 1) := ci_g_r
  rw [List.length_take_of_le h, show k + ((j - k) + 1) = j + 1 from by omega] at e
  rw [e]
  show ci_g (l.drop k) (j - k) = _
  rw [ci_g_drop, show k + (j - k) = j from by omega]
theorem ci_del_lt {l : List Nat} {k j : Nat} (h : k < l.length) (hj : j < k) : ci_g (ci_del l k) j = ci_g l j := by
  unfold ci_del
  rw [ci_g_l (by rw [List.length_take_of_le (Nat.le_of_lt h)]; exact hj), ci_g_take hj]
theorem ci_del_ge {l : List Nat} {k j : Nat} (h : k < l.length) (hj : k ≤ j) : ci_g (ci_del l k) j = ci_g l (j + 1) := by
  unfold ci_del
  have e : ci_g (l.take k ++ l.drop (k + 1)) ((l.take k).length + (j - k)) = ci_g (l.drop (k + 1)) (j - k) := ci_g_r
  rw [List.length_take_of_le (Nat.le_of_lt h), show k + (j - k) = j from by omega] at e
  rw [e, ci_g_drop, show k + 1 + (j - k) = j + 1 from by omega]
theorem ci_ins_perm (l : List Nat) (k p : Nat) : (ci_ins l k p).Perm (p :: l) := by
  have e : (l.take k ++ p :: l.drop k).Perm (p :: (l.take k ++ l.drop k)) := List.perm_middle
  rw [List.take_append_drop] at e
  exact e
theorem ci_del_perm {l : List Nat} {k : Nat} (h : k < l.length) : l.Perm (ci_g l k :: ci_del l k) := by
  have e : (l.take k ++ ci_g l k :: l.drop (k + 1)).Perm (ci_g l k :: (l.take k ++ l.drop (k + 1))) := List.perm_middle
  rw [← ci_drop_c h, List.take_append_drop] at e
  exact e
/-! order by places -/
def ci_S (l : List Nat) : Prop := ∀ i j, i < j → j < l.length → ci_g l i < ci_g l j
theorem ci_S_ins {l : List Nat} {k p : Nat} (h : k ≤ l.length) (s : ci_S l) (h1 : ∀ j, j < k → ci_g l j < p) (h2 : ∀ j, k ≤ j → j < l.length → p < ci_g l j) : ci_S (ci_ins l k p) := by
  intro i j hij hj
  rw [ci_ins_len h] at hj
  rcases Nat.lt_trichotomy j k with c | c | c
  · rw [ci_ins_lt h c, ci_ins_lt h (by omega)]
    exact s i j hij (by omega)
  · subst c
    rw [ci_ins_eq h, ci_ins_lt h hij]
    exact h1 i hij
  · obtain ⟨j', rfl⟩ : ∃ j', j = j' + 1 := ⟨j - 1, by omega⟩
    rw [ci_ins_gt h (by omega)]
    rcases Nat.lt_trichotomy i k with d | d | d
    · rw [ci_ins_lt h d]
      exact s i j' (by omega) (by omega)
    · subst d
      rw [ci_ins_eq h]
      exact h2 j' (by omega) (by omega)
    · obtain ⟨i', rfl⟩ : ∃ i', i = i' + 1 := ⟨i - 1, by omega⟩
      rw [ci_ins_gt h (by omega)]
      exact s i' j' (by omega) (by omega)
theorem ci_S_del {l : List Nat} {k : Nat} (h : k < l.length) (s : ci_S l) : ci_S (ci_del l k) := by
  intro i j hij hj
  rw [ci_del_len h] at hj
  rcases Nat.lt_or_ge j k with c | c
  · rw [ci_del_lt h c, ci_del_lt h (by omega)]
    exact s i j hij (by omega)
  · rw [ci_del_ge h c]
    rcases Nat.lt_or_ge i k with d | d
    · rw [ci_del_lt h d]
      exact s i (j + 1) (by omega) (by omega)
    · rw [ci_del_ge h d]
      exact s (i + 1) (j + 1) (by omega) (by omega)
theorem ci_fil_take {l : List Nat} {p : Nat → Bool} {a : Nat} : ∀ d, a + d ≤ l.length → (∀ j, a ≤ j → j < a + d → p (ci_g l j) = false) → (l.take (a + d)).filter p = (l.take a).filter p := by
  intro d
  induction d with
  | zero => intro _ _; rfl
  | succ d ih =>
    intro h1 h2
    rw [show a + (d + 1) = (a + d) + 1 from by omega, ci_take_s (by omega), List.filter_append, ih (by omega) (fun j c1 c2 => h2 j c1 (by omega))]
    have e : [ci_g l (a + d)].filter p = [] := by
      rw [List.filter_cons_of_neg (by rw [h2 (a + d) (by omega) (by omega)]; exact Bool.false_ne_true)]
      rfl
    rw [e, List.append_nil]
theorem ci_fil_s {l : List Nat} {p : Nat → Bool} {k : Nat} (h : k < l.length) (t : p (ci_g l k) = true) : (l.take (k + 1)).filter p = (l.take k).filter p ++ [ci_g l k] := by
  rw [ci_take_s h, List.filter_append, List.filter_cons_of_pos t]
  rfl
theorem ci_fil_n {l : List Nat} {p : Nat → Bool} {k : Nat} (h : k < l.length) (t : p (ci_g l k) = false) : (l.take (k + 1)).filter p = (l.take k).filter p := by
  rw [ci_take_s h, List.filter_append, List.filter_cons_of_neg (by rw [t]; exact Bool.false_ne_true)]
  exact List.append_nil _
/-! arrays that hold lists -/
def ci_R (f : Nat → Int32) (l : List Nat) : Prop := ∀ j, j < l.length → f j = nI (ci_g l j)
theorem ci_R_snoc {f : Nat → Int32} {l : List Nat} {x : Nat} (h : ci_R f l) : ci_R (upd f l.length (nI x)) (l ++ [x]) := by
  intro j hj
  rw [List.length_append] at hj
  have hj : j < l.length + 1 := hj
  by_cases c : j = l.length
  · subst c
    rw [pk_us]
    have e : ci_g (l ++ [x]) (l.length + 0) = ci_g [x] 0 := ci_g_r
    exact congrArg nI e.symm
  · rw [pk_un c, ci_g_l (by omega)]
    exact h j (by omega)
/-! the points that are there, in their order -/
def ci_pts (us : Nat → Int32) : List Nat := (List.range 40).filter (fun i => decide (¬ us i = 0))
theorem ci_mem_pts {us : Nat → Int32} {i : Nat} : i ∈ ci_pts us ↔ i < 40 ∧ ¬ us i = 0 := by
  unfold ci_pts
  rw [List.mem_filter, List.mem_range, decide_eq_true_iff]
theorem ci_pts_nd (us : Nat → Int32) : (ci_pts us).Nodup := List.Nodup.sublist List.filter_sublist List.nodup_range
theorem ci_pts_len (us : Nat → Int32) : (ci_pts us).length ≤ 40 := by
  have := List.length_filter_le (fun i => decide (¬ us i = 0)) (List.range 40)
  rw [List.length_range] at this
  exact this
theorem ci_fil_one {f f' : Nat → Bool} {i : Nat} (h1 : f i = false) (h2 : f' i = true) (h : ∀ j, j ≠ i → f' j = f j) : ∀ n, i < n → ((List.range n).filter f').Perm (i :: (List.range n).filter f) := by
  intro n
  induction n with
  | zero => intro c; exact absurd c (Nat.not_lt_zero i)
  | succ n ih =>
    intro c
    rw [List.range_succ, List.filter_append, List.filter_append]
    by_cases e : i = n
    · subst e
      have e1 : (List.range i).filter f' = (List.range i).filter f := List.filter_congr (fun j hj => h j (Nat.ne_of_lt (List.mem_range.mp hj)))
      have e2 : [i].filter f' = [i] := by rw [List.filter_cons_of_pos h2]; rfl
      have e3 : [i].filter f = [] := by rw [List.filter_cons_of_neg (by rw [h1]; exact Bool.false_ne_true)]; rfl
      rw [e1, e2, e3, List.append_nil]
      exact List.perm_append_singleton _ _
    · have e1 : [n].filter f' = [n].filter f := List.filter_congr (fun j hj => h j (by rw [List.mem_singleton] at hj; omega))
      rw [e1]
      exact (ih (by omega)).append_right _
theorem ci_pts_on {us : Nat → Int32} {i : Nat} {x : Int32} (hi : i < 40) (h0 : us i = 0) (hx : ¬ x = 0) : (ci_pts (upd us i x)).Perm (i :: ci_pts us) := by
  refine ci_fil_one ?_ ?_ ?_ 40 hi
  · exact decide_eq_false (fun c => c h0)
  · rw [pk_us]; exact decide_eq_true hx
  · intro j hj
    rw [pk_un hj]
theorem ci_pts_off {us : Nat → Int32} {i : Nat} (hi : i < 40) (h0 : ¬ us i = 0) : (ci_pts us).Perm (i :: ci_pts (upd us i 0)) := by
  refine ci_fil_one ?_ ?_ ?_ 40 hi
  · rw [pk_us]; exact decide_eq_false (fun c => c rfl)
  · exact decide_eq_true h0
  · intro j hj
    rw [pk_un hj]
end
section
/-! the state's picture: places, keys -/
def ci_A (P : Nat → Nat) (xs ys : Nat → Int32) : Prop := ∀ i, P i < 4096 ∧ xs i = nI (P i % 64) ∧ ys i = nI (P i / 64)
def ci_key (P : Nat → Nat) (i : Nat) : Nat := ci_Z (P i % 64) (P i / 64) * 64 + i
def ci_K (ks : List Nat) (cn : Int32) (ke : Nat → Int32) : Prop := cn = nI ks.length ∧ ks.length ≤ 40 ∧ ci_S ks ∧ ci_R ke ks ∧ ∀ k, k ∈ ks → k < 262144
theorem ci_key_lt {P : Nat → Nat} {i : Nat} (hp : P i < 4096) (hi : i < 40) : ci_key P i < 262144 := by
  have := (ci_XZ (P i % 64) (by omega) (P i / 64) (by omega)).2.2
  unfold ci_key
  omega
theorem ci_key_z {P : Nat → Nat} {i : Nat} (hi : i < 40) : ci_key P i / 64 = ci_Z (P i % 64) (P i / 64) := by
  unfold ci_key
  omega
theorem ci_key_i {P : Nat → Nat} {i : Nat} (hi : i < 40) : ci_key P i % 64 = i := by
  unfold ci_key
  omega
theorem ci_m64 (a i : Nat) : nI a * 64 + nI i = nI (a * 64 + i) := by
  show nI a * nI 64 + nI i = _
  rw [pk_mul, nI_add]
theorem ci_t64 (a : Nat) : nI a * 64 = nI (a * 64) := pk_mul a 64
theorem ci_bit {x b : Nat} (hx : x < 2 ^ 31) (hb : b < 32) : (nI x >>> (nI b &&& 31)) &&& 1 = nI (x / 2 ^ b % 2) := by
  have h2 : x / 2 ^ b ≤ x := Nat.div_le_self _ _
  rw [pk_shrN hx _ b (s_l b hb)]
  exact pk_andN (n := x / 2 ^ b) (by omega) (m := 1) 1 (by decide)
theorem ci_shl {x k : Nat} (hx : x ≤ 1) (hk : k < 12) : nI x <<< (nI k &&& 31) = nI (x * 2 ^ k) :=
  pk_shlN _ k (s_l k (by omega)) (Nat.lt_of_le_of_lt (Nat.mul_le_mul hx (Nat.pow_le_pow_right (by decide) (Nat.le_of_lt_succ hk))) (by decide))
theorem cx_bad1 {post : Int32 → Prop} {x : Int32} (h : x < 0 ∨ nI 4096 ≤ x) (hp : post 1) : wpX_bad post x := by
  unfold wpX_bad
  rcases h with h | h
  · exact br_t h hp
  · exact br_f (Int32.not_lt.mpr (Int32.le_trans (nI_pos' (n := 4096) (by decide)) h)) (br_f (Int32.not_lt.mpr h) hp)
theorem cx_bad0 {post : Int32 → Prop} {p : Nat} (h : p < 4096) (hp : post 0) : wpX_bad post (nI p) := by
  unfold wpX_bad
  exact br_f (nI_pos (by omega)) (br_t (nI_lt (b := 4096) h (by decide)) hp)
/-! interleave -/
def ci_Zp (x y : Nat) : Nat → Nat
  | 0 => 0
  | b + 1 => ci_Zp x y b ||| ((x / 2 ^ b % 2) * 2 ^ (2 * b) ||| (y / 2 ^ b % 2) * 2 ^ (2 * b + 1))
theorem ci_Zp_6 : ∀ x, x < 64 → ∀ y, y < 64 → ci_Zp x y 6 = ci_Z x y := by decide +kernel
theorem cx_interleave_4 {post : Int32 → Prop} {x y : Nat} (hx : x < 64) (hy : y < 64) (h : post (nI (ci_Z x y))) : ∀ d b, b + d = 6 → wX_interleave_4 post (nI x) (nI y) (d + 1) (nI (ci_Zp x y b)) (nI b) := by
  intro d
  induction d with
  | zero =>
    intro b hb
    have hb : b = 6 := hb
    subst hb
    rw [ci_Zp_6 x hx y hy]
    exact br_t (by decide) h
  | succ d ih =>
    intro b hb
    refine br_f (nI_ge (a := b) (b := 6) (by omega) (by decide)) (nm_r (e' := nI (ci_Zp x y (b + 1))) ?_ (nm_r (nI_1 b) (ih (b + 1) (by omega))))
    have e1 : (2 : Int32) * nI b = nI (2 * b) := pk_mul 2 b
    rw [e1, nI_1, ci_bit (by omega) (by omega), ci_bit (by omega) (by omega), ci_shl (by omega) (by omega), ci_shl (by omega) (by omega), ci_or, ci_or]
    rfl
theorem cx_interleave {post : Int32 → Prop} {x y : Nat} (hx : x < 64) (hy : y < 64) (h : post (nI (ci_Z x y))) : wpX_interleave post (nI x) (nI y) :=
  ⟨7, cx_interleave_4 hx hy h 6 0 rfl⟩
section
variable {cn le mo x0 x1 y0 y1 fo : Int32} {us xs ys la ke ins : Nat → Int32} {P : Nat → Nat} {ks : List Nat}
theorem cx_noPoint1 {post : Int32 → Prop} {x : Int32} (h : x < 0 ∨ nI 40 ≤ x) (hp : post 1) : wpX_noPoint post (cn, le, mo, x0, x1, y0, y1, fo, us, xs, ys, la, ke, ins) x := by
  unfold wpX_noPoint
  rcases h with h | h
  · exact br_t h hp
  · exact br_f (Int32.not_lt.mpr (Int32.le_trans (nI_pos' (n := 40) (by decide)) h)) (br_t h hp)
theorem cx_noPointU {post : Int32 → Prop} {i : Nat} (hi : i < 40) (h : us i = 0) (hp : post 1) : wpX_noPoint post (cn, le, mo, x0, x1, y0, y1, fo, us, xs, ys, la, ke, ins) (nI i) := by
  unfold wpX_noPoint
  exact br_f (nI_pos (by omega)) (br_f (nI_ge (b := 40) hi (by decide)) ⟨vp_in_nI hi (by decide), br_t (by rw [nI_clamp (by omega)]; exact h) hp⟩)
theorem cx_noPoint0 {post : Int32 → Prop} {i : Nat} (hi : i < 40) (h : ¬ us i = 0) (hp : post 0) : wpX_noPoint post (cn, le, mo, x0, x1, y0, y1, fo, us, xs, ys, la, ke, ins) (nI i) := by
  unfold wpX_noPoint
  exact br_f (nI_pos (by omega)) (br_f (nI_ge (b := 40) hi (by decide)) ⟨vp_in_nI hi (by decide), br_f (by rw [nI_clamp (by omega)]; exact h) hp⟩)
theorem cx_keyOf {post : Int32 → Prop} {i : Nat} (hA : ci_A P xs ys) (hi : i < 40) (h : post (nI (ci_key P i))) : wpX_keyOf post (cn, le, mo, x0, x1, y0, y1, fo, us, xs, ys, la, ke, ins) (nI i) := by
  unfold wpX_keyOf
  have hp := (hA i).1
  refine ⟨vp_in_nI hi (by decide), vp_in_nI hi (by decide), ?_⟩
  rw [nI_clamp (by omega), (hA i).2.1, (hA i).2.2]
  refine cx_interleave (by omega) (by omega) ?_
  rw [ci_m64]
  exact h
theorem cx_seek_7 {post : Int32 → Prop} {k : Nat} (hK : ci_K ks cn ke) (hk : k < 2 ^ 31) (h : ∀ q, q ≤ ks.length → (∀ j, j < q → ci_g ks j < k) → (∀ j, q ≤ j → j < ks.length → k ≤ ci_g ks j) → post (nI q)) : ∀ n lo hi, hi - lo < n → lo ≤ hi → hi ≤ ks.length → (∀ j, j < lo → ci_g ks j < k) → (∀ j, hi ≤ j → j < ks.length → k ≤ ci_g ks j) → wX_seek_7 post (nI k) cn le mo x0 x1 y0 y1 fo us xs ys la ke ins n (nI lo) (nI hi) := by
  obtain ⟨_, hl, hS, hR, hB⟩ := hK
  intro n
  induction n with
  | zero => intro lo hi h1; omega
  | succ n ih =>
    intro lo hi h1 h2 h3 h4 h5
    by_cases c : hi ≤ lo
    · have e : hi = lo := by omega
      subst e
      exact br_t (nI_le c (by omega)) (h hi h3 h4 h5)
    · have hm1 : (lo + hi) / 2 < hi := by omega
      have hm0 : lo ≤ (lo + hi) / 2 := by omega
      have e : (nI lo + nI hi) / 2 = nI ((lo + hi) / 2) := by
        show (nI lo + nI hi) / nI 2 = _
        rw [nI_add, pk_div (by omega) (by decide) (by decide)]
      generalize (lo + hi) / 2 = m at *
      have hy : ke (nI m).toNatClampNeg = nI (ci_g ks m) := by
        rw [nI_clamp (by omega)]
        exact hR m (by omega)
      have hb := hB _ (ci_g_mem (l := ks) (j := m) (by omega))
      refine br_f (nI_ge (by omega) (by omega)) ⟨by decide, nm_r e ⟨vp_in_nI (by omega) (by decide), pk_le k (ci_g ks m) (fun c1 => ?_) (fun c1 => nm_r (nI_1 m) ?_) rfl hy hk (by omega)⟩⟩
      · refine ih lo m (by omega) hm0 (by omega) h4 (fun j g1 g2 => ?_)
        by_cases d : j = m
        · subst d; exact c1
        · have := hS m j (by omega) g2
          omega
      · refine ih (m + 1) hi (by omega) (by omega) h3 (fun j g1 => ?_) h5
        by_cases d : j = m
        · subst d; exact c1
        · have := hS j m (by omega) (by omega)
          omega
theorem cx_seek {post : Int32 → Prop} {k : Nat} (hK : ci_K ks cn ke) (hk : k < 2 ^ 31) (h : ∀ q, q ≤ ks.length → (∀ j, j < q → ci_g ks j < k) → (∀ j, q ≤ j → j < ks.length → k ≤ ci_g ks j) → post (nI q)) : wpX_seek post (cn, le, mo, x0, x1, y0, y1, fo, us, xs, ys, la, ke, ins) (nI k) := by
  unfold wpX_seek
  have e := hK.1
  refine ⟨ks.length + 1, ?_⟩
  have := cx_seek_7 (le := le) (mo := mo) (x0 := x0) (x1 := x1) (y0 := y0) (y1 := y1) (fo := fo) (us := us) (xs := xs) (ys := ys) (la := la) (ins := ins) hK hk h (ks.length + 1) 0 ks.length (by omega) (by omega) (by omega) (fun j c => absurd c (Nat.not_lt_zero j)) (fun j c1 c2 => by omega)
  rw [← e] at this
  exact this
theorem cx_insert_18 {post : SX → Prop} {key q : Nat} (hq : q ≤ ks.length) (hl : ks.length < 40) (h : ∀ ke', ci_R ke' (ci_ins ks q key) → post (nI (ks.length + 1), le, mo, x0, x1, y0, y1, fo, us, xs, ys, la, ke', ins)) : ∀ d i (ke : Nat → Int32), i = q + d → i ≤ ks.length → (∀ j, j < i → ke j = nI (ci_g ks j)) → (∀ j, i ≤ j → j < ks.length → ke (j + 1) = nI (ci_g ks j)) → wX_insert_18 post (nI key) (nI q) (nI ks.length) le mo x0 x1 y0 y1 fo (d + 1) (nI i) us xs ys la ke ins := by
  intro d
  induction d with
  | zero =>
    intro i ke h1 h2 h3 h4
    have h1 : i = q := h1
    subst h1
    refine br_t (nI_le (Nat.le_refl _) (by omega)) ⟨vp_in_nI (by omega) (by decide), nm_r (e' := upd ke i (nI key)) (by rw [nI_clamp (by omega)]) (nm_r (nI_1 _) (h _ ?_))⟩
    intro j hj
    rw [ci_ins_len hq] at hj
    rcases Nat.lt_trichotomy j i with c | c | c
    · rw [pk_un (by omega), ci_ins_lt hq c]
      exact h3 j c
    · subst c
      rw [pk_us, ci_ins_eq hq]
    · obtain ⟨j', rfl⟩ : ∃ j', j = j' + 1 := ⟨j - 1, by omega⟩
      rw [pk_un (by omega), ci_ins_gt hq (by omega)]
      exact h4 j' (by omega) (by omega)
  | succ d ih =>
    intro i ke h1 h2 h3 h4
    obtain ⟨i', rfl⟩ : ∃ i', i = i' + 1 := ⟨i - 1, by omega⟩
    refine br_f (nI_ge (by omega) (by omega)) ⟨by rw [nI_pred]; exact vp_in_nI (by omega) (by decide), vp_in_nI (by omega) (by decide), nm_r (e' := upd ke (i' + 1) (nI (ci_g ks i'))) (by rw [nI_pred, nI_clamp (by omega), nI_clamp (by omega), h3 i' (by omega)]) (nm_r (pk_m1 i') (ih i' _ (by omega) (by omega) ?_ ?_))⟩
    · intro j hj
      rw [pk_un (by omega)]
      exact h3 j (by omega)
    · intro j g1 g2
      by_cases c : j = i'
      · subst c
        rw [pk_us]
      · rw [pk_un (by omega)]
        exact h4 j (by omega) g2
theorem cx_insert {post : SX → Prop} {i : Nat} (hA : ci_A P xs ys) (hK : ci_K ks cn ke) (hl : ks.length < 40) (hi : i < 40) (hn : ¬ ci_key P i ∈ ks) (h : ∀ ks' cn' ke', ci_K ks' cn' ke' → ks'.Perm (ci_key P i :: ks) → post (cn', le, mo, x0, x1, y0, y1, fo, us, xs, ys, la, ke', ins)) : wpX_insert post (cn, le, mo, x0, x1, y0, y1, fo, us, xs, ys, la, ke, ins) (nI i) := by
  have hb := ci_key_lt (hA i).1 hi
  unfold wpX_insert
  refine cx_keyOf hA hi ?_
  refine cx_seek hK (by omega) ?_
  intro q hq h1 h2
  obtain ⟨e, h0, hS, hR, hB⟩ := hK
  subst e
  refine ⟨_, cx_insert_18 (key := ci_key P i) hq hl (fun ke' hR' => h (ci_ins ks q (ci_key P i)) _ ke' ⟨?_, ?_, ?_, hR', ?_⟩ (ci_ins_perm _ _ _)) (ks.length - q) ks.length ke (by omega) (Nat.le_refl _) hR (fun j c1 c2 => by omega)⟩
  · rw [ci_ins_len hq]
  · rw [ci_ins_len hq]; omega
  · refine ci_S_ins hq hS h1 (fun j c1 c2 => ?_)
    have d1 := h2 j c1 c2
    have d2 : ¬ ci_g ks j = ci_key P i := fun c => hn (c ▸ ci_g_mem c2)
    omega
  · intro k hk
    have hk := (ci_ins_perm ks q (ci_key P i)).mem_iff.mp hk
    rcases List.mem_cons.mp hk with c | c
    · rw [c]; exact hb
    · exact hB k c
theorem cx_take_25 {post : SX → Prop} {q m : Nat} (hm : ks.length = m + 1) (hq : q ≤ m) (hl : m < 40) (h : ∀ ke', ci_R ke' (ci_del ks q) → post (nI m, le, mo, x0, x1, y0, y1, fo, us, xs, ys, la, ke', ins)) : ∀ d i (ke : Nat → Int32), i + d = m → q ≤ i → (∀ j, j < q → ke j = nI (ci_g ks j)) → (∀ j, q ≤ j → j < i → ke j = nI (ci_g ks (j + 1))) → (∀ j, i ≤ j → j ≤ m → ke j = nI (ci_g ks j)) → wX_take_25 post (nI m) le mo x0 x1 y0 y1 fo (d + 1) (nI i) us xs ys la ke ins := by
  intro d
  induction d with
  | zero =>
    intro i ke h1 h2 h3 h4 h5
    have h1 : i = m := h1
    subst h1
    refine br_t (nI_le (Nat.le_refl _) (by omega)) (h _ ?_)
    intro j hj
    rw [ci_del_len (by omega)] at hj
    rcases Nat.lt_or_ge j q with c | c
    · rw [ci_del_lt (by omega) c]
      exact h3 j c
    · rw [ci_del_ge (by omega) c]
      exact h4 j c (by omega)
  | succ d ih =>
    intro i ke h1 h2 h3 h4 h5
    refine br_f (nI_ge (by omega) (by omega)) ⟨by rw [nI_1]; exact vp_in_nI (by omega) (by decide), vp_in_nI (by omega) (by decide), nm_r (e' := upd ke i (nI (ci_g ks (i + 1)))) (by rw [nI_1, nI_clamp (by omega), nI_clamp (by omega), h5 (i + 1) (by omega) (by omega)]) (nm_r (nI_1 i) (ih (i + 1) _ (by omega) (by omega) ?_ ?_ ?_))⟩
    · intro j hj
      rw [pk_un (by omega)]
      exact h3 j hj
    · intro j g1 g2
      by_cases c : j = i
      · subst c
        rw [pk_us]
      · rw [pk_un c]
        exact h4 j g1 (by omega)
    · intro j g1 g2
      rw [pk_un (by omega)]
      exact h5 j (by omega) g2
theorem cx_take {post : SX → Prop} {i : Nat} (hA : ci_A P xs ys) (hK : ci_K ks cn ke) (hi : i < 40) (hn : ci_key P i ∈ ks) (h : ∀ ks' cn' ke', ci_K ks' cn' ke' → ks.Perm (ci_key P i :: ks') → post (cn', le, mo, x0, x1, y0, y1, fo, us, xs, ys, la, ke', ins)) : wpX_take post (cn, le, mo, x0, x1, y0, y1, fo, us, xs, ys, la, ke, ins) (nI i) := by
  have hb := ci_key_lt (hA i).1 hi
  unfold wpX_take
  refine cx_keyOf hA hi ?_
  refine cx_seek hK (by omega) ?_
  intro q hq h1 h2
  obtain ⟨e, h0, hS, hR, hB⟩ := hK
  obtain ⟨j0, g1, g2⟩ := ci_mem_g hn
  have hq0 : q = j0 := by
    rcases Nat.lt_trichotomy q j0 with c | c | c
    · have d1 := hS q j0 c g1
      have d2 := h2 q (Nat.le_refl _) (by omega)
      omega
    · exact c
    · have d1 := h1 j0 c
      omega
  subst hq0
  obtain ⟨m, hm⟩ : ∃ m, ks.length = m + 1 := ⟨ks.length - 1, by omega⟩
  refine nm_r (e' := nI m) (by rw [e, hm, nI_pred]) ?_
  refine ⟨_, cx_take_25 (q := q) hm (by omega) (by omega) (fun ke' hR' => h (ci_del ks q) _ ke' ⟨?_, ?_, ci_S_del g1 hS, hR', ?_⟩ ?_) (m - q) q ke (by omega) (Nat.le_refl _) (fun j c => hR j (by omega)) (fun j c1 c2 => by omega) (fun j c1 c2 => hR j (by omega))⟩
  · rw [ci_del_len g1, hm, Nat.add_sub_cancel]
  · rw [ci_del_len g1]; omega
  · intro k hk
    exact hB k ((ci_del_perm g1).mem_iff.mpr (List.mem_cons_of_mem _ hk))
  · have := ci_del_perm g1
    rw [g2] at this
    exact this
end
end
section
/-! boxes -/
def ci_mn (a b : Nat) : Nat := if b ≤ a then b else a
def ci_mx (a b : Nat) : Nat := if b ≤ a then a else b
theorem ci_mn_lt {a b n : Nat} (ha : a < n) (hb : b < n) : ci_mn a b < n := by
  unfold ci_mn; split <;> assumption
theorem ci_mx_lt {a b n : Nat} (ha : a < n) (hb : b < n) : ci_mx a b < n := by
  unfold ci_mx; split <;> assumption
theorem ci_m2 (n : Nat) : nI (n + 2) + (-2) = nI n := by
  rw [← nI_add n 2, Int32.add_assoc, show nI 2 + (-2) = (0 : Int32) from by decide, Int32.add_zero]
theorem ci_x6 {a : Nat} (ha : a < 4096) : nI a &&& 63 = nI (a % 64) := pk_andN (n := a) (by omega) (m := 63) 6 (by decide)
theorem ci_y6 {a : Nat} (ha : a < 2 ^ 31) : nI a >>> ((6 : Int32) &&& 31) = nI (a / 64) := pk_shrN ha _ 6 (by decide)
theorem ci_k6 {a : Nat} (ha : a < 262144) : nI a &&& 63 = nI (a % 64) := pk_andN (n := a) (by omega) (m := 63) 6 (by decide)
theorem cx_clampS {post : Int32 → Prop} {x r : Nat} (hx : x < 64) (hr : r ≤ 90) (h : post (nI (x - r))) : wpX_clamp post (nI x - nI r) := by
  unfold wpX_clamp
  by_cases c : r ≤ x
  · rw [pk_sub c]
    exact br_t (nI_pos' (by omega)) (br_t (nI_le (b := 63) (by omega) (by decide)) h)
  · have e : x - r = 0 := by omega
    rw [e] at h
    exact br_f (Int32.not_le.mpr (pk_sneg (by omega) (by omega))) h
theorem cx_clampA {post : Int32 → Prop} {x r : Nat} (hx : x < 64) (hr : r ≤ 90) (h : post (nI (if x + r ≤ 63 then x + r else 63))) : wpX_clamp post (nI x + nI r) := by
  unfold wpX_clamp
  rw [nI_add]
  refine br_t (nI_pos' (by omega)) ?_
  by_cases c : x + r ≤ 63
  · rw [if_pos c] at h
    exact br_t (nI_le (b := 63) c (by decide)) h
  · rw [if_neg c] at h
    exact br_f (nI_ge (a := 63) (by omega) (by omega)) h
/-! lower bits -/
theorem ci_u_a : ∀ j, j < 12 → (j < 2 → ci_u (j + 2) = 2 ^ j) ∧ (¬ j < 2 → ci_u (j + 2) = 2 ^ j ||| ci_u j) := by decide +kernel
theorem ci_u_0 : ∀ j, j < 2 → ci_u j = 0 := by decide
theorem ci_sh1 {k : Nat} (hk : k < 12) : (1 : Int32) <<< (nI k &&& 31) = nI (2 ^ k) := by
  have := ci_shl (x := 1) (Nat.le_refl 1) hk
  rw [Nat.one_mul] at this
  exact this
theorem ci_neg2 : ∀ j, j < 2 → nI j + (-2) < 0 := by decide
theorem ci_neg2' : ∀ j, j < 2 → nI j - 2 < 0 := by decide
theorem cx_lowerBits_6 {post : Int32 → Prop} : ∀ j, j < 12 → ∀ s, post (nI (s ||| ci_u (j + 2))) → wX_lowerBits_6 post (j / 2 + 2) (nI s) (nI j) := by
  intro j
  induction j using Nat.strongRecOn with
  | ind j ih =>
    intro hj s h
    refine br_f (nI_pos (by omega)) (nm_r (e' := nI (s ||| 2 ^ j)) (by rw [ci_sh1 hj, ci_or]) ?_)
    by_cases c : j < 2
    · rw [(ci_u_a j hj).1 c] at h
      have e : j / 2 = 0 := by omega
      rw [e]
      exact nm_e (br_t (ci_neg2 j c) h)
    · rw [(ci_u_a j hj).2 c, ← Nat.or_assoc] at h
      obtain ⟨i, rfl⟩ : ∃ i, j = i + 2 := ⟨j - 2, by omega⟩
      have e : (i + 2) / 2 = i / 2 + 1 := by omega
      rw [e]
      exact nm_r (ci_m2 i) (ih i (by omega) (by omega) _ h)
theorem cx_lowerBits {post : Int32 → Prop} {b : Nat} (hb : b < 12) (h : post (nI (ci_u b))) : wpX_lowerBits post (nI b) := by
  unfold wpX_lowerBits
  by_cases c : b < 2
  · rw [ci_u_0 b c] at h
    exact nm_e ⟨1, br_t (ci_neg2' b c) h⟩
  · obtain ⟨i, rfl⟩ : ∃ i, b = i + 2 := ⟨b - 2, by omega⟩
    refine nm_r (e' := nI i) (pk_sub (a := i + 2) (b := 2) (by omega)) ⟨i / 2 + 2, ?_⟩
    exact cx_lowerBits_6 i (by omega) 0 (by rw [Nat.zero_or]; exact h)
theorem ci_loI {l c : Nat} (hc : c < 12) : (nI l &&& (nI (ci_u c) ^^^ (-1))) ||| ((1 : Int32) <<< (nI c &&& 31)) = nI (ci_lo l c) := by
  rw [show (-1 : Int32) = nI 4294967295 from by decide, nx_xor, nx_and, ci_sh1 hc, ci_or]
  rfl
theorem ci_hiI {l c : Nat} (hc : c < 12) : (nI l &&& (((1 : Int32) <<< (nI c &&& 31)) ^^^ (-1))) ||| nI (ci_u c) = nI (ci_hi l c) := by
  rw [show (-1 : Int32) = nI 4294967295 from by decide, ci_sh1 hc, nx_xor, nx_and, ci_or]
  rfl
section
variable {cn le mo x0 x1 y0 y1 fo : Int32} {us xs ys la ke ins : Nat → Int32} {P : Nat → Nat} {ks : List Nat}
theorem cx_setBox_57 {post : SX → Prop} {a0 a1 b0 b1 : Nat} (h1 : a0 < 64) (h2 : a1 < 64) (h3 : b0 < 64) (h4 : b1 < 64) (h : post (cn, nI (ci_Z a0 b0), nI (ci_Z a1 b1), nI a0, nI a1, nI b0, nI b1, fo, us, xs, ys, la, ke, ins)) : wX_setBox_57 post (nI b1) cn le mo (nI a0) (nI a1) (nI b0) y1 fo us xs ys la ke ins := by
  unfold wX_setBox_57
  exact cx_interleave h1 h3 (cx_interleave h2 h4 h)
theorem cx_setBox_25 {post : SX → Prop} {a0 a1 ya yb : Nat} (h1 : a0 < 64) (h2 : a1 < 64) (h3 : ya < 64) (h4 : yb < 64) (h : post (cn, nI (ci_Z a0 (ci_mn ya yb)), nI (ci_Z a1 (ci_mx ya yb)), nI a0, nI a1, nI (ci_mn ya yb), nI (ci_mx ya yb), fo, us, xs, ys, la, ke, ins)) : wX_setBox_25 post (nI ya) (nI yb) (nI a1) cn le mo (nI a0) x1 y0 y1 fo us xs ys la ke ins := by
  unfold wX_setBox_25 wX_setBox_41
  by_cases c : yb ≤ ya
  · rw [show ci_mn ya yb = yb from if_pos c, show ci_mx ya yb = ya from if_pos c] at h
    exact br_t (nI_le c (by omega)) (br_t (nI_le c (by omega)) (cx_setBox_57 h1 h2 h4 h3 h))
  · rw [show ci_mn ya yb = ya from if_neg c, show ci_mx ya yb = yb from if_neg c] at h
    exact br_f (nI_ge (by omega) (by omega)) (br_f (nI_ge (by omega) (by omega)) (cx_setBox_57 h1 h2 h3 h4 h))
theorem cx_setBox {post : SX → Prop} {xa ya xb yb : Nat} (h1 : xa < 64) (h2 : ya < 64) (h3 : xb < 64) (h4 : yb < 64) (h : post (cn, nI (ci_Z (ci_mn xa xb) (ci_mn ya yb)), nI (ci_Z (ci_mx xa xb) (ci_mx ya yb)), nI (ci_mn xa xb), nI (ci_mx xa xb), nI (ci_mn ya yb), nI (ci_mx ya yb), fo, us, xs, ys, la, ke, ins)) : wpX_setBox post (cn, le, mo, x0, x1, y0, y1, fo, us, xs, ys, la, ke, ins) (nI xa) (nI ya) (nI xb) (nI yb) := by
  unfold wpX_setBox wX_setBox_11
  by_cases c : xb ≤ xa
  · rw [show ci_mn xa xb = xb from if_pos c, show ci_mx xa xb = xa from if_pos c] at h
    exact br_t (nI_le c (by omega)) (br_t (nI_le c (by omega)) (cx_setBox_25 h3 h1 h2 h4 h))
  · rw [show ci_mn xa xb = xa from if_neg c, show ci_mx xa xb = xb from if_neg c] at h
    exact br_f (nI_ge (by omega) (by omega)) (br_f (nI_ge (by omega) (by omega)) (cx_setBox_25 h1 h3 h2 h4 h))
theorem cx_setBoxOf {post : SX → Prop} {a b : Nat} (ha : a < 4096) (hb : b < 4096) (h : post (cn, nI (ci_Z (ci_mn (a % 64) (b % 64)) (ci_mn (a / 64) (b / 64))), nI (ci_Z (ci_mx (a % 64) (b % 64)) (ci_mx (a / 64) (b / 64))), nI (ci_mn (a % 64) (b % 64)), nI (ci_mx (a % 64) (b % 64)), nI (ci_mn (a / 64) (b / 64)), nI (ci_mx (a / 64) (b / 64)), fo, us, xs, ys, la, ke, ins)) : wpX_setBoxOf post (cn, le, mo, x0, x1, y0, y1, fo, us, xs, ys, la, ke, ins) (nI a) (nI b) := by
  unfold wpX_setBoxOf
  rw [ci_x6 ha, ci_x6 hb, ci_y6 (by omega), ci_y6 (by omega)]
  exact cx_setBox (by omega) (by omega) (by omega) (by omega) h
/-! the next number inside -/
theorem cx_next_122 {post : Int32 → Prop} {J : Int32 → Int32 → Int32 → Int32 → Prop} {B : Nat → Prop} {z l hh a c b t : Nat} (hc : c < 12) (hb : b < 2) (ht : t < 2) (h1 : b = t → ci_NI B z l hh a c) (h2 : ¬ b = t → ci_NI B z (ci_lo l c) hh a c) (hJ : ∀ l' h' a', ci_NI B z l' h' a' c → J (nI l') (nI h') (nI a') (nI c + (-1))) : wX_nextInside_122 post J (nI z) (nI l) (nI hh) (nI a) (nI c) (nI b) (nI t) (nI (ci_u c)) cn le mo x0 x1 y0 y1 fo us xs ys la ke ins := by
  unfold wX_nextInside_122
  exact pk_eq b t (fun e => nm_e (hJ _ _ _ (h1 e))) (fun e => nm_r (ci_loI hc) (nm_e (hJ _ _ _ (h2 e))))
theorem cx_next_82 {post : Int32 → Prop} {J : Int32 → Int32 → Int32 → Int32 → Prop} {B : Nat → Prop} {z l hh a c o b t : Nat} (hc : c < 12) (ho : o < 2) (hb : b < 2) (ht : t < 2) (h1 : b = t → ci_NI B z l hh a c) (h2 : ¬ b = t → ¬ o = 0 → ci_NI B z (ci_lo l c) hh a c) (h3 : ¬ b = t → o = 0 → ci_NI B z l (ci_hi hh c) (ci_lo l c) c) (hJ : ∀ l' h' a', ci_NI B z l' h' a' c → J (nI l') (nI h') (nI a') (nI c + (-1))) : wX_nextInside_82 post J (nI z) (nI l) (nI hh) (nI a) (nI c) (nI o) (nI b) (nI t) (nI (ci_u c)) cn le mo x0 x1 y0 y1 fo us xs ys la ke ins := by
  unfold wX_nextInside_82
  refine pk_eq b t (fun e => cx_next_122 (B := B) hc hb ht h1 (fun n => absurd e n) hJ) (fun e => ?_)
  exact pk_eq o 0 (fun g => nm_r (ci_loI hc) (nm_r (ci_hiI hc) (nm_e (hJ _ _ _ (h3 e g))))) (fun g => cx_next_122 (B := B) hc hb ht h1 (fun n => h2 n g) hJ)
theorem cx_next_68 {post : Int32 → Prop} {J : Int32 → Int32 → Int32 → Int32 → Prop} {B : Nat → Prop} {z l hh a c : Nat} (hc : c < 12) (I : ci_NI B z l hh a (c + 1)) (h : ∀ r, ci_NR B z r → post (nI r)) (h0 : z / 2 ^ c % 2 = 0 → l / 2 ^ c % 2 = 0) (hJ : ∀ l' h' a', ci_NI B z l' h' a' c → J (nI l') (nI h') (nI a') (nI c + (-1))) : wX_nextInside_68 post J (nI z) (nI l) (nI hh) (nI a) (nI c) (nI (z / 2 ^ c % 2)) (nI (l / 2 ^ c % 2)) (nI (hh / 2 ^ c % 2)) (nI (ci_u c)) cn le mo x0 x1 y0 y1 fo us xs ys la ke ins := by
  unfold wX_nextInside_68
  have ho : z / 2 ^ c % 2 < 2 := Nat.mod_lt _ (by decide)
  have hb : l / 2 ^ c % 2 < 2 := Nat.mod_lt _ (by decide)
  have ht : hh / 2 ^ c % 2 < 2 := Nat.mod_lt _ (by decide)
  have K : (z / 2 ^ c % 2 = 1 → ¬ hh / 2 ^ c % 2 = 0) → wX_nextInside_82 post J (nI z) (nI l) (nI hh) (nI a) (nI c) (nI (z / 2 ^ c % 2)) (nI (l / 2 ^ c % 2)) (nI (hh / 2 ^ c % 2)) (nI (ci_u c)) cn le mo x0 x1 y0 y1 fo us xs ys la ke ins := by
    intro k
    refine cx_next_82 (B := B) hc ho hb ht (fun e => ?_) (fun e g => ?_) (fun e g => ?_) hJ
    · exact ci_N_same I (by omega) (by omega)
    · exact ci_N_go I hc (by omega) (by omega) (by omega)
    · exact ci_N_split I hc (by omega) (by omega) (by omega)
  refine pk_eq (z / 2 ^ c % 2) 1 (fun e => ?_) (fun e => K (fun e' => absurd e' e))
  exact pk_eq (hh / 2 ^ c % 2) 0 (fun g => h a (ci_N_ans I e g)) (fun g => K (fun _ => g))
theorem cx_next_19 {post : Int32 → Prop} {B : Nat → Prop} {z : Nat} (hz : z < 4096) (hB : ¬ B z) (h : ∀ r, ci_NR B z r → post (nI r)) : ∀ c l hh a, c ≤ 12 → ci_NI B z l hh a c → wX_nextInside_19 post (nI z) cn le mo x0 x1 y0 y1 fo us xs ys la ke ins (c + 1) (nI l) (nI hh) (nI a) (nI c + (-1)) := by
  intro c
  induction c with
  | zero =>
    intro l hh a _ I
    exact br_t (by decide) (h a (ci_N_end I hB))
  | succ c ih =>
    intro l hh a hc I
    have h1 := I.1
    have h2 := I.2.1
    rw [pk_m1]
    refine br_f (nI_pos (by omega)) (nm_r (ci_bit (by omega) (by omega)) (nm_r (ci_bit (by omega) (by omega)) (nm_r (ci_bit (by omega) (by omega)) (cx_lowerBits (by omega) ?_))))
    have ho : z / 2 ^ c % 2 < 2 := Nat.mod_lt _ (by decide)
    have hb : l / 2 ^ c % 2 < 2 := Nat.mod_lt _ (by decide)
    refine pk_eq (z / 2 ^ c % 2) 0 (fun e => ?_) (fun e => ?_)
    · refine pk_eq (l / 2 ^ c % 2) 1 (fun g => h l (ci_N_low I e g)) (fun g => ?_)
      exact cx_next_68 (by omega) I h (fun _ => by omega) (fun l' h' a' I' => ih l' h' a' (by omega) I')
    · exact cx_next_68 (by omega) I h (fun g => absurd g e) (fun l' h' a' I' => ih l' h' a' (by omega) I')
theorem cx_nextInside {post : Int32 → Prop} {l h z : Nat} (hl : l < 4096) (hh : h < 4096) (hz : z < 4096) (hB : ¬ ci_In l h z) (hp : ∀ r, ci_NR (ci_In l h) z r → post (nI r)) : wpX_nextInside post (cn, nI l, nI h, x0, x1, y0, y1, fo, us, xs, ys, la, ke, ins) (nI z) := by
  unfold wpX_nextInside
  refine ⟨13, cx_next_19 hz hB hp 12 l h 4096 (Nat.le_refl _) ⟨hl, hh, Nat.le_refl _, ?_, ?_, ?_, fun w hw bw zw => Or.inl bw⟩⟩
  · show l / 4096 = z / 4096
    omega
  · show h / 4096 = z / 4096
    omega
  · show z / 4096 < 4096 / 4096
    omega
theorem cx_inBox {post : Int32 → Prop} {i a0 a1 b0 b1 : Nat} (hA : ci_A P xs ys) (hi : i < 40) (h1 : a0 < 64) (h2 : a1 < 64) (h3 : b0 < 64) (h4 : b1 < 64) (ht : (a0 ≤ P i % 64 ∧ P i % 64 ≤ a1) ∧ (b0 ≤ P i / 64 ∧ P i / 64 ≤ b1) → post 1) (hf : ¬ ((a0 ≤ P i % 64 ∧ P i % 64 ≤ a1) ∧ (b0 ≤ P i / 64 ∧ P i / 64 ≤ b1)) → post 0) : wpX_inBox post (cn, le, mo, nI a0, nI a1, nI b0, nI b1, fo, us, xs, ys, la, ke, ins) (nI i) := by
  unfold wpX_inBox
  have hv : vp_in (nI i) 40 := vp_in_nI hi (by decide)
  have hp := (hA i).1
  have ex : xs (nI i).toNatClampNeg = nI (P i % 64) := by rw [nI_clamp (by omega)]; exact (hA i).2.1
  have ey : ys (nI i).toNatClampNeg = nI (P i / 64) := by rw [nI_clamp (by omega)]; exact (hA i).2.2
  refine ⟨hv, pk_lt (P i % 64) a0 (fun c => hf (by omega)) (fun c1 => ⟨hv, pk_lt a1 (P i % 64) (fun c => hf (by omega)) (fun c2 => ⟨hv, pk_lt (P i / 64) b0 (fun c => hf (by omega)) (fun c3 => ⟨hv, pk_lt b1 (P i / 64) (fun c => hf (by omega)) (fun c4 => ht ⟨⟨c1, c2⟩, c3, c4⟩) rfl ey (by omega) (by omega)⟩) ey rfl (by omega) (by omega)⟩) rfl ex (by omega) (by omega)⟩) ex rfl (by omega) (by omega)⟩
end
end
section
/-! the walk through a box -/
def ci_kb (l h k : Nat) : Bool := decide ((ci_X l ≤ ci_X (k / 64) ∧ ci_X (k / 64) ≤ ci_X h) ∧ (ci_Y l ≤ ci_Y (k / 64) ∧ ci_Y (k / 64) ≤ ci_Y h))
theorem ci_kb_t {l h k : Nat} : ci_kb l h k = true ↔ ci_In l h (k / 64) := decide_eq_true_iff
theorem ci_kb_f {l h k : Nat} : ci_kb l h k = false ↔ ¬ ci_In l h (k / 64) := decide_eq_false_iff_not
def ci_bx (P : Nat → Nat) (a0 a1 b0 b1 i : Nat) : Bool := decide ((a0 ≤ P i % 64 ∧ P i % 64 ≤ a1) ∧ (b0 ≤ P i / 64 ∧ P i / 64 ≤ b1))
theorem ci_In_key {P : Nat → Nat} {a0 a1 b0 b1 i : Nat} (hp : P i < 4096) (hi : i < 40) (h1 : a0 < 64) (h2 : a1 < 64) (h3 : b0 < 64) (h4 : b1 < 64) : ci_In (ci_Z a0 b0) (ci_Z a1 b1) (ci_key P i / 64) ↔ (a0 ≤ P i % 64 ∧ P i % 64 ≤ a1) ∧ (b0 ≤ P i / 64 ∧ P i / 64 ≤ b1) := by
  have e := ci_XZ (P i % 64) (by omega) (P i / 64) (by omega)
  have e1 := ci_XZ a0 h1 b0 h3
  have e2 := ci_XZ a1 h2 b1 h4
  unfold ci_In
  rw [ci_key_z hi, e.1, e.2.1, e1.1, e1.2.1, e2.1, e2.2.1]
theorem ci_box_map {P : Nat → Nat} {a0 a1 b0 b1 : Nat} (hp : ∀ i, P i < 4096) (h1 : a0 < 64) (h2 : a1 < 64) (h3 : b0 < 64) (h4 : b1 < 64) : ∀ l : List Nat, (∀ i, i ∈ l → i < 40) → ((l.map (ci_key P)).filter (ci_kb (ci_Z a0 b0) (ci_Z a1 b1))).map (fun k => k % 64) = l.filter (ci_bx P a0 a1 b0 b1) := by
  intro l
  induction l with
  | nil => intro _; rfl
  | cons i l ih =>
    intro h
    have hi := h i List.mem_cons_self
    have ih := ih (fun j hj => h j (List.mem_cons_of_mem _ hj))
    have e := ci_In_key (P := P) (hp i) hi h1 h2 h3 h4
    rw [List.map_cons]
    by_cases c : (a0 ≤ P i % 64 ∧ P i % 64 ≤ a1) ∧ (b0 ≤ P i / 64 ∧ P i / 64 ≤ b1)
    · rw [List.filter_cons_of_pos (ci_kb_t.mpr (e.mpr c)), List.map_cons, List.filter_cons_of_pos (show ci_bx P a0 a1 b0 b1 i = true from decide_eq_true c), ih, ci_key_i hi]
    · rw [List.filter_cons_of_neg (by rw [ci_kb_f.mpr (fun d => c (e.mp d))]; exact Bool.false_ne_true), List.filter_cons_of_neg (by unfold ci_bx; rw [decide_eq_false c]; exact Bool.false_ne_true), ih]
section
variable {cn le mo x0 x1 y0 y1 fo : Int32} {us xs ys la ke ins : Nat → Int32} {P : Nat → Nat} {ks : List Nat}
theorem cx_walk_19 {post : SX → Prop} {a0 a1 b0 b1 l h : Nat} (hA : ci_A P xs ys) (hK : ci_K ks cn ke) (hks : ∀ k, k ∈ ks → ∃ i, i < 40 ∧ k = ci_key P i) (h1 : a0 < 64) (h2 : a1 < 64) (h3 : b0 < 64) (h4 : b1 < 64) (el : l = ci_Z a0 b0) (eh : h = ci_Z a1 b1)
    (hp : ∀ ins', ci_R ins' ((ks.filter (ci_kb l h)).map (fun k => k % 64)) → post (cn, nI l, nI h, nI a0, nI a1, nI b0, nI b1, nI (ks.filter (ci_kb l h)).length, us, xs, ys, la, ke, ins')) :
    ∀ n q st (ins : Nat → Int32), ks.length - q < n → q ≤ ks.length → st ≤ q → ci_R ins (((ks.take q).filter (ci_kb l h)).map (fun k => k % 64)) → wX_walk_19 post cn (nI l) (nI h) (nI a0) (nI a1) (nI b0) (nI b1) n (nI q) (nI st) (nI ((ks.take q).filter (ci_kb l h)).length) us xs ys la ke ins := by
  have hK' := hK
  obtain ⟨ec, hl, hS, hR, hB⟩ := hK
  have ll : l < 4096 := by rw [el]; exact (ci_XZ a0 h1 b0 h3).2.2
  have hh : h < 4096 := by rw [eh]; exact (ci_XZ a1 h2 b1 h4).2.2
  intro n
  induction n with
  | zero => intro q st ins c; omega
  | succ n ih =>
    intro q st ins g1 g2 g3 g4
    refine br_f (nI_ge (b := 80) (by omega) (by decide)) ?_
    by_cases c : ks.length ≤ q
    · rw [List.take_of_length_le c] at g4 ⊢
      refine br_t ?_ (hp ins g4)
      rw [ec]
      exact nI_le c (by omega)
    · have hq : q < ks.length := by omega
      have hv : vp_in (nI q) 40 := vp_in_nI (by omega) (by decide)
      have ek : ke (nI q).toNatClampNeg = nI (ci_g ks q) := by
        rw [nI_clamp (by omega)]
        exact hR q hq
      have hkm := ci_g_mem (l := ks) (j := q) hq
      have hkb := hB _ hkm
      obtain ⟨i, hi, hki⟩ := hks _ hkm
      have e64 : (nI h + 1) * 64 = nI ((h + 1) * 64) := by rw [nI_1, ci_t64]
      refine br_f (by rw [ec]; exact nI_ge hq (by omega)) ⟨hv, pk_le ((h + 1) * 64) (ci_g ks q) (fun d => ?_) (fun d => ?_) e64 ek (by omega) (by omega)⟩
      · have e := ci_fil_take (l := ks) (p := ci_kb l h) (a := q) (ks.length - q) (by omega) (fun j c1 c2 => by
          refine ci_kb_f.mpr (fun k => ?_)
          have hj : j < ks.length := by omega
          have hb := hB _ (ci_g_mem (l := ks) hj)
          have k2 := (ci_In_le ll hh (by omega) k).2
          by_cases cj : j = q
          · subst cj; omega
          · have := hS q j (by omega) hj
            omega)
        rw [show q + (ks.length - q) = ks.length from by omega, List.take_length] at e
        rw [← e] at g4 ⊢
        exact hp ins g4
      · have ep : ke (nI q).toNatClampNeg &&& 63 = nI i := by
          rw [ek, ci_k6 hkb, hki, ci_key_i hi]
        have eIn := ci_In_key (P := P) (a0 := a0) (a1 := a1) (b0 := b0) (b1 := b1) (hA i).1 hi h1 h2 h3 h4
        rw [← el, ← eh, ← hki] at eIn
        refine ⟨hv, nm_r ep (cx_inBox hA hi h1 h2 h3 h4 (fun b => br_f (by decide) ?_) (fun b => br_t rfl ⟨hv, ?_⟩))⟩
        · have t := ci_kb_t.mpr (eIn.mpr b)
          have e := ci_fil_s (l := ks) (p := ci_kb l h) (k := q) hq t
          have hlen : ((ks.take q).filter (ci_kb l h)).length ≤ q := Nat.le_trans (List.length_filter_le _ _) (List.length_take_le _ _)
          have r := ih (q + 1) (st + 1) (upd ins ((ks.take q).filter (ci_kb l h)).length (nI i)) (by omega) (by omega) (by omega) (by
            rw [e, List.map_append]
            have s := ci_R_snoc (x := i) g4
            rw [List.length_map] at s
            have e2 : [ci_g ks q].map (fun k => k % 64) = [i] := by
              rw [List.map_cons, List.map_nil, hki, ci_key_i hi]
            rw [e2]
            exact s)
          rw [e, List.length_append, show [ci_g ks q].length = 1 from rfl] at r
          exact ⟨vp_in_nI (by omega) (by decide), nm_r (e' := upd ins ((ks.take q).filter (ci_kb l h)).length (nI i)) (by rw [nI_clamp (by omega)]) (nm_r (nI_1 _) (nm_r (nI_1 _) (nm_r (nI_1 _) r)))⟩
        · have nb : ¬ ci_In l h (ci_g ks q / 64) := fun k => b (eIn.mp k)
          have ez : ke (nI q).toNatClampNeg >>> ((6 : Int32) &&& 31) = nI (ci_g ks q / 64) := by
            rw [ek, ci_y6 (by omega)]
          rw [ez]
          refine cx_nextInside ll hh (by omega) nb (fun r nr => ?_)
          obtain ⟨r1, r2, r3⟩ := nr
          rw [ci_t64]
          refine cx_seek hK' (by omega) (fun q' s1 s2 s3 => nm_r (nI_1 _) ?_)
          have hqq : q < q' := by
            rcases Nat.lt_or_ge q q' with cc | cc
            · exact cc
            · have := s3 q cc hq
              omega
          have e := ci_fil_take (l := ks) (p := ci_kb l h) (a := q) (q' - q) (by omega) (fun j c1 c2 => by
            refine ci_kb_f.mpr (fun k => ?_)
            have hj : j < ks.length := by omega
            have hb := hB _ (ci_g_mem (l := ks) hj)
            have d1 := s2 j (by omega)
            have d2 : ci_g ks q ≤ ci_g ks j := by
              by_cases cj : j = q
              · subst cj; exact Nat.le_refl _
              · exact Nat.le_of_lt (hS q j (by omega) hj)
            have d3 := r3 _ (by omega) k (Nat.div_le_div_right d2)
            omega)
          rw [show q + (q' - q) = q' from by omega] at e
          have rr := ih q' (st + 1) ins (by omega) (by omega) (by omega) (by rw [e]; exact g4)
          rw [e] at rr
          exact rr
theorem cx_walk {post : SX → Prop} {a0 a1 b0 b1 : Nat} (hA : ci_A P xs ys) (hK : ci_K ks cn ke) (hP : ks.Perm ((ci_pts us).map (ci_key P))) (h1 : a0 < 64) (h2 : a1 < 64) (h3 : b0 < 64) (h4 : b1 < 64)
    (hp : ∀ L fo' ins', fo' = nI L.length → ci_R ins' L → L.Perm ((ci_pts us).filter (ci_bx P a0 a1 b0 b1)) → post (cn, nI (ci_Z a0 b0), nI (ci_Z a1 b1), nI a0, nI a1, nI b0, nI b1, fo', us, xs, ys, la, ke, ins')) :
    wpX_walk post (cn, nI (ci_Z a0 b0), nI (ci_Z a1 b1), nI a0, nI a1, nI b0, nI b1, fo, us, xs, ys, la, ke, ins) := by
  unfold wpX_walk
  have hks : ∀ k, k ∈ ks → ∃ i, i < 40 ∧ k = ci_key P i := by
    intro k hk
    obtain ⟨i, hi, e⟩ := List.mem_map.mp (hP.mem_iff.mp hk)
    exact ⟨i, (ci_mem_pts.mp hi).1, e.symm⟩
  have ll := (ci_XZ a0 h1 b0 h3).2.2
  have hh := (ci_XZ a1 h2 b1 h4).2.2
  have hB := hK.2.2.2.2
  have key : ∀ ins', ci_R ins' ((ks.filter (ci_kb (ci_Z a0 b0) (ci_Z a1 b1))).map (fun k => k % 64)) → post (cn, nI (ci_Z a0 b0), nI (ci_Z a1 b1), nI a0, nI a1, nI b0, nI b1, nI (ks.filter (ci_kb (ci_Z a0 b0) (ci_Z a1 b1))).length, us, xs, ys, la, ke, ins') := by
    intro ins' hr
    refine hp _ _ ins' (by rw [List.length_map]) hr ?_
    have p := (hP.filter (ci_kb (ci_Z a0 b0) (ci_Z a1 b1))).map (fun k => k % 64)
    rw [ci_box_map (fun i => (hA i).1) h1 h2 h3 h4 _ (fun i hi => (ci_mem_pts.mp hi).1)] at p
    exact p
  generalize el : ci_Z a0 b0 = l at *
  generalize eh : ci_Z a1 b1 = h at *
  show wpX_seek _ _ (nI l * 64)
  rw [ci_t64]
  refine cx_seek hK (by omega) (fun q s1 s2 s3 => ⟨ks.length + 1, ?_⟩)
  have e := ci_fil_take (l := ks) (p := ci_kb l h) (a := 0) q (by omega) (fun j c1 c2 => by
    refine ci_kb_f.mpr (fun k => ?_)
    have hj : j < ks.length := by omega
    have hb := hB _ (ci_g_mem (l := ks) hj)
    have k2 := (ci_In_le ll hh (by omega) k).1
    have d1 := s2 j (by omega)
    omega)
  rw [Nat.zero_add, List.take_zero] at e
  have e : (ks.take q).filter (ci_kb l h) = [] := e
  have r := cx_walk_19 (post := post) (us := us) (la := la) hA hK hks h1 h2 h3 h4 el.symm eh.symm key (ks.length + 1) q 0 ins (by omega) s1 (by omega) (by rw [e]; intro j hj; exact absurd hj (Nat.not_lt_zero j))
  rw [e] at r
  exact r
end
end
section
/-! distances -/
def ci_sq (a b : Nat) : Nat := if b ≤ a then (a - b) * (a - b) else (b - a) * (b - a)
theorem ci_sqI (a b : Nat) : (nI a - nI b) * (nI a - nI b) = nI (ci_sq a b) := by
  unfold ci_sq
  by_cases c : b ≤ a
  · rw [if_pos c, pk_sub c, pk_mul]
  · have e : (nI a - nI b) * (nI a - nI b) = (nI b - nI a) * (nI b - nI a) := by grind
    rw [if_neg c, e, pk_sub (by omega), pk_mul]
theorem ci_sq_le {a b : Nat} (ha : a < 64) (hb : b < 64) : ci_sq a b ≤ 3969 := by
  unfold ci_sq
  by_cases c : b ≤ a
  · rw [if_pos c]
    exact Nat.mul_le_mul (show a - b ≤ 63 by omega) (show a - b ≤ 63 by omega)
  · rw [if_neg c]
    exact Nat.mul_le_mul (show b - a ≤ 63 by omega) (show b - a ≤ 63 by omega)
theorem ci_sq_comm (a b : Nat) : ci_sq a b = ci_sq b a := by
  unfold ci_sq
  rcases Nat.lt_trichotomy a b with c | c | c
  · rw [if_neg (by omega), if_pos (by omega)]
  · subst c; rfl
  · rw [if_pos (by omega), if_neg (by omega)]
theorem ci_sq_near {a b r D : Nat} (ha : a < 64) (hb : b < 64) (h : ci_sq a b ≤ D) (hr : r = 90 ∨ D < (r + 1) * (r + 1)) : b - r ≤ a ∧ a ≤ b + r := by
  rcases hr with c | c
  · omega
  · unfold ci_sq at h
    by_cases e : b ≤ a
    · rw [if_pos e] at h
      refine ⟨by omega, ?_⟩
      rcases Nat.lt_or_ge r (a - b) with g | g
      · have := Nat.mul_le_mul (Nat.succ_le_of_lt g) (Nat.succ_le_of_lt g)
        exact absurd (Nat.lt_of_lt_of_le c this) (Nat.not_lt.mpr h)
      · omega
    · rw [if_neg e] at h
      refine ⟨?_, by omega⟩
      rcases Nat.lt_or_ge r (b - a) with g | g
      · have := Nat.mul_le_mul (Nat.succ_le_of_lt g) (Nat.succ_le_of_lt g)
        exact absurd (Nat.lt_of_lt_of_le c this) (Nat.not_lt.mpr h)
      · omega
def ci_d (p q : Nat) : Nat := ci_sq (p % 64) (q % 64) + ci_sq (p / 64) (q / 64)
theorem ci_d_le {p q : Nat} (hp : p < 4096) (hq : q < 4096) : ci_d p q ≤ 7938 := by
  have h1 := ci_sq_le (a := p % 64) (b := q % 64) (by omega) (by omega)
  have h2 := ci_sq_le (a := p / 64) (b := q / 64) (by omega) (by omega)
  unfold ci_d
  omega
theorem ci_d_comm (p q : Nat) : ci_d p q = ci_d q p := by
  unfold ci_d
  rw [ci_sq_comm (p % 64), ci_sq_comm (p / 64)]
def ci_nr (P : Nat → Nat) (q D i : Nat) : Bool := decide (ci_d (P i) q ≤ D)
/-- the order of points by their distance from q, then by their numbers -/
def ci_G (P : Nat → Nat) (q i : Nat) : Nat := ci_d (P i) q * 64 + i
theorem cx_rootOf_2 {post : Int32 → Prop} {D : Nat} (hD : D < 2 ^ 31) (h : ∀ r, r ≤ 90 → (r = 90 ∨ D < (r + 1) * (r + 1)) → post (nI r)) : ∀ d r, r + d = 90 → wX_rootOf_2 post (nI D) (d + 1) (nI r) := by
  intro d
  induction d with
  | zero =>
    intro r hr
    have hr : r = 90 := hr
    subst hr
    exact br_t (by decide) (h 90 (Nat.le_refl _) (Or.inl rfl))
  | succ d ih =>
    intro r hr
    have hb : (r + 1) * (r + 1) ≤ 90 * 90 := Nat.mul_le_mul (by omega) (by omega)
    have e : (nI r + 1) * (nI r + 1) = nI ((r + 1) * (r + 1)) := by rw [nI_1, pk_mul]
    refine br_f (nI_ge (b := 90) (by omega) (by decide)) (pk_lt D ((r + 1) * (r + 1)) (fun c => h r (by omega) (Or.inr c)) (fun c => nm_r (nI_1 r) (ih (r + 1) (by omega))) rfl e hD (by omega))
theorem cx_rootOf {post : Int32 → Prop} {D : Nat} (hD : D < 2 ^ 31) (h : ∀ r, r ≤ 90 → (r = 90 ∨ D < (r + 1) * (r + 1)) → post (nI r)) : wpX_rootOf post (nI D) :=
  ⟨91, cx_rootOf_2 hD h 90 0 rfl⟩
section
variable {cn le mo x0 x1 y0 y1 fo : Int32} {us xs ys la ke ins : Nat → Int32} {P : Nat → Nat} {ks : List Nat}
theorem cx_dist {post : Int32 → Prop} {i q : Nat} (hA : ci_A P xs ys) (hi : i < 40) (h : post (nI (ci_d (P i) q))) : wpX_distanceTo post (cn, le, mo, x0, x1, y0, y1, fo, us, xs, ys, la, ke, ins) (nI (q % 64)) (nI (q / 64)) (nI i) := by
  unfold wpX_distanceTo
  have hv : vp_in (nI i) 40 := vp_in_nI hi (by decide)
  have ex : xs (nI i).toNatClampNeg = nI (P i % 64) := by rw [nI_clamp (by omega)]; exact (hA i).2.1
  have ey : ys (nI i).toNatClampNeg = nI (P i / 64) := by rw [nI_clamp (by omega)]; exact (hA i).2.2
  refine ⟨hv, nm_r (e' := nI (P i % 64) - nI (q % 64)) (by rw [ex]) ⟨hv, nm_r (e' := nI (P i / 64) - nI (q / 64)) (by rw [ey]) ?_⟩⟩
  rw [ci_sqI, ci_sqI, nI_add]
  exact h
theorem cx_wn_64 {post : SX → Prop} {L : List Nat} {q D : Nat} (hA : ci_A P xs ys) (hq : q < 4096) (hL : L.length ≤ 40) (hm : ∀ i, i ∈ L → i < 40) (hD : D < 2 ^ 31)
    (hp : ∀ ins', ci_R ins' (L.filter (ci_nr P q D)) → post (cn, le, mo, x0, x1, y0, y1, nI (L.filter (ci_nr P q D)).length, us, xs, ys, la, ke, ins')) :
    ∀ d i (ins : Nat → Int32), i + d = L.length → ci_R ins ((L.take i).filter (ci_nr P q D)) → (∀ j, i ≤ j → j < L.length → ins j = nI (ci_g L j)) → wX_walkNear_64 post (nI (q % 64)) (nI (q / 64)) (nI D) cn le mo x0 x1 y0 y1 (nI L.length) (d + 1) (nI ((L.take i).filter (ci_nr P q D)).length) (nI i) us xs ys la ke ins := by
  intro d
  induction d with
  | zero =>
    intro i ins h1 h2 h3
    have h1 : i = L.length := h1
    subst h1
    rw [List.take_length] at h2 ⊢
    exact br_t (nI_le (Nat.le_refl _) (by omega)) (hp ins h2)
  | succ d ih =>
    intro i ins h1 h2 h3
    have hi : i < L.length := by omega
    have hv : vp_in (nI i) 40 := vp_in_nI (by omega) (by decide)
    have ei : ins (nI i).toNatClampNeg = nI (ci_g L i) := by
      rw [nI_clamp (by omega)]
      exact h3 i (Nat.le_refl _) hi
    have hlen : ((L.take i).filter (ci_nr P q D)).length ≤ i := Nat.le_trans (List.length_filter_le _ _) (List.length_take_le _ _)
    have hg := hm _ (ci_g_mem hi)
    have hdl := ci_d_le (hA (ci_g L i)).1 hq
    refine br_f (nI_ge hi (by omega)) ⟨hv, ?_⟩
    rw [ei]
    refine cx_dist hA hg ?_
    refine pk_lt D (ci_d (P (ci_g L i)) q) (fun c => nm_r (nI_1 i) ?_) (fun c => ⟨hv, vp_in_nI (by omega) (by decide), nm_r (e' := upd ins ((L.take i).filter (ci_nr P q D)).length (nI (ci_g L i))) (by rw [nI_clamp (by omega)]) (nm_r (nI_1 _) (nm_r (nI_1 _) ?_))⟩) rfl rfl hD (by omega)
    · have e := ci_fil_n (l := L) (p := ci_nr P q D) (k := i) hi (decide_eq_false (by omega))
      have r := ih (i + 1) ins (by omega) (by rw [e]; exact h2) (fun j g1 g2 => h3 j (by omega) g2)
      rw [e] at r
      exact r
    · have e := ci_fil_s (l := L) (p := ci_nr P q D) (k := i) hi (decide_eq_true c)
      have r := ih (i + 1) (upd ins ((L.take i).filter (ci_nr P q D)).length (nI (ci_g L i))) (by omega) (by rw [e]; exact ci_R_snoc h2) (fun j g1 g2 => by rw [pk_un (by omega)]; exact h3 j (by omega) g2)
      rw [e, List.length_append, show [ci_g L i].length = 1 from rfl] at r
      exact r
theorem ci_fil_sub {l : List Nat} {p b : Nat → Bool} (h : ∀ i, i ∈ l → p i = true → b i = true) : (l.filter b).filter p = l.filter p := by
  rw [List.filter_filter]
  refine List.filter_congr (fun i hi => ?_)
  cases hp : p i with
  | false => rfl
  | true => rw [h i hi hp]; rfl
theorem cx_walkNear {post : SX → Prop} {q D : Nat} (hA : ci_A P xs ys) (hK : ci_K ks cn ke) (hP : ks.Perm ((ci_pts us).map (ci_key P))) (hq : q < 4096) (hD : D < 2 ^ 31)
    (hp : ∀ L le' mo' x0' x1' y0' y1' ins', ci_R ins' L → L.Perm ((ci_pts us).filter (ci_nr P q D)) → post (cn, le', mo', x0', x1', y0', y1', nI L.length, us, xs, ys, la, ke, ins')) :
    wpX_walkNear post (cn, le, mo, x0, x1, y0, y1, fo, us, xs, ys, la, ke, ins) (nI (q % 64)) (nI (q / 64)) (nI D) := by
  unfold wpX_walkNear
  refine cx_rootOf hD (fun r hr hr2 => ?_)
  have hx : q % 64 < 64 := by omega
  have hy : q / 64 < 64 := by omega
  refine cx_clampS hx hr (cx_clampA hx hr (cx_clampS hy hr (cx_clampA hy hr ?_)))
  have e1 : ∀ {a : Nat}, a < 64 → a - r < 64 := fun h => by omega
  have e2 : ∀ {a : Nat}, a < 64 → (if a + r ≤ 63 then a + r else 63) < 64 := fun h => by split <;> omega
  have e3 : ∀ {a : Nat}, a < 64 → ci_mn (a - r) (if a + r ≤ 63 then a + r else 63) ≤ a - r := fun h => by unfold ci_mn; split <;> (try split) <;> omega
  have e4 : ∀ {a : Nat}, a < 64 → (if a + r ≤ 63 then a + r else 63) ≤ ci_mx (a - r) (if a + r ≤ 63 then a + r else 63) := fun h => by unfold ci_mx; split <;> (try split) <;> omega
  refine cx_setBox (e1 hx) (e1 hy) (e2 hx) (e2 hy) ?_
  refine cx_walk hA hK hP (ci_mn_lt (e1 hx) (e2 hx)) (ci_mx_lt (e1 hx) (e2 hx)) (ci_mn_lt (e1 hy) (e2 hy)) (ci_mx_lt (e1 hy) (e2 hy)) ?_
  intro L fo' ins' ef hR hL
  have hmem : ∀ i, i ∈ L → i < 40 := fun i hi => (ci_mem_pts.mp (List.mem_filter.mp (hL.mem_iff.mp hi)).1).1
  have hlen : L.length ≤ 40 := by
    rw [hL.length_eq]
    exact Nat.le_trans (List.length_filter_le _ _) (ci_pts_len us)
  rw [ef]
  refine ⟨L.length + 1, ?_⟩
  refine cx_wn_64 hA hq hlen hmem hD (fun ins2 h2 => hp (L.filter (ci_nr P q D)) _ _ _ _ _ _ ins2 h2 ?_) L.length 0 ins' (by omega) (fun j hj => absurd hj (Nat.not_lt_zero j)) (fun j _ g => hR j g)
  have p := hL.filter (ci_nr P q D)
  rw [ci_fil_sub] at p
  · exact p
  · intro i hi hn
    have hn : ci_d (P i) q ≤ D := of_decide_eq_true hn
    have hpi := (hA i).1
    unfold ci_d at hn
    have s1 := ci_sq_near (a := P i % 64) (b := q % 64) (r := r) (D := D) (by omega) hx (by omega) hr2
    have s2 := ci_sq_near (a := P i / 64) (b := q / 64) (r := r) (D := D) (by omega) hy (by omega) hr2
    have t1 := e3 hx
    have t2 := e3 hy
    have t3 := e4 hx
    have t4 := e4 hy
    have u1 : P i % 64 ≤ (if q % 64 + r ≤ 63 then q % 64 + r else 63) := by split <;> omega
    have u2 : P i / 64 ≤ (if q / 64 + r ≤ 63 then q / 64 + r else 63) := by split <;> omega
    exact decide_eq_true ⟨⟨Nat.le_trans t1 s1.1, Nat.le_trans u1 t3⟩, Nat.le_trans t2 s2.1, Nat.le_trans u2 t4⟩
/-! the sort -/
theorem cx_nearer {post : Int32 → Prop} {a b q : Nat} (hA : ci_A P xs ys) (hq : q < 4096) (ha : a < 40) (hb : b < 40) (ht : ci_G P q a < ci_G P q b → post 1) (hf : ci_G P q b ≤ ci_G P q a → post 0) : wpX_nearer post (cn, le, mo, x0, x1, y0, y1, fo, us, xs, ys, la, ke, ins) (nI (q % 64)) (nI (q / 64)) (nI a) (nI b) := by
  unfold wpX_nearer
  have da := ci_d_le (hA a).1 hq
  have db := ci_d_le (hA b).1 hq
  unfold ci_G at ht hf
  refine cx_dist hA ha (cx_dist hA hb ?_)
  refine pk_eq (ci_d (P a) q) (ci_d (P b) q) (fun e => pk_le b a (fun c => hf (by omega)) (fun c => ht (by omega))) (fun e => pk_le (ci_d (P b) q) (ci_d (P a) q) (fun c => hf (by omega)) (fun c => ht (by omega)) rfl rfl (by omega) (by omega)) rfl rfl (by omega) (by omega)
theorem ci_sort_put {M : List Nat} {i k : Nat} {ins : Nat → Int32} (hi : i < M.length) (hk : k ≤ i) (e0 : ∀ j, j < k → ins j = nI (ci_g M j)) (e1 : ∀ j, k ≤ j → j < i → ins (j + 1) = nI (ci_g M j)) (e2 : ∀ j, i < j → j < M.length → ins j = nI (ci_g M j)) : ci_R (upd ins k (nI (ci_g M i))) (ci_ins (ci_del M i) k (ci_g M i)) := by
  have hd := ci_del_len hi
  have hk2 : k ≤ (ci_del M i).length := by omega
  intro j hj
  rw [ci_ins_len hk2] at hj
  rcases Nat.lt_trichotomy j k with c | c | c
  · rw [pk_un (by omega), ci_ins_lt hk2 c, ci_del_lt hi (by omega)]
    exact e0 j c
  · subst c
    rw [pk_us, ci_ins_eq hk2]
  · obtain ⟨j', rfl⟩ : ∃ j', j = j' + 1 := ⟨j - 1, by omega⟩
    rw [pk_un (by omega), ci_ins_gt hk2 (by omega)]
    rcases Nat.lt_or_ge j' i with d | d
    · rw [ci_del_lt hi d]
      exact e1 j' (by omega) d
    · rw [ci_del_ge hi d]
      exact e2 (j' + 1) (by omega) (by omega)
theorem cx_sort_21 {post : SX → Prop} {J2 : Int32 → (Nat → Int32) → (Nat → Int32) → (Nat → Int32) → (Nat → Int32) → (Nat → Int32) → (Nat → Int32) → Prop} {M : List Nat} {i q : Nat} (hA : ci_A P xs ys) (hq : q < 4096) (hL : M.length ≤ 40) (hm : ∀ i, i ∈ M → i < 40) (hi : i < M.length) (hs : ∀ a b, a < b → b < i → ci_G P q (ci_g M a) ≤ ci_G P q (ci_g M b))
    (hJ : ∀ ins' k, k ≤ i → ci_R ins' (ci_ins (ci_del M i) k (ci_g M i)) → (∀ j, j < k → ci_G P q (ci_g M j) ≤ ci_G P q (ci_g M i)) → (∀ j, k ≤ j → j < i → ci_G P q (ci_g M i) ≤ ci_G P q (ci_g M j)) → J2 (nI (i + 1)) us xs ys la ke ins') :
    ∀ k (ins : Nat → Int32), k ≤ i → (∀ j, j < k → ins j = nI (ci_g M j)) → (∀ j, k ≤ j → j < i → ins (j + 1) = nI (ci_g M j)) → (∀ j, i < j → j < M.length → ins j = nI (ci_g M j)) → (∀ j, k ≤ j → j < i → ci_G P q (ci_g M i) ≤ ci_G P q (ci_g M j)) → wX_sortFound_21 post J2 (nI (q % 64)) (nI (q / 64)) (nI i) (nI (ci_g M i)) cn le mo x0 x1 y0 y1 fo (k + 1) (nI k) us xs ys la ke ins := by
  intro k
  induction k with
  | zero =>
    intro ins h0 h1 h2 h3 h4
    refine br_t (by decide) ⟨vp_in_nI (by decide) (by decide), nm_r (e' := upd ins 0 (nI (ci_g M i))) (by rw [nI_clamp (by decide)]) (nm_r (nI_1 i) (hJ _ 0 h0 (ci_sort_put hi h0 h1 h2 h3) (fun j c => absurd c (Nat.not_lt_zero j)) h4))⟩
  | succ k ih =>
    intro ins h0 h1 h2 h3 h4
    have hv : vp_in (nI (k + 1) - 1) 40 := by rw [nI_pred]; exact vp_in_nI (by omega) (by decide)
    have hv2 : vp_in (nI (k + 1)) 40 := vp_in_nI (by omega) (by decide)
    have ei : ins (nI (k + 1) - 1).toNatClampNeg = nI (ci_g M k) := by
      rw [nI_pred, nI_clamp (by omega)]
      exact h1 k (by omega)
    refine br_f (nI_nle (by omega) (by omega)) ⟨hv, ?_⟩
    rw [ei]
    refine cx_nearer hA hq (hm _ (ci_g_mem hi)) (hm _ (ci_g_mem (by omega))) (fun c => br_f (by decide) ⟨hv, hv2, nm_r (e' := upd ins (k + 1) (nI (ci_g M k))) (by rw [nI_clamp (by omega)]) (nm_r (pk_m1 k) (ih _ (by omega) ?_ ?_ ?_ ?_))⟩) (fun c => br_t rfl ⟨hv2, nm_r (e' := upd ins (k + 1) (nI (ci_g M i))) (by rw [nI_clamp (by omega)]) (nm_r (nI_1 i) (hJ _ (k + 1) h0 (ci_sort_put hi h0 h1 h2 h3) ?_ h4))⟩)
    · intro j hj
      rw [pk_un (by omega)]
      exact h1 j (by omega)
    · intro j g1 g2
      by_cases d : j = k
      · subst d
        rw [pk_us]
      · rw [pk_un (by omega)]
        exact h2 j (by omega) g2
    · intro j g1 g2
      rw [pk_un (by omega)]
      exact h3 j g1 g2
    · intro j g1 g2
      by_cases d : j = k
      · subst d
        exact Nat.le_of_lt c
      · exact h4 j (by omega) g2
    · intro j hj
      by_cases d : j = k
      · subst d
        exact c
      · exact Nat.le_trans (hs j k (by omega) (by omega)) c
theorem ci_sort_ord {M : List Nat} {i k : Nat} {f : Nat → Nat} (hi : i < M.length) (hk : k ≤ i) (hs : ∀ a b, a < b → b < i → f (ci_g M a) ≤ f (ci_g M b)) (h1 : ∀ j, j < k → f (ci_g M j) ≤ f (ci_g M i)) (h2 : ∀ j, k ≤ j → j < i → f (ci_g M i) ≤ f (ci_g M j)) : ∀ a b, a < b → b < i + 1 → f (ci_g (ci_ins (ci_del M i) k (ci_g M i)) a) ≤ f (ci_g (ci_ins (ci_del M i) k (ci_g M i)) b) := by
  have hd := ci_del_len hi
  have hk2 : k ≤ (ci_del M i).length := by omega
  intro a b hab hb
  rcases Nat.lt_trichotomy b k with c | c | c
  · rw [ci_ins_lt hk2 c, ci_ins_lt hk2 (by omega), ci_del_lt hi (by omega), ci_del_lt hi (by omega)]
    exact hs a b hab (by omega)
  · subst c
    rw [ci_ins_eq hk2, ci_ins_lt hk2 hab, ci_del_lt hi (by omega)]
    exact h1 a hab
  · obtain ⟨b', rfl⟩ : ∃ b', b = b' + 1 := ⟨b - 1, by omega⟩
    rw [ci_ins_gt hk2 (by omega), ci_del_lt hi (by omega)]
    rcases Nat.lt_trichotomy a k with d | d | d
    · rw [ci_ins_lt hk2 d, ci_del_lt hi (by omega)]
      exact hs a b' (by omega) (by omega)
    · subst d
      rw [ci_ins_eq hk2]
      exact h2 b' (by omega) (by omega)
    · obtain ⟨a', rfl⟩ : ∃ a', a = a' + 1 := ⟨a - 1, by omega⟩
      rw [ci_ins_gt hk2 (by omega), ci_del_lt hi (by omega)]
      exact hs a' b' (by omega) (by omega)
theorem cx_sort_2 {post : SX → Prop} {N q : Nat} {L : List Nat} (hA : ci_A P xs ys) (hq : q < 4096) (hN : N ≤ 40) (eN : L.length = N) (hm : ∀ i, i ∈ L → i < 40)
    (hp : ∀ M ins', M.Perm L → ci_R ins' M → (∀ a b, a < b → b < M.length → ci_G P q (ci_g M a) ≤ ci_G P q (ci_g M b)) → post (cn, le, mo, x0, x1, y0, y1, nI N, us, xs, ys, la, ke, ins')) :
    ∀ n i (M : List Nat) (ins : Nat → Int32), N - i < n → M.Perm L → ci_R ins M → (∀ a b, a < b → b < i → b < M.length → ci_G P q (ci_g M a) ≤ ci_G P q (ci_g M b)) → i < 50 → wX_sortFound_2 post (nI (q % 64)) (nI (q / 64)) cn le mo x0 x1 y0 y1 (nI N) n (nI i) us xs ys la ke ins := by
  intro n
  induction n with
  | zero => intro i M ins c; omega
  | succ n ih =>
    intro i M ins h1 h2 h3 h4 h5
    have eM : M.length = N := by rw [h2.length_eq, eN]
    by_cases c : N ≤ i
    · exact br_t (nI_le c (by omega)) (hp M ins h2 h3 (fun a b g1 g2 => h4 a b g1 (by omega) g2))
    · have hi : i < M.length := by omega
      have hmM : ∀ i, i ∈ M → i < 40 := fun i hi => hm i (h2.mem_iff.mp hi)
      refine br_f (nI_ge (by omega) (by omega)) ⟨vp_in_nI (by omega) (by decide), nm_r (e' := nI (ci_g M i)) (by rw [nI_clamp (by omega)]; exact h3 i hi) ⟨i + 1, ?_⟩⟩
      refine cx_sort_21 hA hq (by omega) hmM hi (fun a b g1 g2 => h4 a b g1 g2 (by omega)) (fun ins' k g1 g2 g3 g4 => ?_) i ins (Nat.le_refl _) (fun j g => h3 j (by omega)) (fun j g1 g2 => by omega) (fun j g1 g2 => h3 j g2) (fun j g1 g2 => by omega)
      have s := ci_sort_ord (f := ci_G P q) hi g1 (fun a b g1 g2 => h4 a b g1 g2 (by omega)) g3 g4
      exact ih (i + 1) _ ins' (by omega) (((ci_ins_perm _ _ _).trans (ci_del_perm hi).symm).trans h2) g2 (fun a b g1 g2 _ => s a b g1 g2) (by omega)
theorem cx_sortFound {post : SX → Prop} {q : Nat} {L : List Nat} (hA : ci_A P xs ys) (hq : q < 4096) (hN : L.length ≤ 40) (hm : ∀ i, i ∈ L → i < 40) (hR : ci_R ins L)
    (hp : ∀ M ins', M.Perm L → ci_R ins' M → (∀ a b, a < b → b < M.length → ci_G P q (ci_g M a) ≤ ci_G P q (ci_g M b)) → post (cn, le, mo, x0, x1, y0, y1, nI L.length, us, xs, ys, la, ke, ins')) :
    wpX_sortFound post (cn, le, mo, x0, x1, y0, y1, nI L.length, us, xs, ys, la, ke, ins) (nI (q % 64)) (nI (q / 64)) := by
  unfold wpX_sortFound
  exact ⟨42, cx_sort_2 hA hq hN rfl hm hp 42 1 L ins (by omega) (List.Perm.refl _) hR (fun a b g1 g2 => by omega) (by omega)⟩
end
end
section
/-! the reference's walks -/
def ci_cnt (f : Nat → Bool) (n : Nat) : Nat := ((List.range n).filter f).length
theorem ci_cnt_t {f : Nat → Bool} {n : Nat} (h : f n = true) : ci_cnt f (n + 1) = ci_cnt f n + 1 := by
  unfold ci_cnt
  rw [List.range_succ, List.filter_append, List.filter_cons_of_pos h, List.length_append]
  rfl
theorem ci_cnt_f {f : Nat → Bool} {n : Nat} (h : f n = false) : ci_cnt f (n + 1) = ci_cnt f n := by
  unfold ci_cnt
  rw [List.range_succ, List.filter_append, List.filter_cons_of_neg (by rw [h]; exact Bool.false_ne_true), List.length_append]
  rfl
theorem ci_cnt_le (f : Nat → Bool) (n : Nat) : ci_cnt f n ≤ n := by
  have := List.length_filter_le f (List.range n)
  rw [List.length_range] at this
  exact this
/-- a predicate over the points that are there -/
def ci_on (us : Nat → Int32) (p : Nat → Bool) (i : Nat) : Bool := p i && decide (¬ us i = 0)
theorem ci_on_fil (us : Nat → Int32) (p : Nat → Bool) : (ci_pts us).filter p = (List.range 40).filter (ci_on us p) := List.filter_filter
theorem ci_on_cnt (us : Nat → Int32) (p : Nat → Bool) : ((ci_pts us).filter p).length = ci_cnt (ci_on us p) 40 := congrArg List.length (ci_on_fil us p)
theorem ci_on_0 {us : Nat → Int32} {p : Nat → Bool} {i : Nat} (h : us i = 0) : ci_on us p i = false := by
  unfold ci_on
  rw [decide_eq_false (fun c => c h), Bool.and_false]
theorem ci_on_1 {us : Nat → Int32} {p : Nat → Bool} {i : Nat} (h : ¬ us i = 0) : ci_on us p i = p i := by
  unfold ci_on
  rw [decide_eq_true h, Bool.and_true]
theorem ci_on_t {us : Nat → Int32} {p : Nat → Bool} {i : Nat} (h : ci_on us p i = true) : p i = true ∧ ¬ us i = 0 := by
  unfold ci_on at h
  rw [Bool.and_eq_true, decide_eq_true_eq] at h
  exact h
theorem ci_btw {a b v : Nat} : (ci_mn a b ≤ v ∧ v ≤ ci_mx a b) ↔ ((a ≤ v ∧ v ≤ b) ∨ (b ≤ v ∧ v ≤ a)) := by
  unfold ci_mn ci_mx
  by_cases c : b ≤ a
  · rw [if_pos c, if_pos c]; omega
  · rw [if_neg c, if_neg c]; omega
def ci_bb (P : Nat → Nat) (a b : Nat) : Nat → Bool := ci_bx P (ci_mn (a % 64) (b % 64)) (ci_mx (a % 64) (b % 64)) (ci_mn (a / 64) (b / 64)) (ci_mx (a / 64) (b / 64))
theorem ci_i64 {a : Nat} (ha : a < 4096) : nI a / 64 = nI (a / 64) := pk_div (a := a) (d := 64) (by omega) (by decide) (by decide)
theorem ci_r64 {a : Nat} (ha : a < 4096) : nI a - nI a / 64 * 64 = nI (a % 64) := pk_rem (a := a) (d := 64) (by omega) (by decide) (by decide)
section
variable {th pl lb : Nat → Int32} {P : Nat → Nat}
theorem cy_place0 {post : Int32 → Prop} {x : Int32} (h : x < 0 ∨ nI 4096 ≤ x) (hp : post 0) : wpY_isPlace post (th, pl, lb) x := by
  unfold wpY_isPlace
  rcases h with h | h
  · exact br_t h hp
  · exact br_f (Int32.not_lt.mpr (Int32.le_trans (nI_pos' (n := 4096) (by decide)) h)) (br_t h hp)
theorem cy_place1 {post : Int32 → Prop} {p : Nat} (h : p < 4096) (hp : post 1) : wpY_isPlace post (th, pl, lb) (nI p) := by
  unfold wpY_isPlace
  exact br_f (nI_pos (by omega)) (br_f (nI_ge (b := 4096) h (by decide)) hp)
theorem cy_point0 {post : Int32 → Prop} {x : Int32} (h : x < 0 ∨ nI 40 ≤ x) (hp : post 0) : wpY_isPoint post (th, pl, lb) x := by
  unfold wpY_isPoint
  rcases h with h | h
  · exact br_t h hp
  · exact br_f (Int32.not_lt.mpr (Int32.le_trans (nI_pos' (n := 40) (by decide)) h)) (br_t h hp)
theorem cy_pointU {post : Int32 → Prop} {i : Nat} (hi : i < 40) (h : th i = 0) (hp : post 0) : wpY_isPoint post (th, pl, lb) (nI i) := by
  unfold wpY_isPoint
  exact br_f (nI_pos (by omega)) (br_f (nI_ge (b := 40) hi (by decide)) ⟨vp_in_nI hi (by decide), br_t (by rw [nI_clamp (by omega)]; exact h) hp⟩)
theorem cy_point1 {post : Int32 → Prop} {i : Nat} (hi : i < 40) (h : ¬ th i = 0) (hp : post 1) : wpY_isPoint post (th, pl, lb) (nI i) := by
  unfold wpY_isPoint
  exact br_f (nI_pos (by omega)) (br_f (nI_ge (b := 40) hi (by decide)) ⟨vp_in_nI hi (by decide), br_f (by rw [nI_clamp (by omega)]; exact h) hp⟩)
theorem cy_between {post : Int32 → Prop} {v a b : Nat} (hv : v < 4096) (ha : a < 4096) (hb : b < 4096) (ht : ci_mn a b ≤ v ∧ v ≤ ci_mx a b → post 1) (hf : ¬ (ci_mn a b ≤ v ∧ v ≤ ci_mx a b) → post 0) : wpY_between post (th, pl, lb) (nI v) (nI a) (nI b) := by
  rw [ci_btw] at ht hf
  unfold wpY_between
  have K : ¬ (a ≤ v ∧ v ≤ b) → wY_between_10 post (nI v) (nI a) (nI b) th pl lb := by
    intro k
    unfold wY_between_10
    exact pk_lt v b (fun c => hf (by omega)) (fun c => pk_lt a v (fun d => hf (by omega)) (fun d => ht (by omega)))
  exact pk_lt v a (fun c => K (by omega)) (fun c => pk_le v b (fun d => ht (by omega)) (fun d => K (by omega)))
theorem cy_inBox {post : Int32 → Prop} {i a b : Nat} (hp : ∀ i, pl i = nI (P i)) (hP : P i < 4096) (hi : i < 40) (ha : a < 4096) (hb : b < 4096) (ht : ci_on th (ci_bb P a b) i = true → post 1) (hf : ci_on th (ci_bb P a b) i = false → post 0) : wpY_inBox post (th, pl, lb) (nI i) (nI a) (nI b) := by
  unfold wpY_inBox
  have hv : vp_in (nI i) 40 := vp_in_nI hi (by decide)
  have ec : (nI i).toNatClampNeg = i := nI_clamp (by omega)
  have n64 : ¬ (64 : Int32) = 0 := by decide
  dsimp only
  rw [ec, hp i]
  by_cases c : th i = 0
  · exact ⟨hv, br_t c (hf (ci_on_0 c))⟩
  · rw [ci_on_1 c] at ht hf
    refine ⟨hv, br_f c ⟨hv, n64, n64, n64, ?_⟩⟩
    rw [ci_r64 hP, ci_r64 ha, ci_r64 hb]
    refine cy_between (by omega) (by omega) (by omega) (fun g => br_f (by decide) ⟨hv, n64, n64, n64, ?_⟩) (fun g => br_t rfl (hf (decide_eq_false (fun k => g k.1))))
    rw [ci_i64 hP, ci_i64 ha, ci_i64 hb]
    exact cy_between (by omega) (by omega) (by omega) (fun g2 => br_f (by decide) (ht (decide_eq_true ⟨g, g2⟩))) (fun g2 => br_t rfl (hf (decide_eq_false (fun k => g2 k.2))))
theorem cy_countBox_23 {post : Int32 → Prop} {a b : Nat} (hp : ∀ i, pl i = nI (P i)) (hP : ∀ i, P i < 4096) (ha : a < 4096) (hb : b < 4096) (h : post (nI (ci_cnt (ci_on th (ci_bb P a b)) 40))) : ∀ d i, i + d = 40 → wY_countBox_23 post (nI a) (nI b) th pl lb (d + 1) (nI (ci_cnt (ci_on th (ci_bb P a b)) i)) (nI i) := by
  intro d
  induction d with
  | zero =>
    intro i hi
    have hi : i = 40 := hi
    subst hi
    exact br_t (by decide) h
  | succ d ih =>
    intro i hi
    refine br_f (nI_ge (b := 40) (by omega) (by decide)) (cy_inBox hp (hP i) (by omega) ha hb (fun t => br_f (by decide) (nm_r (nI_1 _) (nm_r (nI_1 _) ?_))) (fun t => br_t rfl (nm_r (nI_1 _) ?_)))
    · have := ih (i + 1) (by omega)
      rwa [ci_cnt_t t] at this
    · have := ih (i + 1) (by omega)
      rwa [ci_cnt_f t] at this
theorem cy_countBox {post : Int32 → Prop} {a b : Nat} (hp : ∀ i, pl i = nI (P i)) (hP : ∀ i, P i < 4096) (ha : a < 4096) (hb : b < 4096) (h : post (nI (ci_cnt (ci_on th (ci_bb P a b)) 40))) : wpY_countBox post (th, pl, lb) (nI a) (nI b) := by
  unfold wpY_countBox
  exact cy_place1 ha (br_f (by decide) (cy_place1 hb (br_f (by decide) ⟨41, cy_countBox_23 hp hP ha hb h 40 0 rfl⟩)))
theorem cy_countBoxA {post : Int32 → Prop} {x y : Int32} (h : x < 0 ∨ nI 4096 ≤ x) (hp : post (-1)) : wpY_countBox post (th, pl, lb) x y := by
  unfold wpY_countBox
  exact cy_place0 h (br_t rfl hp)
theorem cy_countBoxB {post : Int32 → Prop} {a : Nat} {y : Int32} (ha : a < 4096) (h : y < 0 ∨ nI 4096 ≤ y) (hp : post (-1)) : wpY_countBox post (th, pl, lb) (nI a) y := by
  unfold wpY_countBox
  exact cy_place1 ha (br_f (by decide) (cy_place0 h (br_t rfl hp)))
def ci_clr (f : Nat → Bool) (us : Nat → Int32) (i : Nat) : Nat → Int32 := fun j => if j < i ∧ f j = true then 0 else us j
theorem ci_clr_0 (f : Nat → Bool) (us : Nat → Int32) : ci_clr f us 0 = us := funext (fun j => if_neg (fun c => absurd c.1 (Nat.not_lt_zero j)))
theorem ci_clr_at (f : Nat → Bool) (us : Nat → Int32) (i : Nat) : ci_clr f us i i = us i := if_neg (fun c => absurd c.1 (Nat.lt_irrefl i))
theorem ci_clr_t {f : Nat → Bool} {us : Nat → Int32} {i : Nat} (h : f i = true) : upd (ci_clr f us i) i 0 = ci_clr f us (i + 1) := by
  funext j
  by_cases c : j = i
  · subst c
    rw [pk_us]
    exact (if_pos ⟨Nat.lt_succ_self j, h⟩).symm
  · rw [pk_un c]
    unfold ci_clr
    by_cases d : j < i ∧ f j = true
    · rw [if_pos d, if_pos ⟨by omega, d.2⟩]
    · rw [if_neg d, if_neg (fun k => d ⟨by omega, k.2⟩)]
theorem ci_clr_f {f : Nat → Bool} {us : Nat → Int32} {i : Nat} (h : f i = false) : ci_clr f us i = ci_clr f us (i + 1) := by
  funext j
  unfold ci_clr
  by_cases d : j < i ∧ f j = true
  · rw [if_pos d, if_pos ⟨by omega, d.2⟩]
  · rw [if_neg d, if_neg (fun k => d ⟨by
      rcases Nat.lt_or_ge j i with e | e
      · exact e
      · have e2 : j = i := by omega
        have k2 := k.2
        rw [e2, h] at k2
        exact absurd k2 Bool.false_ne_true, k.2⟩)]
theorem ci_on_clr {us : Nat → Int32} {p f : Nat → Bool} {i : Nat} : ci_on (ci_clr f us i) p i = ci_on us p i := by
  unfold ci_on
  rw [ci_clr_at]
theorem cy_clearBox_10 {post : Int32 → SY → Prop} {a b c : Nat} (hp : ∀ i, pl i = nI (P i)) (hP : ∀ i, P i < 4096) (ha : a < 4096) (hb : b < 4096) (hc : 0 < c) (hc2 : c ≤ 40) (h : post (nI c) (ci_clr (ci_on th (ci_bb P a b)) th 40, pl, lb)) : ∀ d i, i + d = 40 → wY_clearBox_10 post (nI a) (nI b) (nI c) (d + 1) (nI i) (ci_clr (ci_on th (ci_bb P a b)) th i) pl lb := by
  intro d
  induction d with
  | zero =>
    intro i hi
    have hi : i = 40 := hi
    subst hi
    exact br_t (by decide) h
  | succ d ih =>
    intro i hi
    have r := ih (i + 1) (by omega)
    refine br_f (nI_ge (b := 40) (by omega) (by decide)) (br_f (nI_nle hc (by omega)) (cy_inBox hp (hP i) (by omega) ha hb (fun t => br_f (by decide) ⟨vp_in_nI (by omega) (by decide), nm_r (e' := ci_clr (ci_on th (ci_bb P a b)) th (i + 1)) ?_ (nm_r (nI_1 _) r)⟩) (fun t => br_t rfl (nm_r (nI_1 _) ?_))))
    · rw [ci_on_clr] at t
      rw [nI_clamp (by omega)]
      exact ci_clr_t t
    · rw [ci_on_clr] at t
      rw [ci_clr_f t]
      exact r
theorem ci_cnt_0 {f : Nat → Bool} {n : Nat} (h : ci_cnt f n = 0) : ∀ j, j < n → f j = false := by
  intro j hj
  have e : (List.range n).filter f = [] := List.eq_nil_of_length_eq_zero h
  have := List.filter_eq_nil_iff.mp e j (List.mem_range.mpr hj)
  cases hf : f j with
  | false => rfl
  | true => exact absurd hf this
theorem cy_clearBox {post : Int32 → SY → Prop} {a b : Nat} (hp : ∀ i, pl i = nI (P i)) (hP : ∀ i, P i < 4096) (ha : a < 4096) (hb : b < 4096) (h : post (nI (ci_cnt (ci_on th (ci_bb P a b)) 40)) (ci_clr (ci_on th (ci_bb P a b)) th 40, pl, lb)) : wpY_clearBox post (th, pl, lb) (nI a) (nI b) := by
  unfold wpY_clearBox
  refine cy_countBox hp hP ha hb ?_
  by_cases c : ci_cnt (ci_on th (ci_bb P a b)) 40 = 0
  · have e : ci_clr (ci_on th (ci_bb P a b)) th 40 = th := by
      funext j
      refine if_neg (fun k => ?_)
      have := ci_cnt_0 c j k.1
      rw [this] at k
      exact absurd k.2 Bool.false_ne_true
    rw [c, e] at h
    rw [c]
    exact ⟨1, br_f (by decide) (br_t (by decide) h)⟩
  · have hc := ci_cnt_le (ci_on th (ci_bb P a b)) 40
    have r := cy_clearBox_10 (post := post) hp hP ha hb (c := ci_cnt (ci_on th (ci_bb P a b)) 40) (by omega) hc h 40 0 rfl
    rw [ci_clr_0] at r
    exact ⟨41, r⟩
theorem cy_clearBoxA {post : Int32 → SY → Prop} {x y : Int32} (h : x < 0 ∨ nI 4096 ≤ x) (hp : post (-1) (th, pl, lb)) : wpY_clearBox post (th, pl, lb) x y := by
  unfold wpY_clearBox
  exact cy_countBoxA h ⟨1, br_f (by decide) (br_t (by decide) hp)⟩
theorem cy_clearBoxB {post : Int32 → SY → Prop} {a : Nat} {y : Int32} (ha : a < 4096) (h : y < 0 ∨ nI 4096 ≤ y) (hp : post (-1) (th, pl, lb)) : wpY_clearBox post (th, pl, lb) (nI a) y := by
  unfold wpY_clearBox
  exact cy_countBoxB ha h ⟨1, br_f (by decide) (br_t (by decide) hp)⟩
/-! sums -/
def ci_sum (la : Nat → Int32) : List Nat → Int32
  | [] => 0
  | a :: l => la a + ci_sum la l
theorem ci_sum_snoc {la : Nat → Int32} {l : List Nat} {a : Nat} : ci_sum la (l ++ [a]) = ci_sum la l + la a := by
  induction l with
  | nil => show la a + 0 = 0 + la a; rw [Int32.add_zero, Int32.zero_add]
  | cons b l ih =>
    show la b + ci_sum la (l ++ [a]) = la b + ci_sum la l + la a
    rw [ih, Int32.add_assoc]
theorem ci_sum_perm {la : Nat → Int32} {l m : List Nat} (h : l.Perm m) : ci_sum la l = ci_sum la m := by
  induction h with
  | nil => rfl
  | cons a _ ih =>
    show la a + _ = la a + _
    rw [ih]
  | swap a b l =>
    show la b + (la a + ci_sum la l) = la a + (la b + ci_sum la l)
    rw [← Int32.add_assoc, ← Int32.add_assoc, Int32.add_comm (la b)]
  | trans _ _ i1 i2 => rw [i1, i2]
theorem ci_sum_t {la : Nat → Int32} {f : Nat → Bool} {n : Nat} (h : f n = true) : ci_sum la ((List.range (n + 1)).filter f) = ci_sum la ((List.range n).filter f) + la n := by
  rw [List.range_succ, List.filter_append, List.filter_cons_of_pos h]
  exact ci_sum_snoc
theorem ci_sum_f {la : Nat → Int32} {f : Nat → Bool} {n : Nat} (h : f n = false) : ci_sum la ((List.range (n + 1)).filter f) = ci_sum la ((List.range n).filter f) := by
  rw [List.range_succ, List.filter_append, List.filter_cons_of_neg (by rw [h]; exact Bool.false_ne_true), List.filter_nil, List.append_nil]
theorem cy_sumBox_23 {post : Int32 → Prop} {a b : Nat} (hp : ∀ i, pl i = nI (P i)) (hP : ∀ i, P i < 4096) (ha : a < 4096) (hb : b < 4096) (h : post (ci_sum lb ((List.range 40).filter (ci_on th (ci_bb P a b))))) : ∀ d i, i + d = 40 → wY_sumBox_23 post (nI a) (nI b) th pl lb (d + 1) (ci_sum lb ((List.range i).filter (ci_on th (ci_bb P a b)))) (nI i) := by
  intro d
  induction d with
  | zero =>
    intro i hi
    have hi : i = 40 := hi
    subst hi
    exact br_t (by decide) h
  | succ d ih =>
    intro i hi
    refine br_f (nI_ge (b := 40) (by omega) (by decide)) (cy_inBox hp (hP i) (by omega) ha hb (fun t => br_f (by decide) ⟨vp_in_nI (by omega) (by decide), nm_r (e' := ci_sum lb ((List.range (i + 1)).filter (ci_on th (ci_bb P a b)))) (by rw [ci_sum_t t, nI_clamp (by omega)]) (nm_r (nI_1 _) (ih (i + 1) (by omega)))⟩) (fun t => br_t rfl (nm_r (nI_1 _) ?_)))
    have := ih (i + 1) (by omega)
    rwa [ci_sum_f t] at this
theorem cy_sumBox {post : Int32 → Prop} {a b : Nat} (hp : ∀ i, pl i = nI (P i)) (hP : ∀ i, P i < 4096) (ha : a < 4096) (hb : b < 4096) (h : post (ci_sum lb ((ci_pts th).filter (ci_bb P a b)))) : wpY_sumBox post (th, pl, lb) (nI a) (nI b) := by
  unfold wpY_sumBox
  rw [ci_on_fil] at h
  exact cy_place1 ha (br_f (by decide) (cy_place1 hb (br_f (by decide) ⟨41, cy_sumBox_23 hp hP ha hb h 40 0 rfl⟩)))
/-! the first inside -/
theorem cy_firstIn_20 {post : Int32 → Prop} {a b t : Nat} (hp : ∀ i, pl i = nI (P i)) (hP : ∀ i, P i < 4096) (ha : a < 4096) (hb : b < 4096) (ht : t ≤ 40) (h0 : ∀ j, j < t → ci_on th (ci_bb P a b) j = false) (h1 : t < 40 → ci_on th (ci_bb P a b) t = true) (h2 : t < 40 → post (nI t)) (h3 : t = 40 → post (-3)) : ∀ d i, i + d = t → wY_firstIn_20 post (nI a) (nI b) th pl lb (d + 1) (nI i) := by
  intro d
  induction d with
  | zero =>
    intro i hi
    have hi : i = t := hi
    subst hi
    by_cases c : i = 40
    · subst c
      exact br_t (by decide) (h3 rfl)
    · refine br_f (nI_ge (b := 40) (by omega) (by decide)) (cy_inBox hp (hP i) (by omega) ha hb (fun g => br_f (by decide) (h2 (by omega))) (fun g => ?_))
      rw [h1 (by omega)] at g
      exact absurd g.symm Bool.false_ne_true
  | succ d ih =>
    intro i hi
    refine br_f (nI_ge (b := 40) (by omega) (by decide)) (cy_inBox hp (hP i) (by omega) ha hb (fun g => ?_) (fun g => br_t rfl (nm_r (nI_1 _) (ih (i + 1) (by omega)))))
    rw [h0 i (by omega)] at g
    exact absurd g Bool.false_ne_true
theorem cy_firstIn {post : Int32 → Prop} {a b t : Nat} (hp : ∀ i, pl i = nI (P i)) (hP : ∀ i, P i < 4096) (ha : a < 4096) (hb : b < 4096) (ht : t ≤ 40) (h0 : ∀ j, j < t → ci_on th (ci_bb P a b) j = false) (h1 : t < 40 → ci_on th (ci_bb P a b) t = true) (h2 : t < 40 → post (nI t)) (h3 : t = 40 → post (-3)) : wpY_firstIn post (th, pl, lb) (nI a) (nI b) := by
  unfold wpY_firstIn
  exact cy_place1 ha (br_f (by decide) (cy_place1 hb (br_f (by decide) ⟨t + 1, cy_firstIn_20 hp hP ha hb ht h0 h1 h2 h3 t 0 (Nat.zero_add t)⟩)))
theorem cy_count_4 {post : Int32 → Prop} (h : post (nI (ci_pts th).length)) : ∀ d i, i + d = 40 → wY_count_4 post th pl lb (d + 1) (nI (ci_cnt (fun i => decide (¬ th i = 0)) i)) (nI i) := by
  intro d
  induction d with
  | zero =>
    intro i hi
    have hi : i = 40 := hi
    subst hi
    exact br_t (by decide) h
  | succ d ih =>
    intro i hi
    have ec : (nI i).toNatClampNeg = i := nI_clamp (by omega)
    refine br_f (nI_ge (b := 40) (by omega) (by decide)) ⟨vp_in_nI (by omega) (by decide), ?_⟩
    rw [ec]
    have r := ih (i + 1) (by omega)
    by_cases c : th i = 0
    · rw [ci_cnt_f (decide_eq_false (fun k => k c))] at r
      exact br_t c (nm_r (nI_1 _) r)
    · rw [ci_cnt_t (decide_eq_true c)] at r
      exact br_f c (nm_r (nI_1 _) (nm_r (nI_1 _) r))
theorem cy_count {post : Int32 → Prop} (h : post (nI (ci_pts th).length)) : wpY_count post (th, pl, lb) := by
  unfold wpY_count
  exact ⟨41, cy_count_4 h 40 0 rfl⟩
end
end
section
/-! the relation -/
def ci_I (cn : Int32) (us xs ys ke pl : Nat → Int32) : Prop := ∃ (P : Nat → Nat) (ks : List Nat), ci_A P xs ys ∧ (∀ i, pl i = nI (P i)) ∧ ci_K ks cn ke ∧ ks.Perm ((ci_pts us).map (ci_key P))
def i_Rel (k : Nat) (u : SX) (v : SY) : Prop := match u, v with
  | (cn, _, _, _, _, _, _, _, us, xs, ys, la, ke, _), (th, pl, lb) => th = us ∧ lb = la ∧ ci_I cn us xs ys ke pl
theorem i_up {k : Nat} {u : SX} {v : SY} (h : i_Rel k u v) : i_Rel (k + 3) u v := h
theorem ci_el {C : SX → SY → Prop} {k : Nat} {u : SX} {v : SY} (h : ∀ cn le mo x0 x1 y0 y1 fo us xs ys la ke ins pl P ks, ci_A P xs ys → (∀ i, pl i = nI (P i)) → ci_K ks cn ke → ks.Perm ((ci_pts us).map (ci_key P)) → C (cn, le, mo, x0, x1, y0, y1, fo, us, xs, ys, la, ke, ins) (us, pl, la)) (I : i_Rel k u v) : C u v := by
  obtain ⟨cn, le, mo, x0, x1, y0, y1, fo, us, xs, ys, la, ke, ins⟩ := u
  obtain ⟨th, pl, lb⟩ := v
  obtain ⟨e1, e2, P, ks, h1, h2, h3, h4⟩ := I
  subst e1 e2
  exact h cn le mo x0 x1 y0 y1 fo _ xs ys _ ke ins pl P ks h1 h2 h3 h4
theorem ci_pts_zero : ci_pts (fun _ => 0) = [] := by decide +kernel
theorem ci_z0 : 0 < 4096 := by decide
theorem ci_z1 : (0 : Int32) = nI (0 % 64) := by decide
theorem ci_z2 : (0 : Int32) = nI (0 / 64) := by decide
theorem ci_z3 : (0 : Int32) = nI 0 := by decide
theorem i_vc0 : wpX_init (fun u => wpY_init (fun v => i_Rel 0 u v)) := by
  refine ⟨rfl, rfl, fun _ => 0, [], fun i => ⟨ci_z0, ci_z1, ci_z2⟩, fun i => ci_z3, ⟨rfl, by decide, fun i j _ h => absurd h (Nat.not_lt_zero j), fun j h => absurd h (Nat.not_lt_zero j), fun k h => by cases h⟩, ?_⟩
  rw [ci_pts_zero]
  exact List.Perm.refl _
theorem ci_n1 : vp_nar .boolean 1 = 1 := rfl
theorem ci_n0 : vp_nar .boolean 0 = 0 := rfl
def ci_set (P : Nat → Nat) (i p : Nat) : Nat → Nat := fun j => if j = i then p else P j
theorem ci_set_s {P : Nat → Nat} {i p : Nat} : ci_set P i p i = p := if_pos rfl
theorem ci_set_n {P : Nat → Nat} {i p j : Nat} (h : j ≠ i) : ci_set P i p j = P j := if_neg h
theorem ci_A_set {P : Nat → Nat} {xs ys : Nat → Int32} {i p : Nat} (hA : ci_A P xs ys) (hp : p < 4096) : ci_A (ci_set P i p) (upd xs i (nI (p % 64))) (upd ys i (nI (p / 64))) := by
  intro j
  by_cases c : j = i
  · subst c
    rw [ci_set_s, pk_us, pk_us]
    exact ⟨hp, rfl, rfl⟩
  · rw [ci_set_n c, pk_un c, pk_un c]
    exact hA j
theorem ci_pl_set {P : Nat → Nat} {pl : Nat → Int32} {i p : Nat} (h : ∀ j, pl j = nI (P j)) : ∀ j, upd pl i (nI p) j = nI (ci_set P i p j) := by
  intro j
  by_cases c : j = i
  · subst c
    rw [ci_set_s, pk_us]
  · rw [ci_set_n c, pk_un c]
    exact h j
theorem ci_map_set {P : Nat → Nat} {i p : Nat} {l : List Nat} (h : ¬ i ∈ l) : l.map (ci_key (ci_set P i p)) = l.map (ci_key P) := by
  refine List.map_congr_left (fun j hj => ?_)
  have e : j ≠ i := fun c => h (c ▸ hj)
  unfold ci_key
  rw [ci_set_n e]
theorem ci_off_mem {us : Nat → Int32} {i : Nat} : ¬ i ∈ ci_pts (upd us i 0) := by
  intro h
  have := (ci_mem_pts.mp h).2
  rw [pk_us] at this
  exact this rfl
theorem ci_free_lt {us : Nat → Int32} {t : Nat} (ht : t < 40) (h0 : us t = 0) : (ci_pts us).length < 40 := by
  have e := (ci_pts_on (x := 1) ht h0 (by decide)).length_eq
  have := ci_pts_len (upd us t 1)
  rw [List.length_cons] at e
  omega
theorem ci_first (f : Nat → Bool) : ∀ n, (∃ t, t < n ∧ f t = true ∧ ∀ j, j < t → f j = false) ∨ (∀ j, j < n → f j = false) := by
  intro n
  induction n with
  | zero => exact Or.inr (fun j h => absurd h (Nat.not_lt_zero j))
  | succ n ih =>
    rcases ih with ⟨t, h1, h2, h3⟩ | h
    · exact Or.inl ⟨t, by omega, h2, h3⟩
    · cases hf : f n with
      | true => exact Or.inl ⟨n, by omega, hf, h⟩
      | false => exact Or.inr (fun j hj => by
          by_cases c : j = n
          · rw [c]; exact hf
          · exact h j (by omega))
theorem ci_free (us : Nat → Int32) : (∃ t, t < 40 ∧ us t = 0 ∧ ∀ j, j < t → ¬ us j = 0) ∨ ((∀ j, j < 40 → ¬ us j = 0) ∧ (ci_pts us).length = 40) := by
  rcases ci_first (fun i => decide (us i = 0)) 40 with ⟨t, h1, h2, h3⟩ | h
  · exact Or.inl ⟨t, h1, of_decide_eq_true h2, fun j hj => of_decide_eq_false (h3 j hj)⟩
  · have h' : ∀ j, j < 40 → ¬ us j = 0 := fun j hj => of_decide_eq_false (h j hj)
    refine Or.inr ⟨h', ?_⟩
    have e : (List.range 40).filter (fun i => decide (¬ us i = 0)) = List.range 40 := List.filter_eq_self.mpr (fun j hj => decide_eq_true (h' j (List.mem_range.mp hj)))
    unfold ci_pts
    rw [e, List.length_range]
section
variable {cn le mo x0 x1 y0 y1 fo : Int32} {us xs ys la ke ins pl : Nat → Int32} {P : Nat → Nat} {ks : List Nat}
theorem ci_mk {k : Nat} (hA : ci_A P xs ys) (hp : ∀ i, pl i = nI (P i)) (hK : ci_K ks cn ke) (hP : ks.Perm ((ci_pts us).map (ci_key P))) : i_Rel k (cn, le, mo, x0, x1, y0, y1, fo, us, xs, ys, la, ke, ins) (us, pl, la) := ⟨rfl, rfl, P, ks, hA, hp, hK, hP⟩
theorem ci_len (hP : ks.Perm ((ci_pts us).map (ci_key P))) : ks.length = (ci_pts us).length := by
  rw [hP.length_eq, List.length_map]
theorem ci_key_in (hP : ks.Perm ((ci_pts us).map (ci_key P))) {i : Nat} (hi : i < 40) (hu : ¬ us i = 0) : ci_key P i ∈ ks :=
  hP.mem_iff.mpr (List.mem_map.mpr ⟨i, ci_mem_pts.mpr ⟨hi, hu⟩, rfl⟩)
/-- without point i -/
theorem ci_less (hP : ks.Perm ((ci_pts us).map (ci_key P))) {i : Nat} (hi : i < 40) (hu : ¬ us i = 0) {ks' : List Nat} (h : ks.Perm (ci_key P i :: ks')) : ks'.Perm ((ci_pts (upd us i 0)).map (ci_key P)) :=
  (h.symm.trans (hP.trans ((ci_pts_off hi hu).map (ci_key P)))).cons_inv
theorem cx_dropPoint {post : SX → Prop} {i : Nat} (hA : ci_A P xs ys) (hK : ci_K ks cn ke) (hP : ks.Perm ((ci_pts us).map (ci_key P))) (hi : i < 40) (hu : ¬ us i = 0) (h : ∀ ks' cn' ke', ci_K ks' cn' ke' → ks'.Perm ((ci_pts (upd us i 0)).map (ci_key P)) → post (cn', le, mo, x0, x1, y0, y1, fo, upd us i 0, xs, ys, la, ke', ins)) : wpX_dropPoint post (cn, le, mo, x0, x1, y0, y1, fo, us, xs, ys, la, ke, ins) (nI i) := by
  unfold wpX_dropPoint
  refine cx_take hA hK hi (ci_key_in hP hi hu) (fun ks' cn' ke' hK' hp' => ⟨vp_in_nI hi (by decide), nm_r (e' := upd us i 0) (by rw [nI_clamp (by omega)]; rfl) ?_⟩)
  exact h ks' cn' ke' hK' (ci_less hP hi hu hp')
theorem cx_add_44 {post : Int32 → SX → Prop} {t p : Nat} {x : Int32} (hA : ci_A P xs ys) (hK : ci_K ks cn ke) (hP : ks.Perm ((ci_pts us).map (ci_key P))) (ht : t < 40) (h0 : us t = 0) (hp : p < 4096) (h : ∀ ks' cn' ke', ci_K ks' cn' ke' → ks'.Perm ((ci_pts (upd us t 1)).map (ci_key (ci_set P t p))) → post (nI t) (cn', le, mo, x0, x1, y0, y1, fo, upd us t 1, upd xs t (nI (p % 64)), upd ys t (nI (p / 64)), upd la t x, ke', ins)) : wX_add_44 post (nI p) x (nI t) cn le mo x0 x1 y0 y1 fo us xs ys la ke ins := by
  unfold wX_add_44
  have hv : vp_in (nI t) 40 := vp_in_nI ht (by decide)
  have ec : (nI t).toNatClampNeg = t := nI_clamp (by omega)
  rw [ec, ci_x6 hp, ci_y6 (by omega), ci_n1]
  refine ⟨hv, nm_e ⟨hv, nm_e ⟨hv, nm_e ⟨hv, nm_e ?_⟩⟩⟩⟩
  have hnt : ¬ t ∈ ci_pts us := fun c => (ci_mem_pts.mp c).2 h0
  have em := ci_map_set (P := P) (p := p) hnt
  have hl : ks.length < 40 := by rw [ci_len hP]; exact ci_free_lt ht h0
  refine cx_insert (P := ci_set P t p) (ks := ks) (ci_A_set hA hp) hK hl ht (fun c => ?_) (fun ks' cn' ke' hK' hp' => h ks' cn' ke' hK' ?_)
  · obtain ⟨j, hj, e⟩ := List.mem_map.mp (hP.mem_iff.mp c)
    have hj40 := (ci_mem_pts.mp hj).1
    have e2 := congrArg (fun k => k % 64) e
    have e2 : ci_key P j % 64 = ci_key (ci_set P t p) t % 64 := e2
    rw [ci_key_i hj40, ci_key_i ht] at e2
    exact hnt (e2 ▸ hj)
  · rw [← em] at hP
    exact hp'.trans ((hP.cons _).trans ((ci_pts_on (x := 1) ht h0 (by decide)).map (ci_key (ci_set P t p))).symm)
theorem cx_add_23 {post : Int32 → SX → Prop} {t : Nat} {x y : Int32} (ht : t < 40) (h0 : us t = 0) (h1 : ∀ j, j < t → ¬ us j = 0) (h : wX_add_44 post x y (nI t) cn le mo x0 x1 y0 y1 fo us xs ys la ke ins) : ∀ d i, i + d = t → wX_add_23 post x y cn le mo x0 x1 y0 y1 fo us xs ys la ke ins (d + 1) (nI i) := by
  intro d
  induction d with
  | zero =>
    intro i hi
    have hi : i = t := hi
    subst hi
    by_cases c : i = 39
    · exact br_t (nI_le (a := 39) (by omega) (by omega)) h
    · exact br_f (nI_ge (b := 39) (by omega) (by decide)) ⟨vp_in_nI (by omega) (by decide), br_t (by rw [nI_clamp (by omega)]; exact h0) h⟩
  | succ d ih =>
    intro i hi
    exact br_f (nI_ge (b := 39) (by omega) (by decide)) ⟨vp_in_nI (by omega) (by decide), br_f (by rw [nI_clamp (by omega)]; exact h1 i (by omega)) (nm_r (nI_1 i) (ih (i + 1) (by omega)))⟩
theorem cy_add_12 {post : Int32 → SY → Prop} {t p : Nat} {y : Int32} (ht : t < 40) (h0 : us t = 0) (h1 : ∀ j, j < t → ¬ us j = 0) (h : post (nI t) (upd us t 1, upd pl t (nI p), upd la t y)) : ∀ d i, i + d = t → wY_add_12 post (nI p) y us pl la (d + 1) (nI i) := by
  intro d
  induction d with
  | zero =>
    intro i hi
    have hi : i = t := hi
    subst hi
    have hv : vp_in (nI i) 40 := vp_in_nI ht (by decide)
    have ec : (nI i).toNatClampNeg = i := nI_clamp (by omega)
    refine br_f (nI_ge (b := 40) (by omega) (by decide)) ⟨hv, ?_⟩
    rw [ec, ci_n1]
    exact br_t h0 ⟨hv, nm_e ⟨hv, nm_e ⟨hv, nm_e h⟩⟩⟩
  | succ d ih =>
    intro i hi
    exact br_f (nI_ge (b := 40) (by omega) (by decide)) ⟨vp_in_nI (by omega) (by decide), br_f (by rw [nI_clamp (by omega)]; exact h1 i (by omega)) (nm_r (nI_1 i) (ih (i + 1) (by omega)))⟩
theorem cy_add_full {post : Int32 → SY → Prop} {x y : Int32} (h1 : ∀ j, j < 40 → ¬ us j = 0) (h : post (-2) (us, pl, la)) : ∀ d i, i + d = 40 → wY_add_12 post x y us pl la (d + 1) (nI i) := by
  intro d
  induction d with
  | zero =>
    intro i hi
    have hi : i = 40 := hi
    subst hi
    exact br_t (by decide) h
  | succ d ih =>
    intro i hi
    exact br_f (nI_ge (b := 40) (by omega) (by decide)) ⟨vp_in_nI (by omega) (by decide), br_f (by rw [nI_clamp (by omega)]; exact h1 i (by omega)) (nm_r (nI_1 i) (ih (i + 1) (by omega)))⟩
end
theorem i_vc_add {k : Nat} {u : SX} {v : SY} (I : i_Rel k u v) (hk : k + 3 ≤ 1536) (v1 : Int32) (v2 : Int32) : wpX_add (fun r u' => wpY_add (fun r' v' => r' = r ∧ i_Rel (k + 3) u' v') v v1 v2) u v1 v2 := by
  refine ci_el (C := fun u v => wpX_add (fun r u' => wpY_add (fun r' v' => r' = r ∧ i_Rel (k + 3) u' v') v v1 v2) u v1 v2) ?_ I
  intro cn le mo x0 x1 y0 y1 fo us xs ys la ke ins pl P ks hA hp hK hP
  have hbad : (v1 < 0 ∨ nI 4096 ≤ v1) → wpX_add (fun r u' => wpY_add (fun r' v' => r' = r ∧ i_Rel (k + 3) u' v') (us, pl, la) v1 v2) (cn, le, mo, x0, x1, y0, y1, fo, us, xs, ys, la, ke, ins) v1 v2 := by
    intro h
    unfold wpX_add
    refine cx_bad1 h (br_f (by decide) ?_)
    unfold wpY_add
    exact cy_place0 h (br_t rfl ⟨rfl, ci_mk hA hp hK hP⟩)
  rcases pk_ix v1 (n := 4096) (by decide) with h | h | ⟨p, h, rfl⟩
  · exact hbad (Or.inl h)
  · exact hbad (Or.inr h)
  · unfold wpX_add
    refine cx_bad0 h (br_t rfl ?_)
    have ec := hK.1
    have el := ci_len hP
    rcases ci_free us with ⟨t, t1, t2, t3⟩ | ⟨t1, t2⟩
    · have := ci_free_lt t1 t2
      refine br_t (by rw [ec]; exact nI_lt (b := 40) (by omega) (by decide)) ⟨t + 1, cx_add_23 t1 t2 t3 (cx_add_44 hA hK hP t1 t2 h (fun ks' cn' ke' hK' hP' => ?_)) t 0 (Nat.zero_add t)⟩
      unfold wpY_add
      exact cy_place1 h (br_f (by decide) ⟨t + 1, cy_add_12 t1 t2 t3 ⟨rfl, ci_mk (ci_A_set hA h) (ci_pl_set hp) hK' hP'⟩ t 0 (Nat.zero_add t)⟩)
    · refine br_f (by rw [ec]; exact nI_nlt (b := 40) (by omega) (by omega)) ?_
      unfold wpY_add
      exact cy_place1 h (br_f (by decide) ⟨41, cy_add_full t1 ⟨rfl, ci_mk hA hp hK hP⟩ 40 0 rfl⟩)
theorem i_vc_remove {k : Nat} {u : SX} {v : SY} (I : i_Rel k u v) (hk : k + 3 ≤ 1536) (v1 : Int32) : wpX_remove (fun r u' => wpY_remove (fun r' v' => r' = r ∧ i_Rel (k + 3) u' v') v v1) u v1 := by
  refine ci_el (C := fun u v => wpX_remove (fun r u' => wpY_remove (fun r' v' => r' = r ∧ i_Rel (k + 3) u' v') v v1) u v1) ?_ I
  intro cn le mo x0 x1 y0 y1 fo us xs ys la ke ins pl P ks hA hp hK hP
  have hbad : (v1 < 0 ∨ nI 40 ≤ v1) → wpX_remove (fun r u' => wpY_remove (fun r' v' => r' = r ∧ i_Rel (k + 3) u' v') (us, pl, la) v1) (cn, le, mo, x0, x1, y0, y1, fo, us, xs, ys, la, ke, ins) v1 := by
    intro h
    unfold wpX_remove
    refine cx_noPoint1 h (br_f (by decide) ?_)
    unfold wpY_remove
    exact cy_point0 h (br_t rfl ⟨rfl, ci_mk hA hp hK hP⟩)
  rcases pk_ix v1 (n := 40) (by decide) with h | h | ⟨i, h, rfl⟩
  · exact hbad (Or.inl h)
  · exact hbad (Or.inr h)
  · unfold wpX_remove
    by_cases c : us i = 0
    · refine cx_noPointU h c (br_f (by decide) ?_)
      unfold wpY_remove
      exact cy_pointU h c (br_t rfl ⟨rfl, ci_mk hA hp hK hP⟩)
    · refine cx_noPoint0 h c (br_t rfl (cx_dropPoint hA hK hP h c (fun ks' cn' ke' hK' hP' => ?_)))
      unfold wpY_remove
      refine cy_point1 h c (br_f (by decide) ⟨vp_in_nI h (by decide), nm_r (e' := upd us i 0) (by rw [nI_clamp (by omega)]; rfl) (cy_count ⟨?_, ci_mk hA hp hK' hP'⟩)⟩)
      rw [hK'.1, ci_len hP']
theorem i_vc_move {k : Nat} {u : SX} {v : SY} (I : i_Rel k u v) (hk : k + 3 ≤ 1536) (v1 : Int32) (v2 : Int32) : wpX_move (fun r u' => wpY_move (fun r' v' => r' = r ∧ i_Rel (k + 3) u' v') v v1 v2) u v1 v2 := by
  refine ci_el (C := fun u v => wpX_move (fun r u' => wpY_move (fun r' v' => r' = r ∧ i_Rel (k + 3) u' v') v v1 v2) u v1 v2) ?_ I
  intro cn le mo x0 x1 y0 y1 fo us xs ys la ke ins pl P ks hA hp hK hP
  have hbad : (v1 < 0 ∨ nI 40 ≤ v1) → wpX_move (fun r u' => wpY_move (fun r' v' => r' = r ∧ i_Rel (k + 3) u' v') (us, pl, la) v1 v2) (cn, le, mo, x0, x1, y0, y1, fo, us, xs, ys, la, ke, ins) v1 v2 := by
    intro h
    unfold wpX_move
    refine cx_noPoint1 h (br_f (by decide) ?_)
    unfold wpY_move
    exact cy_point0 h (br_t rfl ⟨rfl, ci_mk hA hp hK hP⟩)
  rcases pk_ix v1 (n := 40) (by decide) with h | h | ⟨i, h, rfl⟩
  · exact hbad (Or.inl h)
  · exact hbad (Or.inr h)
  · by_cases c : us i = 0
    · unfold wpX_move
      refine cx_noPointU h c (br_f (by decide) ?_)
      unfold wpY_move
      exact cy_pointU h c (br_t rfl ⟨rfl, ci_mk hA hp hK hP⟩)
    · have hbad2 : (v2 < 0 ∨ nI 4096 ≤ v2) → wpX_move (fun r u' => wpY_move (fun r' v' => r' = r ∧ i_Rel (k + 3) u' v') (us, pl, la) (nI i) v2) (cn, le, mo, x0, x1, y0, y1, fo, us, xs, ys, la, ke, ins) (nI i) v2 := by
        intro h2
        unfold wpX_move
        refine cx_noPoint0 h c (br_t rfl (cx_bad1 h2 (br_f (by decide) ?_)))
        unfold wpY_move
        exact cy_point1 h c (br_f (by decide) (cy_place0 h2 (br_t rfl ⟨rfl, ci_mk hA hp hK hP⟩)))
      rcases pk_ix v2 (n := 4096) (by decide) with h2 | h2 | ⟨p, h2, rfl⟩
      · exact hbad2 (Or.inl h2)
      · exact hbad2 (Or.inr h2)
      · have hv : vp_in (nI i) 40 := vp_in_nI h (by decide)
        have ec : (nI i).toNatClampNeg = i := nI_clamp (by omega)
        have hpi := (hA i).1
        have eo : xs (nI i).toNatClampNeg + 64 * ys (nI i).toNatClampNeg = nI (P i) := by
          rw [ec, (hA i).2.1, (hA i).2.2]
          have e : (64 : Int32) * nI (P i / 64) = nI (64 * (P i / 64)) := pk_mul 64 (P i / 64)
          rw [e, nI_add]
          exact congrArg nI (by omega)
        unfold wpX_move
        refine cx_noPoint0 h c (br_t rfl (cx_bad0 h2 (br_t rfl ⟨hv, hv, nm_r eo (cx_take hA hK h (ci_key_in hP h c) (fun ks1 cn1 ke1 hK1 hp1 => ⟨hv, nm_r (e' := upd xs i (nI (p % 64))) (by rw [ec, ci_x6 h2]) ⟨hv, nm_r (e' := upd ys i (nI (p / 64))) (by rw [ec, ci_y6 (by omega)]) ?_⟩⟩))⟩)))
        have hl1 := ci_less hP h c hp1
        have em := ci_map_set (P := P) (p := p) (ci_off_mem (us := us) (i := i))
        rw [← em] at hl1
        have hlen : ks1.length < 40 := by
          have e := hp1.length_eq
          rw [List.length_cons] at e
          have := hK.2.1
          omega
        refine cx_insert (P := ci_set P i p) (ks := ks1) (ci_A_set hA h2) hK1 hlen h (fun cc => ?_) (fun ks' cn' ke' hK' hp' => ?_)
        · obtain ⟨j, hj, e⟩ := List.mem_map.mp (hl1.mem_iff.mp cc)
          have hj40 := (ci_mem_pts.mp hj).1
          have e2 := congrArg (fun k => k % 64) e
          have e2 : ci_key (ci_set P i p) j % 64 = ci_key (ci_set P i p) i % 64 := e2
          rw [ci_key_i hj40, ci_key_i h] at e2
          exact ci_off_mem (e2 ▸ hj)
        · unfold wpY_move
          refine cy_point1 h c (br_f (by decide) (cy_place1 h2 (br_f (by decide) ⟨hv, nm_r (e' := nI (P i)) (by rw [ec, hp i]) ⟨hv, nm_r (e' := upd pl i (nI p)) (by rw [ec]) ⟨rfl, ci_mk (P := ci_set P i p) (ci_A_set hA h2) (ci_pl_set hp) hK' ?_⟩⟩⟩)))
          exact hp'.trans ((hl1.cons _).trans ((ci_pts_off h c).map (ci_key (ci_set P i p))).symm)
theorem i_vc_placeOf {k : Nat} {u : SX} {v : SY} (I : i_Rel k u v) (hk : k + 3 ≤ 1536) (v1 : Int32) : wpX_placeOf (fun r => wpY_placeOf (fun r' => r' = r ∧ i_Rel (k + 3) u v) v v1) u v1 := by
  refine ci_el (C := fun u v => wpX_placeOf (fun r => wpY_placeOf (fun r' => r' = r ∧ i_Rel (k + 3) u v) v v1) u v1) ?_ I
  intro cn le mo x0 x1 y0 y1 fo us xs ys la ke ins pl P ks hA hp hK hP
  have hbad : (v1 < 0 ∨ nI 40 ≤ v1) → wpX_placeOf (fun r => wpY_placeOf (fun r' => r' = r ∧ i_Rel (k + 3) (cn, le, mo, x0, x1, y0, y1, fo, us, xs, ys, la, ke, ins) (us, pl, la)) (us, pl, la) v1) (cn, le, mo, x0, x1, y0, y1, fo, us, xs, ys, la, ke, ins) v1 := by
    intro h
    unfold wpX_placeOf
    refine cx_noPoint1 h (br_f (by decide) ?_)
    unfold wpY_placeOf
    exact cy_point0 h (br_t rfl ⟨rfl, ci_mk hA hp hK hP⟩)
  rcases pk_ix v1 (n := 40) (by decide) with h | h | ⟨i, h, rfl⟩
  · exact hbad (Or.inl h)
  · exact hbad (Or.inr h)
  · unfold wpX_placeOf
    have hv : vp_in (nI i) 40 := vp_in_nI h (by decide)
    by_cases c : us i = 0
    · refine cx_noPointU h c (br_f (by decide) ?_)
      unfold wpY_placeOf
      exact cy_pointU h c (br_t rfl ⟨rfl, ci_mk hA hp hK hP⟩)
    · refine cx_noPoint0 h c (br_t rfl ⟨hv, hv, ?_⟩)
      unfold wpY_placeOf
      refine cy_point1 h c (br_f (by decide) ⟨hv, ?_, ci_mk hA hp hK hP⟩)
      have hpi := (hA i).1
      have e : (64 : Int32) * nI (P i / 64) = nI (64 * (P i / 64)) := pk_mul 64 (P i / 64)
      rw [nI_clamp (by omega), (hA i).2.1, (hA i).2.2, hp i, e, nI_add]
      exact congrArg nI (by omega)
theorem i_vc_labelOf {k : Nat} {u : SX} {v : SY} (I : i_Rel k u v) (hk : k + 3 ≤ 1536) (v1 : Int32) : wpX_labelOf (fun r => wpY_labelOf (fun r' => r' = r ∧ i_Rel (k + 3) u v) v v1) u v1 := by
  refine ci_el (C := fun u v => wpX_labelOf (fun r => wpY_labelOf (fun r' => r' = r ∧ i_Rel (k + 3) u v) v v1) u v1) ?_ I
  intro cn le mo x0 x1 y0 y1 fo us xs ys la ke ins pl P ks hA hp hK hP
  have hbad : (v1 < 0 ∨ nI 40 ≤ v1) → wpX_labelOf (fun r => wpY_labelOf (fun r' => r' = r ∧ i_Rel (k + 3) (cn, le, mo, x0, x1, y0, y1, fo, us, xs, ys, la, ke, ins) (us, pl, la)) (us, pl, la) v1) (cn, le, mo, x0, x1, y0, y1, fo, us, xs, ys, la, ke, ins) v1 := by
    intro h
    unfold wpX_labelOf
    refine cx_noPoint1 h (br_f (by decide) ?_)
    unfold wpY_labelOf
    exact cy_point0 h (br_t rfl ⟨rfl, ci_mk hA hp hK hP⟩)
  rcases pk_ix v1 (n := 40) (by decide) with h | h | ⟨i, h, rfl⟩
  · exact hbad (Or.inl h)
  · exact hbad (Or.inr h)
  · unfold wpX_labelOf
    have hv : vp_in (nI i) 40 := vp_in_nI h (by decide)
    by_cases c : us i = 0
    · refine cx_noPointU h c (br_f (by decide) ?_)
      unfold wpY_labelOf
      exact cy_pointU h c (br_t rfl ⟨rfl, ci_mk hA hp hK hP⟩)
    · refine cx_noPoint0 h c (br_t rfl ⟨hv, ?_⟩)
      unfold wpY_labelOf
      exact cy_point1 h c (br_f (by decide) ⟨hv, rfl, ci_mk hA hp hK hP⟩)
theorem i_vc_count {k : Nat} {u : SX} {v : SY} (I : i_Rel k u v) (hk : k + 3 ≤ 1536) : wpX_count (fun r => wpY_count (fun r' => r' = r ∧ i_Rel (k + 3) u v) v) u := by
  refine ci_el (C := fun u v => wpX_count (fun r => wpY_count (fun r' => r' = r ∧ i_Rel (k + 3) u v) v) u) ?_ I
  intro cn le mo x0 x1 y0 y1 fo us xs ys la ke ins pl P ks hA hp hK hP
  unfold wpX_count
  refine cy_count ⟨?_, ci_mk hA hp hK hP⟩
  rw [hK.1, ci_len hP]
end
section
/-! questions of boxes -/
theorem ci_ix (x : Int32) {n : Nat} (hn : n < 2 ^ 31) : (x < 0 ∨ nI n ≤ x) ∨ ∃ j : Nat, j < n ∧ x = nI j := by
  rcases pk_ix x hn with h | h | h
  · exact Or.inl (Or.inl h)
  · exact Or.inl (Or.inr h)
  · exact Or.inr h
theorem ci_nd {L : List Nat} (h : L.Nodup) : ∀ i j, i < j → j < L.length → ci_g L i ≠ ci_g L j := by
  induction L with
  | nil => intro i j _ c; exact absurd c (Nat.not_lt_zero j)
  | cons a l ih =>
    rw [List.nodup_cons] at h
    intro i j hij hj
    obtain ⟨j', rfl⟩ : ∃ j', j = j' + 1 := ⟨j - 1, by omega⟩
    have hj' : j' < l.length := Nat.lt_of_succ_lt_succ hj
    cases i with
    | zero =>
      intro c
      have c : a = ci_g l j' := c
      exact h.1 (c ▸ ci_g_mem hj')
    | succ i => exact ih h.2 i j' (by omega) hj'
theorem ci_nd_take {L : List Nat} (h : L.Nodup) {i : Nat} (hi : i < L.length) : ¬ ci_g L i ∈ L.take i := by
  intro c
  obtain ⟨j, h1, h2⟩ := ci_mem_g c
  have h3 := List.length_take_le i L
  rw [ci_g_take (by omega)] at h2
  exact ci_nd h j i (by omega) hi h2
def ci_off (us : Nat → Int32) (l : List Nat) : Nat → Int32 := fun j => if j ∈ l then 0 else us j
theorem ci_off_nil (us : Nat → Int32) : ci_off us [] = us := funext (fun j => if_neg (fun c => by cases c))
theorem ci_off_snoc {us : Nat → Int32} {l : List Nat} {a : Nat} : upd (ci_off us l) a 0 = ci_off us (l ++ [a]) := by
  funext j
  by_cases c : j = a
  · subst c
    rw [pk_us]
    exact (if_pos (List.mem_append_right _ List.mem_cons_self)).symm
  · rw [pk_un c]
    unfold ci_off
    by_cases d : j ∈ l
    · rw [if_pos d, if_pos (List.mem_append_left _ d)]
    · rw [if_neg d, if_neg (fun k => by
        rcases List.mem_append.mp k with k | k
        · exact d k
        · exact c (List.mem_singleton.mp k))]
section
variable {cn le mo x0 x1 y0 y1 fo : Int32} {us xs ys la ke ins pl : Nat → Int32} {P : Nat → Nat} {ks L : List Nat}
theorem cx_sumBox_31 {post : Int32 → SX → Prop} (hR : ci_R ins L) (hl : L.length ≤ 40) (hm : ∀ i, i ∈ L → i < 40) (h : post (ci_sum la L) (cn, le, mo, x0, x1, y0, y1, nI L.length, us, xs, ys, la, ke, ins)) : ∀ d i, i + d = L.length → wX_sumBox_31 post cn le mo x0 x1 y0 y1 (nI L.length) us xs ys la ke ins (d + 1) (ci_sum la (L.take i)) (nI i) := by
  intro d
  induction d with
  | zero =>
    intro i hi
    have hi : i = L.length := hi
    subst hi
    rw [List.take_length]
    exact br_t (nI_le (Nat.le_refl _) (by omega)) h
  | succ d ih =>
    intro i hi
    have hi2 : i < L.length := by omega
    have ei : ins (nI i).toNatClampNeg = nI (ci_g L i) := by
      rw [nI_clamp (by omega)]
      exact hR i hi2
    have hg := hm _ (ci_g_mem hi2)
    refine br_f (nI_ge hi2 (by omega)) ⟨vp_in_nI (by omega) (by decide), ?_⟩
    rw [ei]
    refine ⟨vp_in_nI hg (by decide), nm_r (e' := ci_sum la (L.take (i + 1))) ?_ (nm_r (nI_1 i) (ih (i + 1) (by omega)))⟩
    rw [nI_clamp (by omega), ci_take_s hi2, ci_sum_snoc]
theorem cx_firstIn_32 {post : Int32 → SX → Prop} (hR : ci_R ins L) (hl : L.length ≤ 40) (hm : ∀ i, i ∈ L → i < 40) (h0 : L = [] → post (-3) (cn, le, mo, x0, x1, y0, y1, nI L.length, us, xs, ys, la, ke, ins)) (h1 : ∀ m, m ∈ L → (∀ j, j ∈ L → m ≤ j) → post (nI m) (cn, le, mo, x0, x1, y0, y1, nI L.length, us, xs, ys, la, ke, ins)) : ∀ d i (x : Int32), i + d = L.length → ((i = 0 ∧ x = -3) ∨ ∃ m, x = nI m ∧ m ∈ L ∧ ∀ j, j < i → m ≤ ci_g L j) → wX_firstIn_32 post cn le mo x0 x1 y0 y1 (nI L.length) us xs ys la ke ins (d + 1) x (nI i) := by
  intro d
  induction d with
  | zero =>
    intro i x hi hx
    have hi : i = L.length := hi
    subst hi
    refine br_t (nI_le (Nat.le_refl _) (by omega)) ?_
    rcases hx with ⟨e, rfl⟩ | ⟨m, rfl, g1, g2⟩
    · exact h0 (List.eq_nil_of_length_eq_zero e)
    · refine h1 m g1 (fun a ha => ?_)
      obtain ⟨j, k1, k2⟩ := ci_mem_g ha
      rw [← k2]
      exact g2 j k1
  | succ d ih =>
    intro i x hi hx
    have hi2 : i < L.length := by omega
    have hv : vp_in (nI i) 40 := vp_in_nI (by omega) (by decide)
    have ei : ins (nI i).toNatClampNeg = nI (ci_g L i) := by
      rw [nI_clamp (by omega)]
      exact hR i hi2
    have hgm := ci_g_mem hi2
    have hg := hm _ hgm
    refine br_f (nI_ge hi2 (by omega)) ?_
    rw [ei]
    rcases hx with ⟨e, rfl⟩ | ⟨m, rfl, g1, g2⟩
    · refine br_t (by decide) ⟨hv, nm_e (nm_r (nI_1 i) (ih (i + 1) _ (by omega) (Or.inr ⟨ci_g L i, rfl, hgm, fun j hj => ?_⟩)))⟩
      have : j = i := by omega
      rw [this]
      exact Nat.le_refl _
    · have hmm := hm m g1
      refine br_f (nI_pos (by omega)) ⟨hv, pk_le m (ci_g L i) (fun c => nm_r (nI_1 i) (ih (i + 1) _ (by omega) (Or.inr ⟨m, rfl, g1, fun j hj => ?_⟩))) (fun c => ⟨hv, nm_e (nm_r (nI_1 i) (ih (i + 1) _ (by omega) (Or.inr ⟨ci_g L i, rfl, hgm, fun j hj => ?_⟩)))⟩) rfl rfl (by omega) (by omega)⟩
      · by_cases e : j = i
        · rw [e]; exact c
        · exact g2 j (by omega)
      · by_cases e : j = i
        · rw [e]; exact Nat.le_refl _
        · exact Nat.le_trans (Nat.le_of_lt c) (g2 j (by omega))
theorem cx_clear_28 {post : Int32 → SX → Prop} (hA : ci_A P xs ys) (hR : ci_R ins L) (hl : L.length ≤ 40) (hn : L.Nodup) (hu : ∀ i, i ∈ L → i < 40 ∧ ¬ us i = 0) (h : ∀ ks' cn' ke', ci_K ks' cn' ke' → ks'.Perm ((ci_pts (ci_off us L)).map (ci_key P)) → post (nI L.length) (cn', le, mo, x0, x1, y0, y1, nI L.length, ci_off us L, xs, ys, la, ke', ins)) : ∀ d i (cn : Int32) (ke : Nat → Int32) (ks : List Nat), i + d = L.length → ci_K ks cn ke → ks.Perm ((ci_pts (ci_off us (L.take i))).map (ci_key P)) → wX_clearBox_28 post (d + 1) (nI i) cn le mo x0 x1 y0 y1 (nI L.length) (ci_off us (L.take i)) xs ys la ke ins := by
  intro d
  induction d with
  | zero =>
    intro i cn ke ks hi hK hP
    have hi : i = L.length := hi
    subst hi
    rw [List.take_length] at hP ⊢
    exact br_t (nI_le (Nat.le_refl _) (by omega)) (h ks cn ke hK hP)
  | succ d ih =>
    intro i cn ke ks hi hK hP
    have hi2 : i < L.length := by omega
    have ei : ins (nI i).toNatClampNeg = nI (ci_g L i) := by
      rw [nI_clamp (by omega)]
      exact hR i hi2
    have hg := hu _ (ci_g_mem hi2)
    refine br_f (nI_ge hi2 (by omega)) ⟨vp_in_nI (by omega) (by decide), ?_⟩
    rw [ei]
    refine cx_dropPoint hA hK hP hg.1 (fun c => ?_) (fun ks' cn' ke' hK' hP' => nm_r (nI_1 i) ?_)
    · have e : ci_off us (L.take i) (ci_g L i) = us (ci_g L i) := if_neg (ci_nd_take hn hi2)
      rw [e] at c
      exact hg.2 c
    · rw [ci_off_snoc, ← ci_take_s hi2] at hP' ⊢
      exact ih (i + 1) cn' ke' ks' (by omega) hK' hP'
theorem ci_box_mem {p : Nat → Bool} (hL : L.Perm ((ci_pts us).filter p)) : (∀ i, i ∈ L ↔ (i < 40 ∧ ci_on us p i = true)) ∧ L.length ≤ 40 ∧ L.Nodup ∧ L.length = ci_cnt (ci_on us p) 40 := by
  have e := hL.length_eq
  rw [ci_on_cnt] at e
  rw [ci_on_fil] at hL
  refine ⟨fun i => ?_, ?_, ?_, e⟩
  · rw [hL.mem_iff, List.mem_filter, List.mem_range]
  · rw [e]; exact ci_cnt_le _ _
  · exact hL.symm.nodup (List.Nodup.sublist List.filter_sublist List.nodup_range)
end
theorem i_vc_countBox {k : Nat} {u : SX} {v : SY} (I : i_Rel k u v) (hk : k + 3 ≤ 1536) (v1 : Int32) (v2 : Int32) : wpX_countBox (fun r u' => wpY_countBox (fun r' => r' = r ∧ i_Rel (k + 3) u' v) v v1 v2) u v1 v2 := by
  refine ci_el (C := fun u v => wpX_countBox (fun r u' => wpY_countBox (fun r' => r' = r ∧ i_Rel (k + 3) u' v) v v1 v2) u v1 v2) ?_ I
  intro cn le mo x0 x1 y0 y1 fo us xs ys la ke ins pl P ks hA hp hK hP
  unfold wpX_countBox
  rcases ci_ix v1 (n := 4096) (by decide) with h | ⟨a, ha, rfl⟩
  · exact cx_bad1 h (br_f (by decide) (cy_countBoxA h ⟨rfl, ci_mk hA hp hK hP⟩))
  · refine cx_bad0 ha (br_t rfl ?_)
    rcases ci_ix v2 (n := 4096) (by decide) with h | ⟨b, hb, rfl⟩
    · exact cx_bad1 h (br_f (by decide) (cy_countBoxB ha h ⟨rfl, ci_mk hA hp hK hP⟩))
    · refine cx_bad0 hb (br_t rfl (cx_setBoxOf ha hb ?_))
      refine cx_walk hA hK hP (ci_mn_lt (by omega) (by omega)) (ci_mx_lt (by omega) (by omega)) (ci_mn_lt (by omega) (by omega)) (ci_mx_lt (by omega) (by omega)) (fun L fo' ins' ef hR hL => ?_)
      have hL : L.Perm ((ci_pts us).filter (ci_bb P a b)) := hL
      refine cy_countBox hp (fun i => (hA i).1) ha hb ⟨?_, ci_mk hA hp hK hP⟩
      rw [ef, (ci_box_mem hL).2.2.2]
theorem i_vc_sumBox {k : Nat} {u : SX} {v : SY} (I : i_Rel k u v) (hk : k + 3 ≤ 1536) (v1 : Int32) (v2 : Int32) : wpX_sumBox (fun r u' => wpY_sumBox (fun r' => r' = r ∧ i_Rel (k + 3) u' v) v v1 v2) u v1 v2 := by
  refine ci_el (C := fun u v => wpX_sumBox (fun r u' => wpY_sumBox (fun r' => r' = r ∧ i_Rel (k + 3) u' v) v v1 v2) u v1 v2) ?_ I
  intro cn le mo x0 x1 y0 y1 fo us xs ys la ke ins pl P ks hA hp hK hP
  have hbad : (v1 < 0 ∨ nI 4096 ≤ v1) → wpX_sumBox (fun r u' => wpY_sumBox (fun r' => r' = r ∧ i_Rel (k + 3) u' (us, pl, la)) (us, pl, la) v1 v2) (cn, le, mo, x0, x1, y0, y1, fo, us, xs, ys, la, ke, ins) v1 v2 := by
    intro h
    unfold wpX_sumBox
    refine cx_bad1 h (br_f (by decide) ?_)
    unfold wpY_sumBox
    exact cy_place0 h (br_t rfl ⟨rfl, ci_mk hA hp hK hP⟩)
  rcases pk_ix v1 (n := 4096) (by decide) with h | h | ⟨a, ha, rfl⟩
  · exact hbad (Or.inl h)
  · exact hbad (Or.inr h)
  · have hbad2 : (v2 < 0 ∨ nI 4096 ≤ v2) → wpX_sumBox (fun r u' => wpY_sumBox (fun r' => r' = r ∧ i_Rel (k + 3) u' (us, pl, la)) (us, pl, la) (nI a) v2) (cn, le, mo, x0, x1, y0, y1, fo, us, xs, ys, la, ke, ins) (nI a) v2 := by
      intro h
      unfold wpX_sumBox
      refine cx_bad0 ha (br_t rfl (cx_bad1 h (br_f (by decide) ?_)))
      unfold wpY_sumBox
      exact cy_place1 ha (br_f (by decide) (cy_place0 h (br_t rfl ⟨rfl, ci_mk hA hp hK hP⟩)))
    rcases pk_ix v2 (n := 4096) (by decide) with h | h | ⟨b, hb, rfl⟩
    · exact hbad2 (Or.inl h)
    · exact hbad2 (Or.inr h)
    · unfold wpX_sumBox
      refine cx_bad0 ha (br_t rfl (cx_bad0 hb (br_t rfl (cx_setBoxOf ha hb ?_))))
      refine cx_walk hA hK hP (ci_mn_lt (by omega) (by omega)) (ci_mx_lt (by omega) (by omega)) (ci_mn_lt (by omega) (by omega)) (ci_mx_lt (by omega) (by omega)) (fun L fo' ins' ef hR hL => ?_)
      have hL : L.Perm ((ci_pts us).filter (ci_bb P a b)) := hL
      have hB := ci_box_mem hL
      rw [ef]
      refine ⟨L.length + 1, cx_sumBox_31 hR hB.2.1 (fun i hi => ((hB.1 i).mp hi).1) ?_ L.length 0 (Nat.zero_add _)⟩
      refine cy_sumBox hp (fun i => (hA i).1) ha hb ⟨?_, ci_mk hA hp hK hP⟩
      exact (ci_sum_perm hL).symm
theorem i_vc_firstIn {k : Nat} {u : SX} {v : SY} (I : i_Rel k u v) (hk : k + 3 ≤ 1536) (v1 : Int32) (v2 : Int32) : wpX_firstIn (fun r u' => wpY_firstIn (fun r' => r' = r ∧ i_Rel (k + 3) u' v) v v1 v2) u v1 v2 := by
  refine ci_el (C := fun u v => wpX_firstIn (fun r u' => wpY_firstIn (fun r' => r' = r ∧ i_Rel (k + 3) u' v) v v1 v2) u v1 v2) ?_ I
  intro cn le mo x0 x1 y0 y1 fo us xs ys la ke ins pl P ks hA hp hK hP
  have hbad : (v1 < 0 ∨ nI 4096 ≤ v1) → wpX_firstIn (fun r u' => wpY_firstIn (fun r' => r' = r ∧ i_Rel (k + 3) u' (us, pl, la)) (us, pl, la) v1 v2) (cn, le, mo, x0, x1, y0, y1, fo, us, xs, ys, la, ke, ins) v1 v2 := by
    intro h
    unfold wpX_firstIn
    refine cx_bad1 h (br_f (by decide) ?_)
    unfold wpY_firstIn
    exact cy_place0 h (br_t rfl ⟨rfl, ci_mk hA hp hK hP⟩)
  rcases pk_ix v1 (n := 4096) (by decide) with h | h | ⟨a, ha, rfl⟩
  · exact hbad (Or.inl h)
  · exact hbad (Or.inr h)
  · have hbad2 : (v2 < 0 ∨ nI 4096 ≤ v2) → wpX_firstIn (fun r u' => wpY_firstIn (fun r' => r' = r ∧ i_Rel (k + 3) u' (us, pl, la)) (us, pl, la) (nI a) v2) (cn, le, mo, x0, x1, y0, y1, fo, us, xs, ys, la, ke, ins) (nI a) v2 := by
      intro h
      unfold wpX_firstIn
      refine cx_bad0 ha (br_t rfl (cx_bad1 h (br_f (by decide) ?_)))
      unfold wpY_firstIn
      exact cy_place1 ha (br_f (by decide) (cy_place0 h (br_t rfl ⟨rfl, ci_mk hA hp hK hP⟩)))
    rcases pk_ix v2 (n := 4096) (by decide) with h | h | ⟨b, hb, rfl⟩
    · exact hbad2 (Or.inl h)
    · exact hbad2 (Or.inr h)
    · unfold wpX_firstIn
      refine cx_bad0 ha (br_t rfl (cx_bad0 hb (br_t rfl (cx_setBoxOf ha hb ?_))))
      refine cx_walk hA hK hP (ci_mn_lt (by omega) (by omega)) (ci_mx_lt (by omega) (by omega)) (ci_mn_lt (by omega) (by omega)) (ci_mx_lt (by omega) (by omega)) (fun L fo' ins' ef hR hL => ?_)
      have hL : L.Perm ((ci_pts us).filter (ci_bb P a b)) := hL
      have hB := ci_box_mem hL
      rw [ef]
      refine ⟨L.length + 1, cx_firstIn_32 hR hB.2.1 (fun i hi => ((hB.1 i).mp hi).1) (fun e => ?_) (fun m m1 m2 => ?_) L.length 0 (-3) (Nat.zero_add _) (Or.inl ⟨rfl, rfl⟩)⟩
      · refine cy_firstIn hp (fun i => (hA i).1) ha hb (Nat.le_refl 40) (fun j hj => ?_) (fun c => absurd c (Nat.lt_irrefl 40)) (fun c => absurd c (Nat.lt_irrefl 40)) (fun _ => ⟨rfl, ci_mk hA hp hK hP⟩)
        cases hf : ci_on us (ci_bb P a b) j with
        | false => rfl
        | true =>
          have := (hB.1 j).mpr ⟨hj, hf⟩
          rw [e] at this
          cases this
      · have mm := (hB.1 m).mp m1
        refine cy_firstIn hp (fun i => (hA i).1) ha hb (Nat.le_of_lt mm.1) (fun j hj => ?_) (fun _ => mm.2) (fun _ => ⟨rfl, ci_mk hA hp hK hP⟩) (fun c => absurd mm.1 (by omega))
        cases hf : ci_on us (ci_bb P a b) j with
        | false => rfl
        | true =>
          have := m2 j ((hB.1 j).mpr ⟨by omega, hf⟩)
          omega
theorem i_vc_clearBox {k : Nat} {u : SX} {v : SY} (I : i_Rel k u v) (hk : k + 3 ≤ 1536) (v1 : Int32) (v2 : Int32) : wpX_clearBox (fun r u' => wpY_clearBox (fun r' v' => r' = r ∧ i_Rel (k + 3) u' v') v v1 v2) u v1 v2 := by
  refine ci_el (C := fun u v => wpX_clearBox (fun r u' => wpY_clearBox (fun r' v' => r' = r ∧ i_Rel (k + 3) u' v') v v1 v2) u v1 v2) ?_ I
  intro cn le mo x0 x1 y0 y1 fo us xs ys la ke ins pl P ks hA hp hK hP
  unfold wpX_clearBox
  rcases ci_ix v1 (n := 4096) (by decide) with h | ⟨a, ha, rfl⟩
  · exact cx_bad1 h (br_f (by decide) (cy_clearBoxA h ⟨rfl, ci_mk hA hp hK hP⟩))
  · refine cx_bad0 ha (br_t rfl ?_)
    rcases ci_ix v2 (n := 4096) (by decide) with h | ⟨b, hb, rfl⟩
    · exact cx_bad1 h (br_f (by decide) (cy_clearBoxB ha h ⟨rfl, ci_mk hA hp hK hP⟩))
    · refine cx_bad0 hb (br_t rfl (cx_setBoxOf ha hb ?_))
      refine cx_walk hA hK hP (ci_mn_lt (by omega) (by omega)) (ci_mx_lt (by omega) (by omega)) (ci_mn_lt (by omega) (by omega)) (ci_mx_lt (by omega) (by omega)) (fun L fo' ins' ef hR hL => ?_)
      have hL : L.Perm ((ci_pts us).filter (ci_bb P a b)) := hL
      have hB := ci_box_mem hL
      rw [ef]
      have r := cx_clear_28 (L := L) (us := us) (P := P) (post := fun r u' => wpY_clearBox (fun r' v' => r' = r ∧ i_Rel (k + 3) u' v') (us, pl, la) (nI a) (nI b)) (le := nI (ci_Z (ci_mn (a % 64) (b % 64)) (ci_mn (a / 64) (b / 64)))) (mo := nI (ci_Z (ci_mx (a % 64) (b % 64)) (ci_mx (a / 64) (b / 64)))) (x0 := nI (ci_mn (a % 64) (b % 64))) (x1 := nI (ci_mx (a % 64) (b % 64))) (y0 := nI (ci_mn (a / 64) (b / 64))) (y1 := nI (ci_mx (a / 64) (b / 64))) (la := la) hA hR hB.2.1 hB.2.2.1 (fun i hi => ⟨((hB.1 i).mp hi).1, (ci_on_t ((hB.1 i).mp hi).2).2⟩) (fun ks' cn' ke' hK' hP' => by
        refine cy_clearBox hp (fun i => (hA i).1) ha hb ?_
        have e : ci_clr (ci_on us (ci_bb P a b)) us 40 = ci_off us L := by
          funext j
          unfold ci_clr ci_off
          by_cases c : j ∈ L
          · rw [if_pos c, if_pos ((hB.1 j).mp c)]
          · rw [if_neg c, if_neg (fun d => c ((hB.1 j).mpr d))]
        rw [e]
        refine ⟨?_, ci_mk hA hp hK' hP'⟩
        rw [hB.2.2.2]) L.length 0 cn ke ks (Nat.zero_add _) hK
      rw [List.take_zero, ci_off_nil] at r
      exact ⟨L.length + 1, r hP⟩
end
section
/-! questions of distances: countNear and nearest -/
def ci_lt (P : Nat → Nat) (q t i : Nat) : Bool := decide (ci_G P q i < ci_G P q t)
section
variable {th pl lb : Nat → Int32} {P : Nat → Nat}
theorem cy_dist {post : Int32 → Prop} {p q : Nat} (hp : p < 4096) (hq : q < 4096) (h : post (nI (ci_d p q))) : wpY_distance post (th, pl, lb) (nI p) (nI q) := by
  unfold wpY_distance
  have n64 : ¬ (64 : Int32) = 0 := by decide
  refine ⟨n64, n64, nm_r (e' := nI (p % 64) - nI (q % 64)) (by rw [ci_r64 hp, ci_r64 hq]) ⟨n64, n64, nm_r (e' := nI (p / 64) - nI (q / 64)) (by rw [ci_i64 hp, ci_i64 hq]) ?_⟩⟩
  rw [ci_sqI, ci_sqI, nI_add]
  exact h
theorem cy_countNear_15 {post : Int32 → Prop} {q : Nat} {x : Int32} {nr : Nat → Bool} (hp : ∀ i, pl i = nI (P i)) (hP : ∀ i, P i < 4096) (hq : q < 4096) (h1 : ∀ i, x < nI (ci_d (P i) q) → nr i = false) (h2 : ∀ i, ¬ x < nI (ci_d (P i) q) → nr i = true) (h : post (nI (ci_cnt (ci_on th nr) 40))) : ∀ d i, i + d = 40 → wY_countNear_15 post (nI q) x th pl lb (d + 1) (nI (ci_cnt (ci_on th nr) i)) (nI i) := by
  intro d
  induction d with
  | zero =>
    intro i hi
    have hi : i = 40 := hi
    subst hi
    exact br_t (by decide) h
  | succ d ih =>
    intro i hi
    have hv : vp_in (nI i) 40 := vp_in_nI (by omega) (by decide)
    have ec : (nI i).toNatClampNeg = i := nI_clamp (by omega)
    refine br_f (nI_ge (b := 40) (by omega) (by decide)) ⟨hv, ?_⟩
    have r := ih (i + 1) (by omega)
    rw [ec, hp i]
    by_cases c : th i = 0
    · rw [ci_cnt_f (ci_on_0 c)] at r
      exact br_t c (nm_r (nI_1 _) r)
    · refine br_f c ⟨hv, cy_dist (hP i) hq ?_⟩
      by_cases e : x < nI (ci_d (P i) q)
      · rw [ci_cnt_f (by rw [ci_on_1 c]; exact h1 i e)] at r
        exact br_t e (nm_r (nI_1 _) r)
      · rw [ci_cnt_t (by rw [ci_on_1 c]; exact h2 i e)] at r
        exact br_f e (nm_r (nI_1 _) (nm_r (nI_1 _) r))
theorem cy_countNear {post : Int32 → Prop} {q : Nat} {x : Int32} {nr : Nat → Bool} (hp : ∀ i, pl i = nI (P i)) (hP : ∀ i, P i < 4096) (hq : q < 4096) (h1 : ∀ i, x < nI (ci_d (P i) q) → nr i = false) (h2 : ∀ i, ¬ x < nI (ci_d (P i) q) → nr i = true) (h : post (nI (ci_cnt (ci_on th nr) 40))) : wpY_countNear post (th, pl, lb) (nI q) x := by
  unfold wpY_countNear
  exact cy_place1 hq (br_f (by decide) ⟨41, cy_countNear_15 hp hP hq h1 h2 h 40 0 rfl⟩)
theorem cy_before_18 {post : Int32 → Prop} {q t : Nat} (hp : ∀ i, pl i = nI (P i)) (hP : ∀ i, P i < 4096) (hq : q < 4096) (ht : t < 40) (h : post (nI (ci_cnt (ci_on th (ci_lt P q t)) 40))) : ∀ d i, i + d = 40 → wY_before_18 post (nI t) (nI q) (nI (ci_d (P t) q)) th pl lb (d + 1) (nI (ci_cnt (ci_on th (ci_lt P q t)) i)) (nI i) := by
  intro d
  induction d with
  | zero =>
    intro i hi
    have hi : i = 40 := hi
    subst hi
    exact br_t (by decide) h
  | succ d ih =>
    intro i hi
    have hv : vp_in (nI i) 40 := vp_in_nI (by omega) (by decide)
    have ec : (nI i).toNatClampNeg = i := nI_clamp (by omega)
    have d1 := ci_d_le (hP i) hq
    have d2 := ci_d_le (hP t) hq
    refine br_f (nI_ge (b := 40) (by omega) (by decide)) ⟨hv, ?_⟩
    have r := ih (i + 1) (by omega)
    rw [ec, hp i]
    refine cy_dist (hP i) hq ⟨hv, ?_⟩
    by_cases c : th i = 0
    · rw [ci_cnt_f (ci_on_0 c)] at r
      exact br_t c (nm_r (nI_1 _) r)
    · refine br_f c ?_
      have rt : ci_G P q i < ci_G P q t → wY_before_18 post (nI t) (nI q) (nI (ci_d (P t) q)) th pl lb (d + 1) (nI (ci_cnt (ci_on th (ci_lt P q t)) i + 1)) (nI (i + 1)) := by
        intro g
        rw [ci_cnt_t (by rw [ci_on_1 c]; exact decide_eq_true g)] at r
        exact r
      have rf : ¬ ci_G P q i < ci_G P q t → wY_before_18 post (nI t) (nI q) (nI (ci_d (P t) q)) th pl lb (d + 1) (nI (ci_cnt (ci_on th (ci_lt P q t)) i)) (nI (i + 1)) := by
        intro g
        rw [ci_cnt_f (by rw [ci_on_1 c]; exact decide_eq_false g)] at r
        exact r
      unfold ci_G at rt rf
      exact pk_lt (ci_d (P i) q) (ci_d (P t) q) (fun g => nm_r (nI_1 _) (nm_r (nI_1 _) (rt (by omega)))) (fun g => pk_eq (ci_d (P i) q) (ci_d (P t) q) (fun e => pk_le t i (fun b => nm_r (nI_1 _) (rf (by omega))) (fun b => nm_r (nI_1 _) (nm_r (nI_1 _) (rt (by omega))))) (fun e => nm_r (nI_1 _) (rf (by omega))) rfl rfl (by omega) (by omega)) rfl rfl (by omega) (by omega)
theorem cy_before {post : Int32 → Prop} {q t : Nat} (hp : ∀ i, pl i = nI (P i)) (hP : ∀ i, P i < 4096) (hq : q < 4096) (ht : t < 40) (h : post (nI (ci_cnt (ci_on th (ci_lt P q t)) 40))) : wpY_before post (th, pl, lb) (nI t) (nI q) := by
  unfold wpY_before
  refine ⟨vp_in_nI ht (by decide), ?_⟩
  rw [nI_clamp (by omega), hp t]
  exact cy_dist (hP t) hq ⟨41, cy_before_18 hp hP hq ht h 40 0 rfl⟩
theorem cy_nearest_19 {post : Int32 → Prop} {q t rk : Nat} (hp : ∀ i, pl i = nI (P i)) (hP : ∀ i, P i < 4096) (hq : q < 4096) (hr : rk < 2 ^ 31) (ht : t ≤ 40) (h0 : ∀ j, j < t → ¬ th j = 0 → ¬ ci_cnt (ci_on th (ci_lt P q j)) 40 = rk) (h1 : t < 40 → ¬ th t = 0 ∧ ci_cnt (ci_on th (ci_lt P q t)) 40 = rk) (h2 : t < 40 → post (nI t)) (h3 : t = 40 → post (-3)) : ∀ d i, i + d = t → wY_nearest_19 post (nI q) (nI rk) th pl lb (d + 1) (nI i) := by
  intro d
  induction d with
  | zero =>
    intro i hi
    have hi : i = t := hi
    subst hi
    by_cases c : i = 40
    · subst c
      exact br_t (by decide) (h3 rfl)
    · have h1 := h1 (by omega)
      refine br_f (nI_ge (b := 40) (by omega) (by decide)) ⟨vp_in_nI (by omega) (by decide), br_f (by rw [nI_clamp (by omega)]; exact h1.1) (cy_before hp hP hq (by omega) (br_t ?_ (h2 (by omega))))⟩
      rw [h1.2]
  | succ d ih =>
    intro i hi
    have ec : (nI i).toNatClampNeg = i := nI_clamp (by omega)
    refine br_f (nI_ge (b := 40) (by omega) (by decide)) ⟨vp_in_nI (by omega) (by decide), ?_⟩
    rw [ec]
    by_cases c : th i = 0
    · exact br_t c (nm_r (nI_1 _) (ih (i + 1) (by omega)))
    · have hc := ci_cnt_le (ci_on th (ci_lt P q i)) 40
      refine br_f c (cy_before hp hP hq (by omega) (br_f (fun e => ?_) (nm_r (nI_1 _) (ih (i + 1) (by omega)))))
      exact h0 i (by omega) c ((nI_eq (by omega) hr).mp e)
theorem cy_nearest {post : Int32 → Prop} {q t rk : Nat} (hp : ∀ i, pl i = nI (P i)) (hP : ∀ i, P i < 4096) (hq : q < 4096) (hr : rk < 2 ^ 31) (ht : t ≤ 40) (h0 : ∀ j, j < t → ¬ th j = 0 → ¬ ci_cnt (ci_on th (ci_lt P q j)) 40 = rk) (h1 : t < 40 → ¬ th t = 0 ∧ ci_cnt (ci_on th (ci_lt P q t)) 40 = rk) (h2 : t < 40 → post (nI t)) (h3 : t = 40 → post (-3)) : wpY_nearest post (th, pl, lb) (nI q) (nI rk) := by
  unfold wpY_nearest
  exact cy_place1 hq (br_f (by decide) (br_t (nI_pos' hr) ⟨t + 1, cy_nearest_19 hp hP hq hr ht h0 h1 h2 h3 t 0 (Nat.zero_add t)⟩))
end
/-! ranks -/
theorem ci_fle {l : List Nat} {p q : Nat → Bool} (h : ∀ i, i ∈ l → p i = true → q i = true) : (l.filter p).length ≤ (l.filter q).length := by
  induction l with
  | nil => exact Nat.le_refl _
  | cons a l ih =>
    have ih := ih (fun i hi => h i (List.mem_cons_of_mem _ hi))
    cases hp : p a with
    | true =>
      have hq := h a List.mem_cons_self hp
      rw [List.filter_cons_of_pos hp, List.filter_cons_of_pos hq, List.length_cons, List.length_cons]
      omega
    | false =>
      rw [List.filter_cons_of_neg (by rw [hp]; exact Bool.false_ne_true)]
      cases hq : q a with
      | true =>
        rw [List.filter_cons_of_pos hq, List.length_cons]
        omega
      | false =>
        rw [List.filter_cons_of_neg (by rw [hq]; exact Bool.false_ne_true)]
        exact ih
theorem ci_flt {l : List Nat} {p q : Nat → Bool} {x : Nat} (h : ∀ i, i ∈ l → p i = true → q i = true) (hx : x ∈ l) (h1 : q x = true) (h2 : p x = false) : (l.filter p).length < (l.filter q).length := by
  induction l with
  | nil => cases hx
  | cons a l ih =>
    have hle := ci_fle (l := l) (p := p) (q := q) (fun i hi => h i (List.mem_cons_of_mem _ hi))
    by_cases c : x = a
    · subst c
      rw [List.filter_cons_of_neg (by rw [h2]; exact Bool.false_ne_true), List.filter_cons_of_pos h1, List.length_cons]
      omega
    · have hx : x ∈ l := by
        rcases List.mem_cons.mp hx with e | e
        · exact absurd e c
        · exact e
      have ih := ih (fun i hi => h i (List.mem_cons_of_mem _ hi)) hx
      cases hp : p a with
      | true =>
        have hq := h a List.mem_cons_self hp
        rw [List.filter_cons_of_pos hp, List.filter_cons_of_pos hq, List.length_cons, List.length_cons]
        omega
      | false =>
        rw [List.filter_cons_of_neg (by rw [hp]; exact Bool.false_ne_true)]
        cases hq : q a with
        | true =>
          rw [List.filter_cons_of_pos hq, List.length_cons]
          omega
        | false =>
          rw [List.filter_cons_of_neg (by rw [hq]; exact Bool.false_ne_true)]
          exact ih
theorem ci_G_inj {P : Nat → Nat} {q a b : Nat} (ha : a < 40) (hb : b < 40) (h : ci_G P q a = ci_G P q b) : a = b := by
  unfold ci_G at h
  omega
theorem ci_rk_lt {us : Nat → Int32} {P : Nat → Nat} {q a b : Nat} (ha : a ∈ ci_pts us) (h : ci_G P q a < ci_G P q b) : ci_cnt (ci_on us (ci_lt P q a)) 40 < ci_cnt (ci_on us (ci_lt P q b)) 40 := by
  rw [← ci_on_cnt, ← ci_on_cnt]
  refine ci_flt (x := a) (fun i _ hi => ?_) ha (decide_eq_true h) (decide_eq_false (Nat.lt_irrefl _))
  have hi : ci_G P q i < ci_G P q a := of_decide_eq_true hi
  exact decide_eq_true (Nat.lt_trans hi h)
theorem ci_rk_inj {us : Nat → Int32} {P : Nat → Nat} {q a b : Nat} (ha : a ∈ ci_pts us) (hb : b ∈ ci_pts us) (h : ci_cnt (ci_on us (ci_lt P q a)) 40 = ci_cnt (ci_on us (ci_lt P q b)) 40) : a = b := by
  rcases Nat.lt_trichotomy (ci_G P q a) (ci_G P q b) with c | c | c
  · have := ci_rk_lt ha c
    omega
  · exact ci_G_inj (ci_mem_pts.mp ha).1 (ci_mem_pts.mp hb).1 c
  · have := ci_rk_lt hb c
    omega
theorem ci_rk_all {us : Nat → Int32} {P : Nat → Nat} {q a : Nat} (ha : a ∈ ci_pts us) : ci_cnt (ci_on us (ci_lt P q a)) 40 < (ci_pts us).length := by
  rw [← ci_on_cnt]
  have e := ci_flt (l := ci_pts us) (p := ci_lt P q a) (q := fun _ => true) (x := a) (fun _ _ _ => rfl) ha rfl (decide_eq_false (Nat.lt_irrefl _))
  rw [List.filter_eq_self.mpr (fun _ _ => rfl)] at e
  exact e
theorem ci_rank {us : Nat → Int32} {P : Nat → Nat} {q D rk : Nat} {M : List Nat} (hM : M.Perm ((ci_pts us).filter (ci_nr P q D))) (hs : ∀ a b, a < b → b < M.length → ci_G P q (ci_g M a) ≤ ci_G P q (ci_g M b)) (hr : rk < M.length) : ci_g M rk ∈ ci_pts us ∧ ci_cnt (ci_on us (ci_lt P q (ci_g M rk))) 40 = rk := by
  have hmem : ∀ i, i ∈ M → i ∈ ci_pts us ∧ ci_d (P i) q ≤ D := fun i hi => by
    have := List.mem_filter.mp (hM.mem_iff.mp hi)
    exact ⟨this.1, of_decide_eq_true this.2⟩
  have hnd : M.Nodup := hM.symm.nodup (List.Nodup.sublist List.filter_sublist (ci_pts_nd us))
  have hst : ∀ a b, a < b → b < M.length → ci_G P q (ci_g M a) < ci_G P q (ci_g M b) := by
    intro a b h1 h2
    have e1 := hs a b h1 h2
    have e2 := ci_nd hnd a b h1 h2
    have a1 := (ci_mem_pts.mp (hmem _ (ci_g_mem (l := M) (j := a) (by omega))).1).1
    have b1 := (ci_mem_pts.mp (hmem _ (ci_g_mem (l := M) (j := b) h2)).1).1
    have e3 : ¬ ci_G P q (ci_g M a) = ci_G P q (ci_g M b) := fun c => e2 (ci_G_inj a1 b1 c)
    omega
  have ht := hmem _ (ci_g_mem hr)
  refine ⟨ht.1, ?_⟩
  have e1 := ci_fil_take (l := M) (p := ci_lt P q (ci_g M rk)) (a := rk) (M.length - rk) (by omega) (fun j c1 c2 => by
    refine decide_eq_false (Nat.not_lt.mpr ?_)
    by_cases c : j = rk
    · rw [c]; exact Nat.le_refl _
    · exact hs rk j (by omega) (by omega))
  rw [show rk + (M.length - rk) = M.length from by omega, List.take_length] at e1
  have e2 : (M.take rk).filter (ci_lt P q (ci_g M rk)) = M.take rk := List.filter_eq_self.mpr (fun a ha => by
    obtain ⟨j, g1, g2⟩ := ci_mem_g ha
    have g3 := List.length_take_le rk M
    rw [ci_g_take (by omega)] at g2
    rw [← g2]
    exact decide_eq_true (hst j rk (by omega) hr))
  have e3 := (hM.filter (ci_lt P q (ci_g M rk))).length_eq
  rw [e1, e2, List.length_take_of_le (Nat.le_of_lt hr), ci_fil_sub, ci_on_cnt] at e3
  · exact e3.symm
  · intro i hi h
    have h : ci_G P q i < ci_G P q (ci_g M rk) := of_decide_eq_true h
    have i1 := (ci_mem_pts.mp hi).1
    have t1 := (ci_mem_pts.mp ht.1).1
    have t2 := ht.2
    unfold ci_G at h
    refine decide_eq_true ?_
    omega
section
variable {cn le mo x0 x1 y0 y1 fo : Int32} {us xs ys la ke ins pl : Nat → Int32} {P : Nat → Nat} {ks : List Nat}
theorem cx_nearest_83 {post : Int32 → SX → Prop} {q D rk : Nat} {L : List Nat} (hA : ci_A P xs ys) (hq : q < 4096) (hR : ci_R ins L) (hL : L.Perm ((ci_pts us).filter (ci_nr P q D))) (hr : rk < L.length)
    (h : ∀ t le' mo' x0' x1' y0' y1' fo' ins', t ∈ ci_pts us → ci_cnt (ci_on us (ci_lt P q t)) 40 = rk → post (nI t) (cn, le', mo', x0', x1', y0', y1', fo', us, xs, ys, la, ke, ins')) :
    wX_nearest_83 post (nI rk) (nI (q % 64)) (nI (q / 64)) cn le mo x0 x1 y0 y1 (nI L.length) us xs ys la ke ins := by
  unfold wX_nearest_83
  have hB := ci_box_mem hL
  refine cx_sortFound hA hq hB.2.1 (fun i hi => ((hB.1 i).mp hi).1) hR (fun M ins' hM hR' hs => ⟨vp_in_nI (by omega) (by decide), ?_⟩)
  have el := hM.length_eq
  rw [nI_clamp (by omega), hR' rk (by omega)]
  have r := ci_rank (hM.trans hL) hs (rk := rk) (by omega)
  exact h _ _ _ _ _ _ _ _ _ r.1 r.2
theorem cx_nearest_46 {post : Int32 → SX → Prop} {q rk : Nat} (hA : ci_A P xs ys) (hK : ci_K ks cn ke) (hP : ks.Perm ((ci_pts us).map (ci_key P))) (hq : q < 4096) (hr : rk < (ci_pts us).length)
    (h : ∀ t le' mo' x0' x1' y0' y1' fo' ins', t ∈ ci_pts us → ci_cnt (ci_on us (ci_lt P q t)) 40 = rk → post (nI t) (cn, le', mo', x0', x1', y0', y1', fo', us, xs, ys, la, ke, ins')) :
    ∀ d e le mo x0 x1 y0 y1 (ins : Nat → Int32) (L : List Nat), e + d = 8 → 1 ≤ e → ci_R ins L → (rk < L.length → ∃ D, L.Perm ((ci_pts us).filter (ci_nr P q D))) → (e = 8 → rk < L.length) → L.length ≤ 40 → wX_nearest_46 post (nI rk) (nI (q % 64)) (nI (q / 64)) (d + 1) (nI (2 ^ e)) cn le mo x0 x1 y0 y1 (nI L.length) us xs ys la ke ins := by
  have hlen := ci_pts_len us
  intro d
  induction d with
  | zero =>
    intro e le mo x0 x1 y0 y1 ins L h1 h2 h3 h4 h5 h6
    have h1 : e = 8 := h1
    subst h1
    obtain ⟨D, hD⟩ := h4 (h5 rfl)
    exact br_t (by decide) (cx_nearest_83 hA hq h3 hD (h5 rfl) h)
  | succ d ih =>
    intro e le mo x0 x1 y0 y1 ins L h1 h2 h3 h4 h5 h6
    have he : 2 ^ e ≤ 128 := Nat.pow_le_pow_right (n := 2) (j := 7) (by decide) (by omega)
    refine br_f (Int32.not_lt.mpr (nI_le (b := 128) he (by decide))) ?_
    refine pk_lt rk L.length (fun c => ?_) (fun c => ?_) rfl rfl (by omega) (by omega)
    · obtain ⟨D, hD⟩ := h4 c
      exact cx_nearest_83 hA hq h3 hD c h
    · have hm : 2 ^ e * 2 ^ e ≤ 128 * 128 := Nat.mul_le_mul he he
      rw [pk_mul]
      refine cx_walkNear hA hK hP hq (by omega) (fun L' le' mo' x0' x1' y0' y1' ins' hR' hL' => nm_r (e' := nI (2 ^ (e + 1))) (pk_mul (2 ^ e) 2) ?_)
      refine ih (e + 1) le' mo' x0' x1' y0' y1' ins' L' (by omega) (by omega) hR' (fun _ => ⟨_, hL'⟩) (fun e8 => ?_) (ci_box_mem hL').2.1
      have e7 : e = 7 := by omega
      subst e7
      have ef : (ci_pts us).filter (ci_nr P q (2 ^ 7 * 2 ^ 7)) = ci_pts us := List.filter_eq_self.mpr (fun i hi => decide_eq_true (Nat.le_trans (ci_d_le (hA i).1 hq) (by decide)))
      rw [hL'.length_eq, ef]
      exact hr
end
theorem i_vc_countNear {k : Nat} {u : SX} {v : SY} (I : i_Rel k u v) (hk : k + 3 ≤ 1536) (v1 : Int32) (v2 : Int32) : wpX_countNear (fun r u' => wpY_countNear (fun r' => r' = r ∧ i_Rel (k + 3) u' v) v v1 v2) u v1 v2 := by
  refine ci_el (C := fun u v => wpX_countNear (fun r u' => wpY_countNear (fun r' => r' = r ∧ i_Rel (k + 3) u' v) v v1 v2) u v1 v2) ?_ I
  intro cn le mo x0 x1 y0 y1 fo us xs ys la ke ins pl P ks hA hp hK hP
  unfold wpX_countNear
  rcases ci_ix v1 (n := 4096) (by decide) with h | ⟨q, hq, rfl⟩
  · refine cx_bad1 h (br_f (by decide) ?_)
    unfold wpY_countNear
    exact cy_place0 h (br_t rfl ⟨rfl, ci_mk hA hp hK hP⟩)
  · refine cx_bad0 hq (br_t rfl ?_)
    by_cases c : v2 < 0
    · refine br_f (Int32.not_le.mpr c) (cy_countNear (nr := fun _ => false) hp (fun i => (hA i).1) hq (fun _ _ => rfl) (fun i h => ?_) ⟨?_, ci_mk hA hp hK hP⟩)
      · have d1 := ci_d_le (hA i).1 hq
        exact absurd (Int32.lt_of_lt_of_le c (nI_pos' (n := ci_d (P i) q) (by omega))) h
      · have e : ci_cnt (ci_on us (fun _ => false)) 40 = 0 := by
          unfold ci_cnt
          rw [List.filter_eq_nil_iff.mpr (fun a _ => by unfold ci_on; rw [Bool.false_and]; exact Bool.false_ne_true)]
          rfl
        rw [e]
        rfl
    · obtain ⟨D, hD, rfl⟩ := nI_of c
      refine br_t (Int32.not_lt.mp c) ?_
      rw [ci_x6 hq, ci_y6 (by omega)]
      refine cx_walkNear hA hK hP hq hD (fun L le' mo' x0' x1' y0' y1' ins' hR hL => ?_)
      refine cy_countNear (nr := ci_nr P q D) hp (fun i => (hA i).1) hq (fun i h => ?_) (fun i h => ?_) ⟨?_, ci_mk hA hp hK hP⟩
      · have d1 := ci_d_le (hA i).1 hq
        rw [nI_ltI hD (by omega)] at h
        exact decide_eq_false (by omega)
      · have d1 := ci_d_le (hA i).1 hq
        rw [nI_ltI hD (by omega)] at h
        exact decide_eq_true (by omega)
      · rw [(ci_box_mem hL).2.2.2]
theorem i_vc_nearest {k : Nat} {u : SX} {v : SY} (I : i_Rel k u v) (hk : k + 3 ≤ 1536) (v1 : Int32) (v2 : Int32) : wpX_nearest (fun r u' => wpY_nearest (fun r' => r' = r ∧ i_Rel (k + 3) u' v) v v1 v2) u v1 v2 := by
  refine ci_el (C := fun u v => wpX_nearest (fun r u' => wpY_nearest (fun r' => r' = r ∧ i_Rel (k + 3) u' v) v v1 v2) u v1 v2) ?_ I
  intro cn le mo x0 x1 y0 y1 fo us xs ys la ke ins pl P ks hA hp hK hP
  unfold wpX_nearest
  rcases ci_ix v1 (n := 4096) (by decide) with h | ⟨q, hq, rfl⟩
  · refine cx_bad1 h (br_f (by decide) ?_)
    unfold wpY_nearest
    exact cy_place0 h (br_t rfl ⟨rfl, ci_mk hA hp hK hP⟩)
  · refine cx_bad0 hq (br_t rfl ?_)
    by_cases c : v2 < 0
    · refine br_f (Int32.not_le.mpr c) ?_
      unfold wpY_nearest
      exact cy_place1 hq (br_f (by decide) (br_f (Int32.not_le.mpr c) ⟨rfl, ci_mk hA hp hK hP⟩))
    · obtain ⟨rk, hr, rfl⟩ := nI_of c
      refine br_t (Int32.not_lt.mp c) ?_
      have ec := hK.1
      have el := ci_len hP
      have h40 := ci_pts_len us
      rw [ec]
      refine pk_lt rk ks.length (fun g => nm_r (ci_x6 hq) (nm_r (ci_y6 (by omega)) ⟨8, ?_⟩)) (fun g => ?_) rfl rfl hr (by omega)
      · rw [← ec]
        refine cx_nearest_46 hA hK hP hq (by omega) (fun t le' mo' x0' x1' y0' y1' fo' ins' t1 t2 => ?_) 7 1 le mo x0 x1 y0 y1 ins [] rfl (by decide) (fun j hj => absurd hj (Nat.not_lt_zero j)) (fun hj => absurd hj (Nat.not_lt_zero rk)) (fun e => absurd e (by decide)) (by decide)
        have t40 := ci_mem_pts.mp t1
        refine cy_nearest hp (fun i => (hA i).1) hq hr (Nat.le_of_lt t40.1) (fun j hj hu e => ?_) (fun _ => ⟨t40.2, t2⟩) (fun _ => ⟨rfl, ci_mk hA hp hK hP⟩) (fun e => absurd t40.1 (by omega))
        have := ci_rk_inj (P := P) (q := q) (ci_mem_pts.mpr ⟨by omega, hu⟩) t1 (e.trans t2.symm)
        omega
      · rw [← ec]
        refine cy_nearest hp (fun i => (hA i).1) hq hr (Nat.le_refl 40) (fun j hj hu e => ?_) (fun e => absurd e (Nat.lt_irrefl 40)) (fun e => absurd e (Nat.lt_irrefl 40)) (fun _ => ⟨rfl, ci_mk hA hp hK hP⟩)
        have := ci_rk_all (P := P) (q := q) (ci_mem_pts.mpr ⟨hj, hu⟩)
        omega
end
section
/-! the closest pair -/
def ci_Q (us : Nat → Int32) (i j : Nat) : Prop := i < j ∧ j < 40 ∧ ¬ us i = 0 ∧ ¬ us j = 0
/-- what the reference knows after the first k pairs -/
def ci_CI (us : Nat → Int32) (P : Nat → Nat) (k : Nat) (x : Int32) : Prop := (x = -3 ∧ ∀ i j, ci_Q us i j → ¬ i * 40 + j < k) ∨ ∃ m, x = nI m ∧ (∃ i j, ci_Q us i j ∧ ci_d (P i) (P j) = m) ∧ ∀ i j, ci_Q us i j → i * 40 + j < k → m ≤ ci_d (P i) (P j)
theorem ci_CI_skip {us : Nat → Int32} {P : Nat → Nat} {k : Nat} {x : Int32} (h : ci_CI us P k x) (hn : ¬ ci_Q us (k / 40) (k % 40)) : ci_CI us P (k + 1) x := by
  have hx : ∀ i j, ci_Q us i j → i * 40 + j < k + 1 → i * 40 + j < k := by
    intro i j hq hl
    by_cases c : i * 40 + j = k
    · have h40 := hq.2.1
      have e1 : k / 40 = i := by omega
      have e2 : k % 40 = j := by omega
      rw [e1, e2] at hn
      exact absurd hq hn
    · omega
  rcases h with ⟨e, h⟩ | ⟨m, e, h1, h2⟩
  · exact Or.inl ⟨e, fun i j hq hl => h i j hq (hx i j hq hl)⟩
  · exact Or.inr ⟨m, e, h1, fun i j hq hl => h2 i j hq (hx i j hq hl)⟩
theorem ci_CI_put {us : Nat → Int32} {P : Nat → Nat} {k m : Nat} (hq : ci_Q us (k / 40) (k % 40)) (h0 : ∀ i j, ci_Q us i j → i * 40 + j < k → m ≤ ci_d (P i) (P j)) (h1 : m ≤ ci_d (P (k / 40)) (P (k % 40))) (h2 : ∃ i j, ci_Q us i j ∧ ci_d (P i) (P j) = m) : ci_CI us P (k + 1) (nI m) := by
  refine Or.inr ⟨m, rfl, h2, fun i j q hl => ?_⟩
  by_cases c : i * 40 + j = k
  · have h40 := q.2.1
    have e1 : k / 40 = i := by omega
    have e2 : k % 40 = j := by omega
    rw [e1, e2] at h1
    exact h1
  · exact h0 i j q (by omega)
section
variable {th pl lb : Nat → Int32} {P : Nat → Nat}
theorem cy_closest_85 {post : Int32 → Prop} {J : Int32 → Int32 → Prop} {k i j : Nat} (hp : ∀ i, pl i = nI (P i)) (hP : ∀ i, P i < 4096) (hi : i < 40) (hj : j < 40) (h : J (nI (ci_d (P i) (P j))) (nI (k + 1))) : wY_closest_85 post J (nI k) (nI i) (nI j) th pl lb := by
  unfold wY_closest_85
  refine ⟨vp_in_nI hi (by decide), vp_in_nI hj (by decide), ?_⟩
  rw [nI_clamp (by omega), nI_clamp (by omega), hp i, hp j]
  exact cy_dist (hP i) (hP j) (nm_r (nI_1 k) h)
theorem cy_closest_5 {post : Int32 → Prop} (hp : ∀ i, pl i = nI (P i)) (hP : ∀ i, P i < 4096) (h : ∀ x, ci_CI th P 1600 x → post x) : ∀ d k x, k + d = 1600 → ci_CI th P k x → wY_closest_5 post th pl lb (d + 1) x (nI k) := by
  intro d
  induction d with
  | zero =>
    intro k x hk hx
    have hk : k = 1600 := hk
    subst hk
    exact br_t (by decide) (h x hx)
  | succ d ih =>
    intro k x hk hx
    have hJ : ∀ x', ci_CI th P (k + 1) x' → wY_closest_5 post th pl lb (d + 1) x' (nI (k + 1)) := fun x' hx' => ih (k + 1) x' (by omega) hx'
    have n40 : ¬ (40 : Int32) = 0 := by decide
    have e1 : nI k / 40 = nI (k / 40) := pk_div (a := k) (d := 40) (by omega) (by decide) (by decide)
    have e2 : nI k - nI k / 40 * 40 = nI (k % 40) := pk_rem (a := k) (d := 40) (by omega) (by decide) (by decide)
    refine br_f (nI_ge (b := 1600) (by omega) (by decide)) ⟨n40, nm_r e1 ⟨n40, nm_r e2 ?_⟩⟩
    have hi : k / 40 < 40 := by omega
    have hj : k % 40 < 40 := by omega
    have hvi : vp_in (nI (k / 40)) 40 := vp_in_nI hi (by decide)
    have hvj : vp_in (nI (k % 40)) 40 := vp_in_nI hj (by decide)
    have ci : (nI (k / 40)).toNatClampNeg = k / 40 := nI_clamp (by omega)
    have cj : (nI (k % 40)).toNatClampNeg = k % 40 := nI_clamp (by omega)
    have skip : ¬ ci_Q th (k / 40) (k % 40) → wY_closest_52 post (wY_closest_5 post th pl lb (d + 1)) x (nI k) (nI (k / 40)) (nI (k % 40)) th pl lb := by
      intro hn
      unfold wY_closest_52 wY_closest_53
      exact br_t rfl (nm_r (nI_1 k) (hJ x (ci_CI_skip hx hn)))
    rw [ci, cj]
    refine pk_le (k % 40) (k / 40) (fun c => skip (fun q => absurd q.1 (by omega))) (fun c => ⟨hvi, ?_⟩) rfl rfl (by omega) (by omega)
    by_cases c1 : th (k / 40) = 0
    · exact br_t c1 (skip (fun q => q.2.2.1 c1))
    · refine br_f c1 ⟨hvj, ?_⟩
      by_cases c2 : th (k % 40) = 0
      · exact br_t c2 (skip (fun q => q.2.2.2 c2))
      · refine br_f c2 ?_
        have hq : ci_Q th (k / 40) (k % 40) := ⟨c, hj, c1, c2⟩
        have dl := ci_d_le (hP (k / 40)) (hP (k % 40))
        unfold wY_closest_53
        refine br_f (by decide) ?_
        rcases hx with ⟨e, h0⟩ | ⟨m, e, ⟨i', j', q', em⟩, h2⟩
        · subst e
          exact br_t (by decide) (cy_closest_85 hp hP hi hj (hJ _ (ci_CI_put hq (fun i j q hl => absurd hl (h0 i j q)) (Nat.le_refl _) ⟨_, _, hq, rfl⟩)))
        · subst e
          have ml := ci_d_le (hP i') (hP j')
          refine br_f (nI_pos (by omega)) ⟨hvi, hvj, ?_⟩
          rw [ci, cj, hp (k / 40), hp (k % 40)]
          refine cy_dist (hP _) (hP _) (pk_le m (ci_d (P (k / 40)) (P (k % 40))) (fun g => nm_r (nI_1 k) (hJ _ (ci_CI_put hq h2 g ⟨i', j', q', em⟩))) (fun g => cy_closest_85 hp hP hi hj (hJ _ (ci_CI_put hq (fun i j q hl => Nat.le_trans (Nat.le_of_lt g) (h2 i j q hl)) (Nat.le_refl _) ⟨_, _, hq, rfl⟩))) rfl rfl (by omega) (by omega))
theorem cy_closest {post : Int32 → Prop} (hp : ∀ i, pl i = nI (P i)) (hP : ∀ i, P i < 4096) (h0 : (∀ i j, ¬ ci_Q th i j) → post (-3)) (h1 : ∀ m, (∃ i j, ci_Q th i j ∧ ci_d (P i) (P j) = m) → (∀ i j, ci_Q th i j → m ≤ ci_d (P i) (P j)) → post (nI m)) : wpY_closest post (th, pl, lb) := by
  unfold wpY_closest
  refine ⟨1601, cy_closest_5 hp hP (fun x hx => ?_) 1600 0 (-3) rfl (Or.inl ⟨rfl, fun i j _ hl => absurd hl (Nat.not_lt_zero _)⟩)⟩
  have hb : ∀ i j, ci_Q th i j → i * 40 + j < 1600 := fun i j q => by
    have q1 := q.1
    have q2 := q.2.1
    omega
  rcases hx with ⟨e, g⟩ | ⟨m, e, g1, g2⟩
  · subst e
    exact h0 (fun i j q => g i j q (hb i j q))
  · subst e
    exact h1 m g1 (fun i j q => g2 i j q (hb i j q))
end
section
variable {cn le mo x0 x1 y0 y1 fo : Int32} {us xs ys la ke ins pl : Nat → Int32} {P : Nat → Nat} {ks L : List Nat}
theorem cx_closestTo_22 {post : Int32 → SX → Prop} {p b : Nat} (hA : ci_A P xs ys) (hp : p < 40) (hb : b ≤ 7938) (hR : ci_R ins L) (hl : L.length ≤ 40) (hm : ∀ i, i ∈ L → i < 40)
    (h : ∀ m, m ≤ b → (m = b ∨ ∃ i, i ∈ L ∧ i ≠ p ∧ ci_d (P i) (P p) = m) → (∀ i, i ∈ L → i ≠ p → m ≤ ci_d (P i) (P p)) → post (nI m) (cn, le, mo, x0, x1, y0, y1, nI L.length, us, xs, ys, la, ke, ins)) :
    ∀ d i m, i + d = L.length → m ≤ b → (m = b ∨ ∃ i, i ∈ L ∧ i ≠ p ∧ ci_d (P i) (P p) = m) → (∀ j, j < i → ci_g L j ≠ p → m ≤ ci_d (P (ci_g L j)) (P p)) → wX_closestTo_22 post (nI p) cn le mo x0 x1 y0 y1 (nI L.length) us xs ys la ke ins (d + 1) (nI m) (nI i) := by
  intro d
  induction d with
  | zero =>
    intro i m hi h1 h2 h3
    have hi : i = L.length := hi
    subst hi
    refine br_t (nI_le (Nat.le_refl _) (by omega)) (h m h1 h2 (fun a ha hn => ?_))
    obtain ⟨j, g1, g2⟩ := ci_mem_g ha
    have := h3 j g1 (by rw [g2]; exact hn)
    rw [g2] at this
    exact this
  | succ d ih =>
    intro i m hi h1 h2 h3
    have hi2 : i < L.length := by omega
    have hv : vp_in (nI i) 40 := vp_in_nI (by omega) (by decide)
    have hvp : vp_in (nI p) 40 := vp_in_nI hp (by decide)
    have ei : ins (nI i).toNatClampNeg = nI (ci_g L i) := by
      rw [nI_clamp (by omega)]
      exact hR i hi2
    have ec : (nI p).toNatClampNeg = p := nI_clamp (by omega)
    have hgm := ci_g_mem hi2
    have hg := hm _ hgm
    have dl := ci_d_le (hA (ci_g L i)).1 (hA p).1
    refine br_f (nI_ge hi2 (by omega)) ⟨hvp, hvp, hv, ?_⟩
    rw [ei, ec, (hA p).2.1, (hA p).2.2]
    refine cx_dist hA hg ⟨hv, ?_⟩
    refine pk_eq (ci_g L i) p (fun c => nm_r (nI_1 i) (ih (i + 1) m (by omega) h1 h2 (fun j hj hn => ?_))) (fun c => pk_le m (ci_d (P (ci_g L i)) (P p)) (fun g => nm_r (nI_1 i) (ih (i + 1) m (by omega) h1 h2 (fun j hj hn => ?_))) (fun g => nm_r (nI_1 i) (ih (i + 1) _ (by omega) (by omega) (Or.inr ⟨_, hgm, c, rfl⟩) (fun j hj hn => ?_))) rfl rfl (by omega) (by omega)) rfl rfl (by omega) (by omega)
    · by_cases e : j = i
      · rw [e] at hn
        exact absurd c hn
      · exact h3 j (by omega) hn
    · by_cases e : j = i
      · rw [e]; exact g
      · exact h3 j (by omega) hn
    · by_cases e : j = i
      · rw [e]; exact Nat.le_refl _
      · exact Nat.le_trans (Nat.le_of_lt g) (h3 j (by omega) hn)
theorem cx_closestTo {post : Int32 → SX → Prop} {p b : Nat} (hA : ci_A P xs ys) (hK : ci_K ks cn ke) (hP : ks.Perm ((ci_pts us).map (ci_key P))) (hp : p < 40) (hb : b ≤ 7938)
    (h : ∀ m le' mo' x0' x1' y0' y1' fo' ins', m ≤ b → (m = b ∨ ∃ i, i ∈ ci_pts us ∧ i ≠ p ∧ ci_d (P i) (P p) = m) → (∀ i, i ∈ ci_pts us → i ≠ p → m ≤ ci_d (P i) (P p)) → post (nI m) (cn, le', mo', x0', x1', y0', y1', fo', us, xs, ys, la, ke, ins')) :
    wpX_closestTo post (cn, le, mo, x0, x1, y0, y1, fo, us, xs, ys, la, ke, ins) (nI p) (nI b) := by
  unfold wpX_closestTo
  have hvp : vp_in (nI p) 40 := vp_in_nI hp (by decide)
  have ec : (nI p).toNatClampNeg = p := nI_clamp (by omega)
  refine ⟨hvp, hvp, ?_⟩
  rw [ec, (hA p).2.1, (hA p).2.2]
  refine cx_walkNear hA hK hP (hA p).1 (by omega) (fun L le' mo' x0' x1' y0' y1' ins' hR hL => ?_)
  have hB := ci_box_mem hL
  refine ⟨L.length + 1, cx_closestTo_22 hA hp hb hR hB.2.1 (fun i hi => ((hB.1 i).mp hi).1) (fun m h1 h2 h3 => ?_) L.length 0 b (Nat.zero_add _) (Nat.le_refl _) (Or.inl rfl) (fun j hj => absurd hj (Nat.not_lt_zero j))⟩
  refine h m _ _ _ _ _ _ _ _ h1 ?_ (fun i hi hn => ?_)
  · rcases h2 with e | ⟨i, i1, i2, i3⟩
    · exact Or.inl e
    · exact Or.inr ⟨i, (List.mem_filter.mp (hL.mem_iff.mp i1)).1, i2, i3⟩
  · by_cases c : ci_d (P i) (P p) ≤ b
    · exact h3 i (hL.mem_iff.mpr (List.mem_filter.mpr ⟨hi, decide_eq_true c⟩)) hn
    · omega
theorem cx_closest_17 {post : Int32 → SX → Prop} (hA : ci_A P xs ys) (hK : ci_K ks cn ke) (hP : ks.Perm ((ci_pts us).map (ci_key P)))
    (h : ∀ b le' mo' x0' x1' y0' y1' fo' ins', b ≤ 7938 → (b = 7938 ∨ ∃ i j, i ∈ ci_pts us ∧ j ∈ ci_pts us ∧ i ≠ j ∧ ci_d (P i) (P j) = b) → (∀ i j, i ∈ ci_pts us → j ∈ ci_pts us → i ≠ j → b ≤ ci_d (P i) (P j)) → post (nI b) (cn, le', mo', x0', x1', y0', y1', fo', us, xs, ys, la, ke, ins')) :
    ∀ d p b le mo x0 x1 y0 y1 fo (ins : Nat → Int32), p + d = 40 → b ≤ 7938 → (b = 7938 ∨ ∃ i j, i ∈ ci_pts us ∧ j ∈ ci_pts us ∧ i ≠ j ∧ ci_d (P i) (P j) = b) → (∀ i j, j < p → i ∈ ci_pts us → j ∈ ci_pts us → i ≠ j → b ≤ ci_d (P i) (P j)) → wX_closest_17 post (d + 1) (nI b) (nI p) cn le mo x0 x1 y0 y1 fo us xs ys la ke ins := by
  intro d
  induction d with
  | zero =>
    intro p b le mo x0 x1 y0 y1 fo ins hp h1 h2 h3
    have hp : p = 40 := hp
    subst hp
    exact br_t (by decide) (h b _ _ _ _ _ _ _ _ h1 h2 (fun i j i1 j1 => h3 i j (ci_mem_pts.mp j1).1 i1 j1))
  | succ d ih =>
    intro p b le mo x0 x1 y0 y1 fo ins hp h1 h2 h3
    have ec : (nI p).toNatClampNeg = p := nI_clamp (by omega)
    refine br_f (nI_ge (b := 40) (by omega) (by decide)) ⟨vp_in_nI (by omega) (by decide), ?_⟩
    rw [ec]
    by_cases c : us p = 0
    · refine br_t c (nm_r (nI_1 p) (ih (p + 1) b _ _ _ _ _ _ _ _ (by omega) h1 h2 (fun i j hj i1 j1 hn => ?_)))
      by_cases e : j = p
      · rw [e] at j1
        exact absurd c (ci_mem_pts.mp j1).2
      · exact h3 i j (by omega) i1 j1 hn
    · refine br_f c (cx_closestTo hA hK hP (by omega) h1 (fun m le' mo' x0' x1' y0' y1' fo' ins' m1 m2 m3 => nm_r (nI_1 p) (ih (p + 1) m _ _ _ _ _ _ _ _ (by omega) (by omega) ?_ (fun i j hj i1 j1 hn => ?_))))
      · rcases m2 with e | ⟨i, i1, i2, i3⟩
        · rw [e]; exact h2
        · exact Or.inr ⟨i, p, i1, ci_mem_pts.mpr ⟨by omega, c⟩, i2, i3⟩
      · by_cases e : j = p
        · rw [e] at hn ⊢
          exact m3 i i1 hn
        · exact Nat.le_trans m1 (h3 i j (by omega) i1 j1 hn)
end
theorem ci_two {l : List Nat} {a b : Nat} (ha : a ∈ l) (hb : b ∈ l) (h : a ≠ b) : 2 ≤ l.length := by
  obtain ⟨i, i1, i2⟩ := ci_mem_g ha
  obtain ⟨j, j1, j2⟩ := ci_mem_g hb
  have : i ≠ j := fun e => h (by rw [← i2, ← j2, e])
  omega
theorem i_vc_closest {k : Nat} {u : SX} {v : SY} (I : i_Rel k u v) (hk : k + 3 ≤ 1536) : wpX_closest (fun r u' => wpY_closest (fun r' => r' = r ∧ i_Rel (k + 3) u' v) v) u := by
  refine ci_el (C := fun u v => wpX_closest (fun r u' => wpY_closest (fun r' => r' = r ∧ i_Rel (k + 3) u' v) v) u) ?_ I
  intro cn le mo x0 x1 y0 y1 fo us xs ys la ke ins pl P ks hA hp hK hP
  unfold wpX_closest
  have ec := hK.1
  have el := ci_len hP
  have h40 := hK.2.1
  by_cases c : 2 ≤ ks.length
  · refine br_t (by rw [ec]; exact nI_le (a := 2) c (by omega)) ⟨41, ?_⟩
    refine cx_closest_17 hA hK hP (fun b le' mo' x0' x1' y0' y1' fo' ins' b1 b2 b3 => ?_) 40 0 7938 le mo x0 x1 y0 y1 fo ins rfl (Nat.le_refl _) (Or.inl rfl) (fun i j hj => absurd hj (Nat.not_lt_zero j))
    have hpair : ∃ i j, i ∈ ci_pts us ∧ j ∈ ci_pts us ∧ i ≠ j ∧ ci_d (P i) (P j) = b := by
      rcases b2 with e | e
      · have g0 := ci_g_mem (l := ci_pts us) (j := 0) (by omega)
        have g1 := ci_g_mem (l := ci_pts us) (j := 1) (by omega)
        have gn := ci_nd (ci_pts_nd us) 0 1 (by omega) (by omega)
        have gb := b3 _ _ g0 g1 gn
        have gl := ci_d_le (hA (ci_g (ci_pts us) 0)).1 (hA (ci_g (ci_pts us) 1)).1
        exact ⟨_, _, g0, g1, gn, by omega⟩
      · exact e
    obtain ⟨i, j, i1, j1, hn, hd⟩ := hpair
    have hQ : ∃ i j, ci_Q us i j ∧ ci_d (P i) (P j) = b := by
      have i2 := ci_mem_pts.mp i1
      have j2 := ci_mem_pts.mp j1
      rcases Nat.lt_or_ge i j with g | g
      · exact ⟨i, j, ⟨g, j2.1, i2.2, j2.2⟩, hd⟩
      · exact ⟨j, i, ⟨by omega, i2.1, j2.2, i2.2⟩, by rw [ci_d_comm]; exact hd⟩
    refine cy_closest hp (fun i => (hA i).1) (fun h0 => ?_) (fun m m1 m2 => ⟨?_, ci_mk hA hp hK hP⟩)
    · obtain ⟨i', j', q, _⟩ := hQ
      exact absurd q (h0 i' j')
    · obtain ⟨i', j', q, e'⟩ := hQ
      obtain ⟨a, b', q2, e2⟩ := m1
      have g1 := m2 i' j' q
      have g2 := b3 a b' (ci_mem_pts.mpr ⟨Nat.lt_trans q2.1 q2.2.1, q2.2.2.1⟩) (ci_mem_pts.mpr ⟨q2.2.1, q2.2.2.2⟩) (Nat.ne_of_lt q2.1)
      have e : m = b := by omega
      rw [e]
  · refine br_f (by rw [ec]; exact nI_ge (b := 2) (by omega) (by decide)) ?_
    refine cy_closest hp (fun i => (hA i).1) (fun _ => ⟨rfl, ci_mk hA hp hK hP⟩) (fun m m1 _ => ?_)
    obtain ⟨a, b', q2, e2⟩ := m1
    have := ci_two (ci_mem_pts.mpr ⟨Nat.lt_trans q2.1 q2.2.1, q2.2.2.1⟩) (ci_mem_pts.mpr ⟨q2.2.1, q2.2.2.2⟩) (Nat.ne_of_lt q2.1)
    omega
end
