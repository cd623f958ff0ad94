section
/-! pure rows to paste: stores, nI and lN arithmetic, masks, shifts, narrowing, branches by naturals (pk_le, pk_lt, pk_eq), loops (lp1 .. lp16: the measure of the state; rp1 ..: recursion), negatives. Take what you need -/
theorem pk_us {f : Nat → Int32} {k : Nat} {x : Int32} : upd f k x k = x := if_pos rfl
theorem pk_un {f : Nat → Int32} {k j : Nat} {x : Int32} (h : j ≠ k) : upd f k x j = f j := if_neg h
theorem pk_sub {a b : Nat} (h : b ≤ a) : nI a - nI b = nI (a - b) := by
  obtain ⟨c, rfl⟩ : ∃ c, a = c + b := ⟨a - b, by omega⟩
  rw [← nI_add, Int32.add_sub_cancel, Nat.add_sub_cancel]
theorem pk_m1 (n : Nat) : nI (n + 1) + (-1) = nI n := by
  rw [← nI_1, Int32.add_assoc, show (1 : Int32) + (-1) = 0 from rfl, Int32.add_zero]
theorem pk_mul (a b : Nat) : nI a * nI b = nI (a * b) := (Int32.ofNat_mul a b).symm
theorem pk_div {a d : Nat} (ha : a < 2 ^ 31) (h0 : 0 < d) (hd : d < 2 ^ 31) : nI a / nI d = nI (a / d) := by
  apply Int32.toInt_inj.mp
  rw [lg_idiv_nonneg (by rw [nI_toInt ha]; omega) (by rw [nI_toInt hd]; omega), nI_toInt ha, nI_toInt hd, nI_toInt (Nat.lt_of_le_of_lt (Nat.div_le_self a d) ha)]
  first | rfl | exact (Int.natCast_ediv _ _).symm
theorem pk_rem {a d : Nat} (ha : a < 2 ^ 31) (h0 : 0 < d) (hd : d < 2 ^ 31) : nI a - nI a / nI d * nI d = nI (a % d) := by
  rw [pk_div ha h0 hd, pk_mul, pk_sub (Nat.div_mul_le_self a d)]
  exact congrArg nI (by have := Nat.div_add_mod' a d; omega)
theorem pk_sub_toInt {a b : Nat} (ha : a < 2 ^ 30) (hb : b < 2 ^ 30) : (nI a - nI b).toInt = (a : Int) - b := by
  rw [Int32.toInt_sub, nI_toInt (by omega), nI_toInt (by omega)]
  exact Int.bmod_eq_of_le (by omega) (by omega)
theorem pk_sneg {a b : Nat} (hb : b < 2 ^ 30) (h : a < b) : nI a - nI b < 0 := by
  rw [Int32.lt_iff_toInt_lt, pk_sub_toInt (by omega) hb, show (0 : Int32).toInt = 0 from by decide]
  omega
theorem pk_ix (x : Int32) {n : Nat} (hn : n < 2 ^ 31) : x < 0 ∨ nI n ≤ x ∨ ∃ j : Nat, j < n ∧ x = nI j := by
  by_cases h : x < 0
  · exact Or.inl h
  · obtain ⟨j, hj, rfl⟩ := nI_of h
    by_cases h2 : j < n
    · exact Or.inr (Or.inr ⟨j, h2, rfl⟩)
    · exact Or.inr (Or.inl (nI_le (by omega) hj))
theorem pk_le {x y : Int32} {A B : Prop} (a b : Nat) (f : a ≤ b → A) (g : b < a → B) (hx : x = nI a := by rfl) (hy : y = nI b := by rfl) (ha : a < 2 ^ 31 := by omega) (hb : b < 2 ^ 31 := by omega) : (x ≤ y → A) ∧ (¬ x ≤ y → B) := by
  subst hx hy
  rw [nI_leI ha hb]
  exact ⟨f, fun z => g (by omega)⟩
theorem pk_lt {x y : Int32} {A B : Prop} (a b : Nat) (f : a < b → A) (g : b ≤ a → B) (hx : x = nI a := by rfl) (hy : y = nI b := by rfl) (ha : a < 2 ^ 31 := by omega) (hb : b < 2 ^ 31 := by omega) : (x < y → A) ∧ (¬ x < y → B) := by
  subst hx hy
  rw [nI_ltI ha hb]
  exact ⟨f, fun z => g (by omega)⟩
theorem pk_eq {x y : Int32} {A B : Prop} (a b : Nat) (f : a = b → A) (g : a ≠ b → B) (hx : x = nI a := by rfl) (hy : y = nI b := by rfl) (ha : a < 2 ^ 31 := by omega) (hb : b < 2 ^ 31 := by omega) : (x = y → A) ∧ (¬ x = y → B) := by
  subst hx hy
  rw [nI_eq ha hb]
  exact ⟨f, g⟩
theorem pk_in {x : Int32} (n N : Nat) (h : n < N) (hx : x = nI n := by rfl) (hN : N < 2 ^ 31 := by omega) : vp_in x N := by
  subst hx
  exact vp_in_nI h hN
theorem pk_cl {x : Int32} (n : Nat) (hx : x = nI n := by rfl) (h : n < 2 ^ 31 := by omega) : x.toNatClampNeg = n := by
  subst hx
  exact nI_clamp h
theorem pk_tn {n : Nat} (h : n < 2 ^ 32) : (nI n).toBitVec.toNat = n := Nat.mod_eq_of_lt h
theorem pk_and (x : Int32) {m : Int32} (k : Nat) (hm : m.toBitVec.toNat = 2 ^ k - 1) : x &&& m = nI (x.toBitVec.toNat % 2 ^ k) := by
  apply Int32.toBitVec_inj.mp
  apply BitVec.eq_of_toNat_eq
  rw [Int32.toBitVec_and, BitVec.toNat_and, hm, Nat.and_two_pow_sub_one_eq_mod]
  show _ = (BitVec.ofNat 32 _).toNat
  rw [BitVec.toNat_ofNat]
  exact (Nat.mod_eq_of_lt (Nat.lt_of_le_of_lt (Nat.mod_le _ _) x.toBitVec.isLt)).symm
theorem pk_andN {n : Nat} (h : n < 2 ^ 32) {m : Int32} (k : Nat) (hm : m.toBitVec.toNat = 2 ^ k - 1) : nI n &&& m = nI (n % 2 ^ k) := by
  rw [pk_and _ k hm, pk_tn h]
theorem pk_andE (x : Int32) {m : Int32} (k : Nat) (hm : m.toBitVec.toNat = 2 ^ k - 1) : ∃ j : Nat, j < 2 ^ k ∧ x &&& m = nI j := ⟨_, Nat.mod_lt _ (Nat.two_pow_pos k), pk_and x k hm⟩
theorem pk_andIn (x : Int32) {m : Int32} (k : Nat) (hm : m.toBitVec.toNat = 2 ^ k - 1) (hk : k ≤ 30) : vp_in (x &&& m) (2 ^ k) := by
  obtain ⟨j, hj, e⟩ := pk_andE x k hm
  rw [e]
  exact vp_in_nI hj (Nat.lt_of_le_of_lt (Nat.pow_le_pow_right (by decide) hk) (by decide))
theorem pk_shl (a s : Int32) (k : Nat) (hs : (s.toBitVec.smod 32).toNat = k) : (a <<< s).toBitVec.toNat = a.toBitVec.toNat * 2 ^ k % 2 ^ 32 := by
  show (a.toBitVec <<< (s.toBitVec.smod 32).toNat).toNat = _
  rw [hs, BitVec.toNat_shiftLeft, Nat.shiftLeft_eq]
theorem pk_shlN {n : Nat} (s : Int32) (k : Nat) (hs : (s.toBitVec.smod 32).toNat = k) (h : n * 2 ^ k < 2 ^ 32) : nI n <<< s = nI (n * 2 ^ k) := by
  apply Int32.toBitVec_inj.mp
  apply BitVec.eq_of_toNat_eq
  have hn : n < 2 ^ 32 := Nat.lt_of_le_of_lt (Nat.le_mul_of_pos_right n (Nat.two_pow_pos k)) h
  rw [pk_shl _ _ k hs, pk_tn hn, pk_tn h, Nat.mod_eq_of_lt h]
theorem pk_shr (a s : Int32) (k : Nat) (hs : (s.toBitVec.smod 32).toNat = k) : (a >>> s).toInt = a.toInt >>> k := by
  show (a.toBitVec.sshiftRight (s.toBitVec.smod 32).toNat).toInt = _
  rw [hs, BitVec.toInt_sshiftRight]
  rfl
theorem pk_shrN {n : Nat} (h : n < 2 ^ 31) (s : Int32) (k : Nat) (hs : (s.toBitVec.smod 32).toNat = k) : nI n >>> s = nI (n / 2 ^ k) := by
  apply Int32.toInt_inj.mp
  have h2 : n / 2 ^ k ≤ n := Nat.div_le_self _ _
  rw [pk_shr _ _ k hs, nI_toInt h, nI_toInt (by omega), Int.shiftRight_eq_div_pow]
  rfl
theorem s_l : ∀ n, n < 32 → ((nI n &&& 31).toBitVec.smod 32).toNat = n := by decide +kernel
theorem pk_loop {σ : Type} (W : Nat → Nat → σ → Prop) (I : Nat → σ → Prop) (e i0 : Nat) (s : σ) (hi : i0 ≤ e) (h0 : I i0 s) (hx : ∀ n s, I e s → W (n + 1) e s)
    (hs : ∀ n i s, i < e → I i s → (∀ s', I (i + 1) s' → W n (i + 1) s') → W (n + 1) i s) : ∃ n, W n i0 s :=
  ⟨e + 1, loop_i W I e hx hs (e + 1) i0 s hi (by omega) h0⟩
theorem pk_loopD {σ : Type} (W : Nat → Nat → σ → Prop) (I : Nat → σ → Prop) (hx : ∀ n s, I 0 s → W (n + 1) 0 s)
    (hs : ∀ n i s, I (i + 1) s → (∀ s', I i s' → W n i s') → W (n + 1) (i + 1) s) : ∀ (e : Nat) (s : σ), I e s → W (e + 1) e s := by
  intro e
  induction e with
  | zero => exact fun s h => hx 0 s h
  | succ e ih => exact fun s h => hs (e + 1) e s h (fun s' h' => ih s' h')
end
section
/-! sums and maxima over the numbers below n -/
def sq_sm (g : Nat → Nat) : Nat → Nat
  | 0 => 0
  | n + 1 => sq_sm g n + g n
theorem sq_cg {g h : Nat → Nat} {n : Nat} (H : ∀ i, i < n → g i = h i) : sq_sm g n = sq_sm h n := by
  induction n with
  | zero => rfl
  | succ n ih =>
    show sq_sm g n + g n = sq_sm h n + h n
    rw [ih (fun i hi => H i (by omega)), H n (by omega)]
theorem sq_z {g : Nat → Nat} {n : Nat} (H : ∀ i, i < n → g i = 0) : sq_sm g n = 0 := by
  induction n with
  | zero => rfl
  | succ n ih =>
    show sq_sm g n + g n = 0
    rw [ih (fun i hi => H i (by omega)), H n (by omega)]
theorem sq_ad (g h : Nat → Nat) (n : Nat) : sq_sm (fun i => g i + h i) n = sq_sm g n + sq_sm h n := by
  induction n with
  | zero => rfl
  | succ n ih =>
    show sq_sm (fun i => g i + h i) n + (g n + h n) = (sq_sm g n + g n) + (sq_sm h n + h n)
    omega
theorem sq_ml (c : Nat) (g : Nat → Nat) (n : Nat) : sq_sm (fun i => c * g i) n = c * sq_sm g n := by
  induction n with
  | zero => rfl
  | succ n ih =>
    show sq_sm (fun i => c * g i) n + c * g n = c * (sq_sm g n + g n)
    rw [ih, Nat.mul_add]
theorem sq_mr (c : Nat) (g : Nat → Nat) (n : Nat) : sq_sm (fun i => g i * c) n = sq_sm g n * c := by
  induction n with
  | zero => exact (Nat.zero_mul c).symm
  | succ n ih =>
    show sq_sm (fun i => g i * c) n + g n * c = (sq_sm g n + g n) * c
    rw [ih, Nat.add_mul]
theorem sq_sw (g : Nat → Nat → Nat) (n m : Nat) : sq_sm (fun i => sq_sm (fun j => g i j) m) n = sq_sm (fun j => sq_sm (fun i => g i j) n) m := by
  induction n with
  | zero => exact (sq_z (fun _ _ => rfl)).symm
  | succ n ih =>
    show sq_sm (fun i => sq_sm (fun j => g i j) m) n + sq_sm (fun j => g n j) m = sq_sm (fun j => sq_sm (fun i => g i j) n + g n j) m
    rw [sq_ad (fun j => sq_sm (fun i => g i j) n) (fun j => g n j) m, ih]
theorem sq_one {g : Nat → Nat} {n e : Nat} (he : e < n) (H : ∀ i, i < n → i ≠ e → g i = 0) : sq_sm g n = g e := by
  induction n with
  | zero => omega
  | succ n ih =>
    show sq_sm g n + g n = g e
    by_cases h : e = n
    · rw [sq_z (fun i hi => H i (by omega) (by omega)), Nat.zero_add, h]
    · rw [ih (by omega) (fun i hi hn => H i (by omega) hn), H n (by omega) (by omega), Nat.add_zero]
theorem sq_rm {g : Nat → Nat} {n e : Nat} (he : e < n) : sq_sm g n = g e + sq_sm (fun y => if y = e then 0 else g y) n := by
  have h1 : sq_sm g n = sq_sm (fun y => (if y = e then g y else 0) + (if y = e then 0 else g y)) n :=
    sq_cg (fun i _ => by by_cases h : i = e <;> simp [h])
  rw [h1, sq_ad (fun y => if y = e then g y else 0) (fun y => if y = e then 0 else g y) n, sq_one he (fun i _ hn => if_neg hn), if_pos rfl]
theorem sq_sp (g : Nat → Nat) (a b : Nat) : sq_sm g (a + b) = sq_sm g a + sq_sm (fun i => g (a + i)) b := by
  induction b with
  | zero => rfl
  | succ b ih =>
    show sq_sm g (a + b) + g (a + b) = sq_sm g a + (sq_sm (fun i => g (a + i)) b + g (a + b))
    omega
theorem sq_pw (g : Nat → Nat) (n : Nat) : sq_sm g (2 ^ n) = g 0 + sq_sm (fun x => sq_sm (fun t => g (2 ^ x + t)) (2 ^ x)) n := by
  induction n with
  | zero =>
    show 0 + g 0 = g 0 + 0
    omega
  | succ n ih =>
    rw [Nat.pow_succ, Nat.mul_two, sq_sp, ih]
    show _ = g 0 + (sq_sm (fun x => sq_sm (fun t => g (2 ^ x + t)) (2 ^ x)) n + sq_sm (fun t => g (2 ^ n + t)) (2 ^ n))
    omega
theorem sq_ext (q : Nat → Nat) {y n : Nat} (h : y ≤ n) : sq_sm (fun x => if x < y then q x else 0) n = sq_sm q y := by
  obtain ⟨d, rfl⟩ : ∃ d, n = y + d := ⟨n - y, by omega⟩
  rw [sq_sp, sq_z (n := d) (fun i _ => if_neg (by omega)), Nat.add_zero]
  exact sq_cg (fun i hi => if_pos hi)
theorem sq_ge {g : Nat → Nat} {n i : Nat} (hi : i < n) : g i ≤ sq_sm g n := by
  induction n with
  | zero => omega
  | succ n ih =>
    show g i ≤ sq_sm g n + g n
    by_cases h : i = n
    · rw [h]; omega
    · have := ih (by omega); omega
theorem sq_po {g : Nat → Nat} {n : Nat} (h : 0 < sq_sm g n) : ∃ i, i < n ∧ 0 < g i := by
  induction n with
  | zero => exact absurd h (Nat.lt_irrefl 0)
  | succ n ih =>
    by_cases h1 : 0 < g n
    · exact ⟨n, by omega, h1⟩
    · have h2 : 0 < sq_sm g n + g n := h
      obtain ⟨i, hi, hg⟩ := ih (by omega)
      exact ⟨i, by omega, hg⟩
theorem sq_le {g h : Nat → Nat} {n : Nat} (H : ∀ i, i < n → g i ≤ h i) : sq_sm g n ≤ sq_sm h n := by
  induction n with
  | zero => exact Nat.le_refl 0
  | succ n ih =>
    show sq_sm g n + g n ≤ sq_sm h n + h n
    have a := ih (fun i hi => H i (by omega))
    have b := H n (by omega)
    omega
def sq_mx (g : Nat → Nat) : Nat → Nat
  | 0 => 0
  | n + 1 => max (sq_mx g n) (g n)
theorem sq_mxc {g h : Nat → Nat} {n : Nat} (H : ∀ i, i < n → g i = h i) : sq_mx g n = sq_mx h n := by
  induction n with
  | zero => rfl
  | succ n ih =>
    show max (sq_mx g n) (g n) = max (sq_mx h n) (h n)
    rw [ih (fun i hi => H i (by omega)), H n (by omega)]
theorem sq_mxz {g : Nat → Nat} {n : Nat} (H : ∀ i, i < n → g i = 0) : sq_mx g n = 0 := by
  induction n with
  | zero => rfl
  | succ n ih =>
    show max (sq_mx g n) (g n) = 0
    rw [ih (fun i hi => H i (by omega)), H n (by omega)]
    rfl
theorem sq_mxu {g : Nat → Nat} {n i : Nat} (hi : i < n) : g i ≤ sq_mx g n := by
  induction n with
  | zero => omega
  | succ n ih =>
    show g i ≤ max (sq_mx g n) (g n)
    by_cases h : i = n
    · rw [h]; omega
    · have := ih (by omega); omega
theorem sq_mxa {g : Nat → Nat} {n : Nat} (h : 0 < sq_mx g n) : ∃ i, i < n ∧ sq_mx g n = g i := by
  induction n with
  | zero => exact absurd h (Nat.lt_irrefl 0)
  | succ n ih =>
    have e : sq_mx g (n + 1) = max (sq_mx g n) (g n) := rfl
    by_cases h1 : sq_mx g n ≤ g n
    · exact ⟨n, by omega, by omega⟩
    · obtain ⟨i, hi, hg⟩ := ih (by omega)
      exact ⟨i, by omega, by omega⟩
theorem sq_mxb {g : Nat → Nat} {n b : Nat} (H : ∀ i, i < n → g i ≤ b) : sq_mx g n ≤ b := by
  induction n with
  | zero => exact Nat.zero_le b
  | succ n ih =>
    show max (sq_mx g n) (g n) ≤ b
    have a := ih (fun i hi => H i (by omega))
    have c := H n (by omega)
    omega
end
section
/-! a set of events is a number; its last event e: the set is 2 ^ e + t with t < 2 ^ e -/
def sq_b (s : Nat) : Nat → Option Nat
  | 0 => none
  | d + 1 => if s.testBit d = true then some d else sq_b s d
def sq_fi (s : Nat) : Nat → Option Nat
  | 0 => none
  | d + 1 => (sq_fi s d).or (if s.testBit d = true then some d else none)
def sq_sz (s : Nat) : Nat → Nat
  | 0 => 0
  | d + 1 => sq_sz s d + (if s.testBit d = true then 1 else 0)
/-- what step k has at event e from the vector g at event l -/
def sq_st (M : Nat → Option Nat → Nat → Bool) (rp : Nat → Bool) (g : Nat → Nat) (l e k : Nat) : Nat :=
  (if (rp k && M k (some l) e) = true then g k else 0) + (if (decide (0 < k) && M k (some l) e) = true then g (k - 1) else 0)
def sq_tk (M : Nat → Option Nat → Nat → Bool) (rp : Nat → Bool) (b : Option Nat) (g : Nat → Nat) (e : Nat) : Nat → Nat :=
  match b with
  | none => fun k => if (decide (k = 0) && M 0 none e) = true then 1 else 0
  | some l => sq_st M rp g l e
def sq_W (M : Nat → Option Nat → Nat → Bool) (rp : Nat → Bool) (s : Nat) : Nat → Nat → Nat
  | 0 => fun _ => 0
  | d + 1 => if s.testBit d = true then sq_tk M rp (sq_b s d) (sq_W M rp s d) d else sq_W M rp s d
theorem sq_b_cg {s s' d : Nat} (H : ∀ j, j < d → s.testBit j = s'.testBit j) : sq_b s d = sq_b s' d := by
  induction d with
  | zero => rfl
  | succ d ih =>
    show (if s.testBit d = true then some d else sq_b s d) = (if s'.testBit d = true then some d else sq_b s' d)
    rw [ih (fun j hj => H j (by omega)), H d (by omega)]
theorem sq_fi_cg {s s' d : Nat} (H : ∀ j, j < d → s.testBit j = s'.testBit j) : sq_fi s d = sq_fi s' d := by
  induction d with
  | zero => rfl
  | succ d ih =>
    show (sq_fi s d).or (if s.testBit d = true then some d else none) = (sq_fi s' d).or (if s'.testBit d = true then some d else none)
    rw [ih (fun j hj => H j (by omega)), H d (by omega)]
theorem sq_sz_cg {s s' d : Nat} (H : ∀ j, j < d → s.testBit j = s'.testBit j) : sq_sz s d = sq_sz s' d := by
  induction d with
  | zero => rfl
  | succ d ih =>
    show sq_sz s d + (if s.testBit d = true then 1 else 0) = sq_sz s' d + (if s'.testBit d = true then 1 else 0)
    rw [ih (fun j hj => H j (by omega)), H d (by omega)]
theorem sq_W_cg {M : Nat → Option Nat → Nat → Bool} {rp : Nat → Bool} {s s' d : Nat} (H : ∀ j, j < d → s.testBit j = s'.testBit j) : sq_W M rp s d = sq_W M rp s' d := by
  induction d with
  | zero => rfl
  | succ d ih =>
    show (if s.testBit d = true then sq_tk M rp (sq_b s d) (sq_W M rp s d) d else sq_W M rp s d) = (if s'.testBit d = true then sq_tk M rp (sq_b s' d) (sq_W M rp s' d) d else sq_W M rp s' d)
    rw [ih (fun j hj => H j (by omega)), sq_b_cg (fun j hj => H j (by omega)), H d (by omega)]
theorem sq_t0 {e t : Nat} (h : t < 2 ^ e) : (2 ^ e + t).testBit e = true := by
  rw [Nat.testBit_two_pow_add_eq, Nat.testBit_lt_two_pow h]; rfl
theorem sq_p1 (e : Nat) : 2 ^ (e + 1) = 2 ^ e + 2 ^ e := by rw [Nat.pow_succ, Nat.mul_two]
theorem sq_pm {a b : Nat} (h : a ≤ b) : 2 ^ a ≤ 2 ^ b := Nat.pow_le_pow_right (by decide) h
theorem sq_t1 {e t j : Nat} (h : t < 2 ^ e) (hj : e < j) : (2 ^ e + t).testBit j = false := by
  apply Nat.testBit_lt_two_pow
  have a := sq_pm (show e + 1 ≤ j from hj)
  have b := sq_p1 e
  omega
theorem sq_t2 {e j : Nat} (t : Nat) (hj : j < e) : (2 ^ e + t).testBit j = t.testBit j := Nat.testBit_two_pow_add_gt hj t
theorem sq_tl {l t e : Nat} (hl : l < e) (ht : t < 2 ^ l) : 2 ^ l + t < 2 ^ e := by
  have a := sq_pm (show l + 1 ≤ e from hl)
  have b := sq_p1 l
  omega
/-- below 2 ^ e there is 0 and what has its last event below e -/
theorem sq_sd : ∀ {e t : Nat}, 0 < t → t < 2 ^ e → ∃ l t', l < e ∧ t' < 2 ^ l ∧ t = 2 ^ l + t' := by
  intro e
  induction e with
  | zero => intro t h0 h; rw [Nat.pow_zero] at h; omega
  | succ e ih =>
    intro t h0 h
    by_cases h1 : t < 2 ^ e
    · obtain ⟨l, t', a, b, c⟩ := ih h0 h1
      exact ⟨l, t', by omega, b, c⟩
    · have b := sq_p1 e
      exact ⟨e, t - 2 ^ e, by omega, by omega, by omega⟩
theorem sq_bt {e t d : Nat} (h : t < 2 ^ e) (hd : e < d) : sq_b (2 ^ e + t) d = some e := by
  induction d with
  | zero => omega
  | succ d ih =>
    show (if (2 ^ e + t).testBit d = true then some d else sq_b (2 ^ e + t) d) = some e
    by_cases hde : d = e
    · rw [hde, if_pos (sq_t0 h)]
    · rw [sq_t1 h (show e < d by omega), if_neg (by decide)]
      exact ih (by omega)
def sq_fv (e t : Nat) : Nat := (sq_fi t e).getD e
theorem sq_ft {e t d : Nat} (h : t < 2 ^ e) (hd : e < d) : sq_fi (2 ^ e + t) d = some (sq_fv e t) := by
  induction d with
  | zero => omega
  | succ d ih =>
    show (sq_fi (2 ^ e + t) d).or (if (2 ^ e + t).testBit d = true then some d else none) = some (sq_fv e t)
    by_cases hde : d = e
    · rw [hde, if_pos (sq_t0 h), sq_fi_cg (fun j hj => sq_t2 t hj)]
      unfold sq_fv
      cases sq_fi t e <;> rfl
    · rw [ih (by omega)]
      rfl
theorem sq_zt {e t d : Nat} (h : t < 2 ^ e) (hd : e < d) : sq_sz (2 ^ e + t) d = sq_sz t e + 1 := by
  induction d with
  | zero => omega
  | succ d ih =>
    show sq_sz (2 ^ e + t) d + (if (2 ^ e + t).testBit d = true then 1 else 0) = sq_sz t e + 1
    by_cases hde : d = e
    · rw [hde, if_pos (sq_t0 h), sq_sz_cg (fun j hj => sq_t2 t hj)]
    · rw [sq_t1 h (show e < d by omega), if_neg (by decide)]
      exact ih (by omega)
/-- the ways vector of the set 2 ^ e + t -/
def sq_wv (M : Nat → Option Nat → Nat → Bool) (rp : Nat → Bool) (e t : Nat) : Nat → Nat := sq_tk M rp (sq_b t e) (sq_W M rp t e) e
theorem sq_Wt {M : Nat → Option Nat → Nat → Bool} {rp : Nat → Bool} {e t d : Nat} (h : t < 2 ^ e) (hd : e < d) : sq_W M rp (2 ^ e + t) d = sq_wv M rp e t := by
  induction d with
  | zero => omega
  | succ d ih =>
    show (if (2 ^ e + t).testBit d = true then sq_tk M rp (sq_b (2 ^ e + t) d) (sq_W M rp (2 ^ e + t) d) d else sq_W M rp (2 ^ e + t) d) = sq_wv M rp e t
    by_cases hde : d = e
    · rw [hde, if_pos (sq_t0 h), sq_W_cg (fun j hj => sq_t2 t hj), sq_b_cg (fun j hj => sq_t2 t hj)]
      rfl
    · rw [sq_t1 h (show e < d by omega), if_neg (by decide)]
      exact ih (by omega)
theorem sq_b0 (e : Nat) : sq_b 0 e = none := by
  induction e with
  | zero => rfl
  | succ e ih =>
    show (if (0 : Nat).testBit e = true then some e else sq_b 0 e) = none
    rw [Nat.zero_testBit, if_neg (by decide)]; exact ih
theorem sq_fi0 (e : Nat) : sq_fi 0 e = none := by
  induction e with
  | zero => rfl
  | succ e ih =>
    show (sq_fi 0 e).or (if (0 : Nat).testBit e = true then some e else none) = none
    rw [Nat.zero_testBit, if_neg (by decide), ih]; rfl
theorem sq_sz0 (e : Nat) : sq_sz 0 e = 0 := by
  induction e with
  | zero => rfl
  | succ e ih =>
    show sq_sz 0 e + (if (0 : Nat).testBit e = true then 1 else 0) = 0
    rw [Nat.zero_testBit, if_neg (by decide), ih]
theorem sq_wv0 (M : Nat → Option Nat → Nat → Bool) (rp : Nat → Bool) (e k : Nat) : sq_wv M rp e 0 k = if (decide (k = 0) && M 0 none e) = true then 1 else 0 := by
  unfold sq_wv; rw [sq_b0]; rfl
theorem sq_wv1 (M : Nat → Option Nat → Nat → Bool) (rp : Nat → Bool) {l e t : Nat} (hl : l < e) (ht : t < 2 ^ l) (k : Nat) : sq_wv M rp e (2 ^ l + t) k = sq_st M rp (sq_wv M rp l t) l e k := by
  show sq_tk M rp (sq_b (2 ^ l + t) e) (sq_W M rp (2 ^ l + t) e) e k = _
  rw [sq_bt ht hl, sq_Wt ht hl]; rfl
theorem sq_fv0 (e : Nat) : sq_fv e 0 = e := by
  unfold sq_fv; rw [sq_fi0]; rfl
theorem sq_fv1 {l e t : Nat} (hl : l < e) (ht : t < 2 ^ l) : sq_fv e (2 ^ l + t) = sq_fv l t := by
  show (sq_fi (2 ^ l + t) e).getD e = _
  rw [sq_ft ht hl]; rfl
def sq_zv (e t : Nat) : Nat := sq_sz t e + 1
theorem sq_zv0 (e : Nat) : sq_zv e 0 = 1 := by
  unfold sq_zv; rw [sq_sz0]
theorem sq_zv1 {l e t : Nat} (hl : l < e) (ht : t < 2 ^ l) : sq_zv e (2 ^ l + t) = sq_zv l t + 1 := by
  show sq_sz (2 ^ l + t) e + 1 = _
  rw [sq_zt ht hl]; rfl
theorem sq_fvle : ∀ (e t : Nat), t < 2 ^ e → sq_fv e t ≤ e := by
  intro e
  induction e using Nat.strongRecOn with
  | ind e ih =>
    intro t ht
    by_cases h0 : t = 0
    · rw [h0, sq_fv0]; exact Nat.le_refl e
    · obtain ⟨l, t', hl, ht', rfl⟩ := sq_sd (by omega) ht
      rw [sq_fv1 hl ht']
      have := ih l hl t' ht'
      omega
theorem sq_fvlt {l e t : Nat} (hl : l < e) (ht : t < 2 ^ l) : sq_fv e (2 ^ l + t) < e := by
  rw [sq_fv1 hl ht]; have := sq_fvle l t ht; omega
/-- the first event is not behind any other one -/
theorem sq_fvbit : ∀ (e t j : Nat), t < 2 ^ e → (2 ^ e + t).testBit j = true → sq_fv e t ≤ j := by
  intro e
  induction e using Nat.strongRecOn with
  | ind e ih =>
    intro t j ht hj
    by_cases h1 : e < j
    · rw [sq_t1 ht h1] at hj; exact absurd hj (by decide)
    · by_cases h2 : j = e
      · rw [h2]; exact sq_fvle e t ht
      · rw [sq_t2 t (show j < e by omega)] at hj
        by_cases h0 : t = 0
        · rw [h0, Nat.zero_testBit] at hj; exact absurd hj (by decide)
        · obtain ⟨l, t', hl, ht', rfl⟩ := sq_sd (by omega) ht
          rw [sq_fv1 hl ht']
          exact ih l hl t' j ht' hj
theorem sq_st_cg {M : Nat → Option Nat → Nat → Bool} {rp : Nat → Bool} {g g' : Nat → Nat} {l e k : Nat} (h1 : g k = g' k) (h2 : g (k - 1) = g' (k - 1)) : sq_st M rp g l e k = sq_st M rp g' l e k := by
  unfold sq_st; rw [h1, h2]
theorem sq_st_z {M : Nat → Option Nat → Nat → Bool} {rp : Nat → Bool} {g : Nat → Nat} {l e k : Nat} (h1 : g k = 0) (h2 : g (k - 1) = 0) : sq_st M rp g l e k = 0 := by
  unfold sq_st; rw [h1, h2, ite_self, ite_self]
theorem sq_lin (M : Nat → Option Nat → Nat → Bool) (rp : Nat → Bool) (c : Nat → Bool) (w : Nat → Nat → Nat) (l e k N : Nat) : sq_sm (fun t => if c t = true then sq_st M rp (w t) l e k else 0) N = sq_st M rp (fun j => sq_sm (fun t => if c t = true then w t j else 0) N) l e k := by
  induction N with
  | zero => exact (sq_st_z rfl rfl).symm
  | succ N ih =>
    show sq_sm (fun t => if c t = true then sq_st M rp (w t) l e k else 0) N + (if c N = true then sq_st M rp (w N) l e k else 0) = sq_st M rp (fun j => sq_sm (fun t => if c t = true then w t j else 0) N + (if c N = true then w N j else 0)) l e k
    rw [ih]
    unfold sq_st
    generalize (rp k && M k (some l) e) = a
    generalize (decide (0 < k) && M k (some l) e) = b
    generalize sq_sm (fun t => if c t = true then w t k else 0) N = p
    generalize sq_sm (fun t => if c t = true then w t (k - 1) else 0) N = q
    cases a <;> cases b <;> cases c N <;> simp <;> omega
/-- one step back: the sets with last event x that pass c, by their last event but one -/
theorem sq_stp (M : Nat → Option Nat → Nat → Bool) (rp : Nat → Bool) (c : Nat → Nat → Bool) {x : Nat} (h0 : c x 0 = false) (h1 : ∀ l t, l < x → t < 2 ^ l → c x (2 ^ l + t) = c l t) (k : Nat) :
    sq_sm (fun t => if c x t = true then sq_wv M rp x t k else 0) (2 ^ x) = sq_sm (fun l => sq_st M rp (fun j => sq_sm (fun t => if c l t = true then sq_wv M rp l t j else 0) (2 ^ l)) l x k) x := by
  rw [sq_pw]
  rw [h0, if_neg (by decide), Nat.zero_add]
  refine sq_cg (fun l hl => ?_)
  rw [← sq_lin M rp (c l) (sq_wv M rp l) l x k (2 ^ l)]
  refine sq_cg (fun t ht => ?_)
  rw [h1 l t hl ht, sq_wv1 M rp hl ht k]
end
section
/-! X's tables for one first event f: N the test, J the window, rp the repeated steps -/
def sq_fl (J : Nat → Bool) (f e t : Nat) : Bool := decide (sq_fv e t = f) && J e
def sq_RR (N : Nat → Option Nat → Nat → Bool) (J : Nat → Bool) (rp : Nat → Bool) (f e k : Nat) : Nat :=
  sq_sm (fun t => if sq_fl J f e t = true then sq_wv N rp e t k else 0) (2 ^ e)
def sq_nw (N : Nat → Option Nat → Nat → Bool) (J : Nat → Bool) (rp : Nat → Bool) (f : Nat) (G : Nat → Nat → Nat) (e k : Nat) : Nat :=
  if e < f then 0 else if e = f then (if (decide (k = 0) && N 0 none f) = true then 1 else 0) else if J e = true then sq_sm (fun l => sq_st N rp (G l) l e k) e else 0
def sq_Rec (N : Nat → Option Nat → Nat → Bool) (J : Nat → Bool) (rp : Nat → Bool) (m n f : Nat) (G : Nat → Nat → Nat) : Prop :=
  ∀ e k, e < n → k < m → G e k = sq_nw N J rp f G e k
def sq_wn (J : Nat → Bool) (n f : Nat) : Prop := J f = true ∧ ∀ l e, l ≤ e → e < n → J e = true → J l = true
section
variable {N : Nat → Option Nat → Nat → Bool} {J : Nat → Bool} {rp : Nat → Bool} {m n f : Nat} {G H : Nat → Nat → Nat}
theorem sq_nw_cg {G' : Nat → Nat → Nat} {e k : Nat} (hk : k < m) (h : ∀ l j, l < e → j < m → G l j = G' l j) : sq_nw N J rp f G e k = sq_nw N J rp f G' e k := by
  unfold sq_nw
  have h1 : sq_sm (fun l => sq_st N rp (G l) l e k) e = sq_sm (fun l => sq_st N rp (G' l) l e k) e :=
    sq_cg (fun l hl => sq_st_cg (h l k hl hk) (h l (k - 1) hl (by omega)))
  rw [h1]
theorem sq_fl_ne {e t : Nat} (h : sq_fv e t ≠ f) : sq_fl J f e t = false := by
  unfold sq_fl; rw [decide_eq_false h]; rfl
theorem sq_fl_eq {e t : Nat} (h : sq_fv e t = f) : sq_fl J f e t = J e := by
  unfold sq_fl; rw [decide_eq_true h]; rfl
theorem sq_fl_J {e t : Nat} (h : J e = false) : sq_fl J f e t = false := by
  unfold sq_fl; rw [h, Bool.and_false]
theorem sq_fl_t {e t : Nat} (h : sq_fl J f e t = true) : sq_fv e t = f ∧ J e = true := by
  unfold sq_fl at h
  rw [Bool.and_eq_true, decide_eq_true_eq] at h
  exact h
theorem sq_fl1 (hw : sq_wn J n f) {x l t : Nat} (hx : x < n) (hJ : J x = true) (hl : l < x) (ht : t < 2 ^ l) : sq_fl J f x (2 ^ l + t) = sq_fl J f l t := by
  unfold sq_fl
  rw [sq_fv1 hl ht, hJ, hw.2 l x (by omega) hx hJ]
theorem sq_A (hw : sq_wn J n f) (R : sq_Rec N J rp m n f G) : ∀ e k, e < n → k < m → G e k = sq_RR N J rp f e k := by
  intro e
  induction e using Nat.strongRecOn with
  | ind e ih =>
    intro k he hk
    rw [R e k he hk]
    unfold sq_nw
    by_cases h1 : e < f
    · rw [if_pos h1]
      refine (sq_z (fun t ht => ?_)).symm
      have := sq_fvle e t ht
      rw [sq_fl_ne (by omega), if_neg (by decide)]
    · rw [if_neg h1]
      by_cases h2 : e = f
      · subst h2
        rw [if_pos rfl]
        unfold sq_RR
        rw [sq_pw]
        rw [sq_fl_eq (sq_fv0 e), hw.1, if_pos rfl, sq_wv0, sq_z (n := e), Nat.add_zero]
        intro l hl
        refine sq_z (fun t ht => ?_)
        have := sq_fvlt hl ht
        rw [sq_fl_ne (by omega), if_neg (by decide)]
      · rw [if_neg h2]
        by_cases hJ : J e = true
        · rw [if_pos hJ]
          unfold sq_RR
          rw [sq_stp N rp (sq_fl J f) (sq_fl_ne (by rw [sq_fv0]; exact h2)) (fun l t hl ht => sq_fl1 hw he hJ hl ht) k]
          refine sq_cg (fun l hl => ?_)
          exact sq_st_cg (ih l hl k (by omega) hk) (ih l hl (k - 1) (by omega) (by omega))
        · rw [if_neg hJ]
          refine (sq_z (fun t ht => ?_)).symm
          rw [sq_fl_J (by simpa using hJ), if_neg (by decide)]
theorem sq_RR1 {e k t : Nat} (ht : t < 2 ^ e) (hf : sq_fl J f e t = true) (hp : 0 < sq_wv N rp e t k) : 0 < sq_RR N J rp f e k := by
  have h := sq_ge (g := fun t => if sq_fl J f e t = true then sq_wv N rp e t k else 0) ht
  rw [if_pos hf] at h
  exact Nat.lt_of_lt_of_le hp h
theorem sq_RR2 {e k : Nat} (h : 0 < sq_RR N J rp f e k) : ∃ t, t < 2 ^ e ∧ sq_fl J f e t = true ∧ 0 < sq_wv N rp e t k := by
  obtain ⟨t, ht, hp⟩ := sq_po h
  by_cases hc : sq_fl J f e t = true
  · rw [if_pos hc] at hp
    exact ⟨t, ht, hc, hp⟩
  · rw [if_neg hc] at hp
    exact absurd hp (Nat.lt_irrefl 0)
theorem sq_stb (g : Nat → Nat) (l e k : Nat) : sq_st N rp g l e k ≤ g k + g (k - 1) := by
  unfold sq_st; split <;> split <;> omega
theorem sq_3 (e : Nat) : sq_sm (fun l => 2 * 3 ^ l) e + 1 = 3 ^ e := by
  induction e with
  | zero => rfl
  | succ e ih =>
    show sq_sm (fun l => 2 * 3 ^ l) e + 2 * 3 ^ e + 1 = 3 ^ (e + 1)
    rw [Nat.pow_succ]; omega
theorem sq_bd (R : sq_Rec N J rp m n f G) : ∀ e k, e < n → k < m → G e k ≤ 3 ^ e := by
  intro e
  induction e using Nat.strongRecOn with
  | ind e ih =>
    intro k he hk
    have h3 : 0 < 3 ^ e := Nat.pow_pos (by decide)
    rw [R e k he hk]
    unfold sq_nw
    split
    · omega
    · split
      · split <;> omega
      · split
        · have h : sq_sm (fun l => sq_st N rp (G l) l e k) e ≤ sq_sm (fun l => 2 * 3 ^ l) e := sq_le (fun l hl => by
            have a := sq_stb (N := N) (rp := rp) (G l) l e k
            have b := ih l hl k (by omega) hk
            have c := ih l hl (k - 1) (by omega) (by omega)
            omega)
          have := sq_3 e
          omega
        · omega
theorem sq_310 {e : Nat} (h : e < 10) : 3 ^ e < 2 ^ 31 :=
  Nat.lt_of_le_of_lt (Nat.pow_le_pow_right (by decide) (show e ≤ 10 by omega)) (by decide)
end
/-! the most events of a run -/
def sq_sq (N : Nat → Option Nat → Nat → Bool) (rp : Nat → Bool) (g h : Nat → Nat) (l e k : Nat) : Nat :=
  max (if (decide (0 < k) && N k (some l) e && decide (0 < g (k - 1))) = true then h (k - 1) + 1 else 0) (if (rp k && N k (some l) e && decide (0 < g k)) = true then h k + 1 else 0)
def sq_nq (N : Nat → Option Nat → Nat → Bool) (J : Nat → Bool) (rp : Nat → Bool) (f : Nat) (G H : Nat → Nat → Nat) (e k : Nat) : Nat :=
  if e < f then 0 else if e = f then (if (decide (k = 0) && N 0 none f) = true then 1 else 0) else if J e = true then sq_mx (fun l => sq_sq N rp (G l) (H l) l e k) e else 0
def sq_Req (N : Nat → Option Nat → Nat → Bool) (J : Nat → Bool) (rp : Nat → Bool) (m n f : Nat) (G H : Nat → Nat → Nat) : Prop :=
  ∀ e k, e < n → k < m → H e k = sq_nq N J rp f G H e k
section
variable {N : Nat → Option Nat → Nat → Bool} {J : Nat → Bool} {rp : Nat → Bool} {m n f : Nat} {G H : Nat → Nat → Nat}
theorem sq_sq_cg {g h g' h' : Nat → Nat} {l e k : Nat} (h1 : g k = g' k) (h2 : g (k - 1) = g' (k - 1)) (h3 : h k = h' k) (h4 : h (k - 1) = h' (k - 1)) : sq_sq N rp g h l e k = sq_sq N rp g' h' l e k := by
  unfold sq_sq; rw [h1, h2, h3, h4]
theorem sq_sq_z {g h : Nat → Nat} {l e k : Nat} (h1 : g k = 0) (h2 : g (k - 1) = 0) : sq_sq N rp g h l e k = 0 := by
  unfold sq_sq; rw [h1, h2]; simp
theorem sq_nq_cg {G' H' : Nat → Nat → Nat} {e k : Nat} (hk : k < m) (h : ∀ l j, l < e → j < m → G l j = G' l j) (h' : ∀ l j, l < e → j < m → H l j = H' l j) : sq_nq N J rp f G H e k = sq_nq N J rp f G' H' e k := by
  unfold sq_nq
  have h1 : sq_mx (fun l => sq_sq N rp (G l) (H l) l e k) e = sq_mx (fun l => sq_sq N rp (G' l) (H' l) l e k) e :=
    sq_mxc (fun l hl => sq_sq_cg (h l k hl hk) (h l (k - 1) hl (by omega)) (h' l k hl hk) (h' l (k - 1) hl (by omega)))
  rw [h1]
theorem sq_H (hw : sq_wn J n f) (R : sq_Rec N J rp m n f G) (Q : sq_Req N J rp m n f G H) : ∀ e k, e < n → k < m →
    (∀ t, t < 2 ^ e → sq_fl J f e t = true → 0 < sq_wv N rp e t k → sq_zv e t ≤ H e k) ∧ (0 < G e k → ∃ t, t < 2 ^ e ∧ sq_fl J f e t = true ∧ 0 < sq_wv N rp e t k ∧ sq_zv e t = H e k) := by
  intro e
  induction e using Nat.strongRecOn with
  | ind e ih =>
    intro k he hk
    have hA := sq_A hw R
    by_cases h1 : e < f
    · refine ⟨fun t ht hc _ => ?_, fun h => ?_⟩
      · have := sq_fvle e t ht
        have := (sq_fl_t hc).1
        omega
      · rw [R e k he hk] at h
        unfold sq_nw at h
        rw [if_pos h1] at h
        exact absurd h (Nat.lt_irrefl 0)
    · by_cases h2 : e = f
      · subst h2
        have hQ := Q e k he hk
        have hR := R e k he hk
        unfold sq_nq at hQ
        unfold sq_nw at hR
        rw [if_neg h1, if_pos rfl] at hQ hR
        refine ⟨fun t ht hc hp => ?_, fun h => ?_⟩
        · by_cases h0 : t = 0
          · subst h0
            rw [sq_wv0] at hp
            rw [sq_zv0, hQ]
            exact hp
          · obtain ⟨l, t', hl, ht', rfl⟩ := sq_sd (by omega) ht
            have := sq_fvlt hl ht'
            have := (sq_fl_t hc).1
            omega
        · by_cases hc : (decide (k = 0) && N 0 none e) = true
          · rw [if_pos hc] at hQ
            refine ⟨0, Nat.two_pow_pos e, ?_, ?_, ?_⟩
            · rw [sq_fl_eq (sq_fv0 e)]; exact hw.1
            · rw [sq_wv0, if_pos hc]; decide
            · rw [sq_zv0, hQ]
          · rw [hR, if_neg hc] at h
            exact absurd h (Nat.lt_irrefl 0)
      · by_cases hJ : J e = true
        · have hQ := Q e k he hk
          unfold sq_nq at hQ
          rw [if_neg h1, if_neg h2, if_pos hJ] at hQ
          have part1 : ∀ t, t < 2 ^ e → sq_fl J f e t = true → 0 < sq_wv N rp e t k → sq_zv e t ≤ H e k := by
            intro t ht hc hp
            by_cases h0 : t = 0
            · subst h0
              have := (sq_fl_t hc).1
              rw [sq_fv0] at this
              exact absurd this h2
            · obtain ⟨l, t', hl, ht', rfl⟩ := sq_sd (by omega) ht
              rw [sq_fl1 hw he hJ hl ht'] at hc
              rw [sq_wv1 N rp hl ht'] at hp
              rw [sq_zv1 hl ht', hQ]
              refine Nat.le_trans ?_ (sq_mxu (g := fun l => sq_sq N rp (G l) (H l) l e k) hl)
              unfold sq_st at hp
              unfold sq_sq
              by_cases c1 : (rp k && N k (some l) e) = true ∧ 0 < sq_wv N rp l t' k
              · have a := (ih l hl k (by omega) hk).1 t' ht' hc c1.2
                have b : 0 < G l k := by rw [hA l k (by omega) hk]; exact sq_RR1 ht' hc c1.2
                rw [c1.1, decide_eq_true b]
                simp only [Bool.and_self, if_true]
                omega
              · by_cases c2 : (decide (0 < k) && N k (some l) e) = true ∧ 0 < sq_wv N rp l t' (k - 1)
                · have a := (ih l hl (k - 1) (by omega) (by omega)).1 t' ht' hc c2.2
                  have b : 0 < G l (k - 1) := by rw [hA l (k - 1) (by omega) (by omega)]; exact sq_RR1 ht' hc c2.2
                  rw [c2.1, decide_eq_true b]
                  simp only [Bool.and_self, if_true]
                  omega
                · exfalso
                  have z1 : (if (rp k && N k (some l) e) = true then sq_wv N rp l t' k else 0) = 0 := by
                    by_cases q : (rp k && N k (some l) e) = true
                    · rw [if_pos q]
                      have : ¬ 0 < sq_wv N rp l t' k := fun z => c1 ⟨q, z⟩
                      omega
                    · rw [if_neg q]
                  have z2 : (if (decide (0 < k) && N k (some l) e) = true then sq_wv N rp l t' (k - 1) else 0) = 0 := by
                    by_cases q : (decide (0 < k) && N k (some l) e) = true
                    · rw [if_pos q]
                      have : ¬ 0 < sq_wv N rp l t' (k - 1) := fun z => c2 ⟨q, z⟩
                      omega
                    · rw [if_neg q]
                  rw [z1, z2] at hp
                  exact absurd hp (Nat.lt_irrefl 0)
          refine ⟨part1, fun h => ?_⟩
          rw [hA e k he hk] at h
          obtain ⟨t0, ht0, hc0, hp0⟩ := sq_RR2 h
          have hz := part1 t0 ht0 hc0 hp0
          have hz1 : 0 < sq_zv e t0 := Nat.succ_pos _
          have hpos : 0 < sq_mx (fun l => sq_sq N rp (G l) (H l) l e k) e := by rw [← hQ]; omega
          obtain ⟨l, hl, hat⟩ := sq_mxa hpos
          rw [hat] at hpos
          rw [hat] at hQ
          unfold sq_sq at hQ hpos
          by_cases c1 : (rp k && N k (some l) e && decide (0 < G l k)) = true
          · rw [if_pos c1] at hQ hpos
            by_cases c2 : (decide (0 < k) && N k (some l) e && decide (0 < G l (k - 1))) = true
            · rw [if_pos c2] at hQ hpos
              rw [Bool.and_eq_true, decide_eq_true_eq] at c1 c2
              by_cases hm : H l (k - 1) ≤ H l k
              · obtain ⟨t, ht, hc, hp, hzz⟩ := (ih l hl k (by omega) hk).2 c1.2
                refine ⟨2 ^ l + t, sq_tl hl ht, by rw [sq_fl1 hw he hJ hl ht]; exact hc, ?_, by rw [sq_zv1 hl ht]; omega⟩
                rw [sq_wv1 N rp hl ht]; unfold sq_st; rw [if_pos c1.1]; omega
              · obtain ⟨t, ht, hc, hp, hzz⟩ := (ih l hl (k - 1) (by omega) (by omega)).2 c2.2
                refine ⟨2 ^ l + t, sq_tl hl ht, by rw [sq_fl1 hw he hJ hl ht]; exact hc, ?_, by rw [sq_zv1 hl ht]; omega⟩
                rw [sq_wv1 N rp hl ht]; unfold sq_st; rw [if_pos c2.1]; omega
            · rw [if_neg c2] at hQ hpos
              rw [Bool.and_eq_true, decide_eq_true_eq] at c1
              obtain ⟨t, ht, hc, hp, hzz⟩ := (ih l hl k (by omega) hk).2 c1.2
              refine ⟨2 ^ l + t, sq_tl hl ht, by rw [sq_fl1 hw he hJ hl ht]; exact hc, ?_, by rw [sq_zv1 hl ht]; omega⟩
              rw [sq_wv1 N rp hl ht]; unfold sq_st; rw [if_pos c1.1]; omega
          · rw [if_neg c1] at hQ hpos
            by_cases c2 : (decide (0 < k) && N k (some l) e && decide (0 < G l (k - 1))) = true
            · rw [if_pos c2] at hQ hpos
              rw [Bool.and_eq_true, decide_eq_true_eq] at c2
              obtain ⟨t, ht, hc, hp, hzz⟩ := (ih l hl (k - 1) (by omega) (by omega)).2 c2.2
              refine ⟨2 ^ l + t, sq_tl hl ht, by rw [sq_fl1 hw he hJ hl ht]; exact hc, ?_, by rw [sq_zv1 hl ht]; omega⟩
              rw [sq_wv1 N rp hl ht]; unfold sq_st; rw [if_pos c2.1]; omega
            · rw [if_neg c2] at hpos
              exact absurd hpos (by decide)
        · have hJ' : J e = false := by simpa using hJ
          refine ⟨fun t ht hc _ => ?_, fun h => ?_⟩
          · rw [sq_fl_J hJ'] at hc; exact absurd hc (by decide)
          · rw [hA e k he hk] at h
            obtain ⟨t0, _, hc0, _⟩ := sq_RR2 h
            rw [sq_fl_J hJ'] at hc0; exact absurd hc0 (by decide)
end
end
section
/-! runs come to e, ways lead on from there: the sum of their products counts the whole finds -/
def sq_av (N : Nat → Option Nat → Nat → Bool) (rp : Nat → Bool) (m : Nat) (v : Nat → Nat) (l y k : Nat) : Nat :=
  (if (rp k && N k (some l) y) = true then v k else 0) + (if (decide (k + 1 < m) && N (k + 1) (some l) y) = true then v (k + 1) else 0)
theorem sq_shift (A B : Nat → Nat) (q : Nat) (hA : A 0 = 0) (hB : B q = 0) (h : ∀ k, k < q → A (k + 1) = B k) : sq_sm A (q + 1) = sq_sm B (q + 1) := by
  have e : sq_sm A (q + 1) = sq_sm A (1 + q) := by rw [Nat.add_comm]
  rw [e, sq_sp]
  show (0 + A 0) + sq_sm (fun i => A (1 + i)) q = sq_sm B q + B q
  rw [hA, hB, sq_cg (h := B) (fun i hi => by rw [Nat.add_comm 1 i]; exact h i hi)]
  omega
theorem sq_adj (N : Nat → Option Nat → Nat → Bool) (rp : Nat → Bool) (m : Nat) (g v : Nat → Nat) (l y : Nat) : sq_sm (fun k => sq_st N rp g l y k * v k) m = sq_sm (fun k => g k * sq_av N rp m v l y k) m := by
  have e1 : sq_sm (fun k => sq_st N rp g l y k * v k) m = sq_sm (fun k => (if (rp k && N k (some l) y) = true then g k else 0) * v k) m + sq_sm (fun k => (if (decide (0 < k) && N k (some l) y) = true then g (k - 1) else 0) * v k) m := by
    rw [← sq_ad]; exact sq_cg (fun k _ => Nat.add_mul _ _ _)
  have e2 : sq_sm (fun k => g k * sq_av N rp m v l y k) m = sq_sm (fun k => g k * (if (rp k && N k (some l) y) = true then v k else 0)) m + sq_sm (fun k => g k * (if (decide (k + 1 < m) && N (k + 1) (some l) y) = true then v (k + 1) else 0)) m := by
    rw [← sq_ad]; exact sq_cg (fun k _ => Nat.mul_add _ _ _)
  have e3 : sq_sm (fun k => (if (rp k && N k (some l) y) = true then g k else 0) * v k) m = sq_sm (fun k => g k * (if (rp k && N k (some l) y) = true then v k else 0)) m :=
    sq_cg (fun k _ => by split <;> simp)
  have e4 : sq_sm (fun k => (if (decide (0 < k) && N k (some l) y) = true then g (k - 1) else 0) * v k) m = sq_sm (fun k => g k * (if (decide (k + 1 < m) && N (k + 1) (some l) y) = true then v (k + 1) else 0)) m := by
    cases m with
    | zero => rfl
    | succ q =>
      refine sq_shift _ _ q ?_ ?_ (fun k hk => ?_)
      · simp
      · simp
      · have a : decide (k + 1 < q + 1) = true := decide_eq_true (by omega)
        have b : decide (0 < k + 1) = true := decide_eq_true (by omega)
        rw [a, b, Nat.add_sub_cancel]
        split <;> simp
  rw [e1, e2, e3, e4]
def sq_Pd (Ge V : Nat → Nat → Nat) (m x : Nat) : Nat := sq_sm (fun k => Ge x k * V x k) m
def sq_Qd (N : Nat → Option Nat → Nat → Bool) (rp : Nat → Bool) (Ge V : Nat → Nat → Nat) (m x y : Nat) : Nat := sq_sm (fun k => sq_st N rp (Ge x) x y k * V y k) m
theorem sq_dual {N : Nat → Option Nat → Nat → Bool} {J : Nat → Bool} {rp : Nat → Bool} {m n e : Nat} {Ge V : Nat → Nat → Nat} (he : e < n) (hm : 0 < m)
    (h0 : ∀ x k, x < e → k < m → Ge x k = 0)
    (h1 : ∀ x k, e < x → x < n → k < m → Ge x k = if J x = true then sq_sm (fun l => sq_st N rp (Ge l) l x k) x else 0)
    (hV : ∀ x k, e ≤ x → x < n → k < m → V x k = (if k + 1 = m then 1 else 0) + sq_sm (fun y => if (decide (x < y) && J y) = true then sq_av N rp m (V y) x y k else 0) n) :
    sq_sm (fun k => Ge e k * V e k) m = sq_sm (fun x => Ge x (m - 1)) n := by
  have hQ0 : ∀ x y, x < e → sq_Qd N rp Ge V m x y = 0 := fun x y hx =>
    sq_z (fun k hk => by rw [sq_st_z (h0 x k hx hk) (h0 x (k - 1) hx (by omega)), Nat.zero_mul])
  have hP0 : ∀ x, x < e → sq_Pd Ge V m x = 0 := fun x hx =>
    sq_z (fun k hk => by rw [h0 x k hx hk, Nat.zero_mul])
  have hP : ∀ x, x < n → sq_Pd Ge V m x = Ge x (m - 1) + sq_sm (fun y => if (decide (x < y) && J y) = true then sq_Qd N rp Ge V m x y else 0) n := by
    intro x hx
    by_cases hxe : x < e
    · rw [hP0 x hxe, h0 x (m - 1) hxe (by omega), sq_z (fun y _ => by rw [hQ0 x y hxe, ite_self])]
    · have a1 : sq_Pd Ge V m x = sq_sm (fun k => Ge x k * (if k + 1 = m then 1 else 0) + Ge x k * sq_sm (fun y => if (decide (x < y) && J y) = true then sq_av N rp m (V y) x y k else 0) n) m :=
        sq_cg (fun k hk => by rw [hV x k (by omega) hx hk, Nat.mul_add])
      have a2 : sq_sm (fun k => Ge x k * (if k + 1 = m then 1 else 0)) m = Ge x (m - 1) := by
        rw [sq_one (e := m - 1) (by omega) (fun k hk hne => by rw [if_neg (by omega), Nat.mul_zero]), if_pos (by omega), Nat.mul_one]
      have a3 : sq_sm (fun k => Ge x k * sq_sm (fun y => if (decide (x < y) && J y) = true then sq_av N rp m (V y) x y k else 0) n) m = sq_sm (fun k => sq_sm (fun y => Ge x k * (if (decide (x < y) && J y) = true then sq_av N rp m (V y) x y k else 0)) n) m :=
        sq_cg (fun k _ => (sq_ml _ _ _).symm)
      rw [a1, sq_ad (fun k => Ge x k * (if k + 1 = m then 1 else 0)) (fun k => Ge x k * sq_sm (fun y => if (decide (x < y) && J y) = true then sq_av N rp m (V y) x y k else 0) n) m, a2, a3, sq_sw (fun k y => Ge x k * (if (decide (x < y) && J y) = true then sq_av N rp m (V y) x y k else 0))]
      refine congrArg (fun z => Ge x (m - 1) + z) (sq_cg (fun y _ => ?_))
      by_cases hc : (decide (x < y) && J y) = true
      · rw [if_pos hc]
        exact (sq_cg (fun k _ => by rw [if_pos hc])).trans (sq_adj N rp m (Ge x) (V y) x y).symm
      · rw [if_neg hc]
        exact sq_z (fun k _ => by rw [if_neg hc, Nat.mul_zero])
  have S : sq_sm (sq_Pd Ge V m) n = sq_sm (fun x => Ge x (m - 1)) n + sq_sm (fun x => sq_sm (fun y => if (decide (x < y) && J y) = true then sq_Qd N rp Ge V m x y else 0) n) n := by
    rw [← sq_ad]; exact sq_cg hP
  rw [sq_sw (fun x y => if (decide (x < y) && J y) = true then sq_Qd N rp Ge V m x y else 0)] at S
  have E : sq_sm (fun y => sq_sm (fun x => if (decide (x < y) && J y) = true then sq_Qd N rp Ge V m x y else 0) n) n = sq_sm (fun y => if y = e then 0 else sq_Pd Ge V m y) n := by
    refine sq_cg (fun y hy => ?_)
    by_cases hye : y ≤ e
    · have z1 : sq_sm (fun x => if (decide (x < y) && J y) = true then sq_Qd N rp Ge V m x y else 0) n = 0 := by
        refine sq_z (fun x _ => ?_)
        by_cases hxy : x < y
        · rw [hQ0 x y (by omega), ite_self]
        · rw [decide_eq_false hxy, Bool.false_and, if_neg (by decide)]
      rw [z1]
      by_cases hq : y = e
      · rw [if_pos hq]
      · rw [if_neg hq, hP0 y (by omega)]
    · rw [if_neg (by omega)]
      by_cases hJ : J y = true
      · have z1 : sq_sm (fun x => if (decide (x < y) && J y) = true then sq_Qd N rp Ge V m x y else 0) n = sq_sm (fun x => if x < y then sq_Qd N rp Ge V m x y else 0) n := by
          refine sq_cg (fun x _ => ?_)
          rw [hJ, Bool.and_true]
          by_cases hxy : x < y
          · rw [decide_eq_true hxy, if_pos rfl, if_pos hxy]
          · rw [decide_eq_false hxy, if_neg (by decide), if_neg hxy]
        rw [z1, sq_ext (fun x => sq_Qd N rp Ge V m x y) (show y ≤ n by omega)]
        unfold sq_Qd sq_Pd
        rw [sq_sw (fun x k => sq_st N rp (Ge x) x y k * V y k)]
        refine sq_cg (fun k hk => ?_)
        rw [h1 y k (by omega) hy hk, if_pos hJ]
        exact sq_mr (V y k) (fun l => sq_st N rp (Ge l) l y k) y
      · have hJ' : J y = false := by simpa using hJ
        rw [sq_z (fun x _ => by rw [hJ', Bool.and_false, if_neg (by decide)])]
        exact (sq_z (fun k hk => by rw [h1 y k (by omega) hy hk, if_neg hJ, Nat.zero_mul])).symm
  rw [E] at S
  have T := sq_rm (g := sq_Pd Ge V m) he
  show sq_Pd Ge V m e = _
  omega
/-- the finds with first event f that have event e, over X's tables -/
def sq_Ue (N : Nat → Option Nat → Nat → Bool) (J : Nat → Bool) (rp : Nat → Bool) (n f e k : Nat) : Nat :=
  sq_sm (fun x => sq_sm (fun t => if (sq_fl J f x t && (2 ^ x + t).testBit e) = true then sq_wv N rp x t k else 0) (2 ^ x)) n
theorem sq_use {N : Nat → Option Nat → Nat → Bool} {J : Nat → Bool} {rp : Nat → Bool} {m n f e : Nat} {V : Nat → Nat → Nat} (hw : sq_wn J n f) (hfe : f ≤ e) (he : e < n) (hm : 0 < m)
    (hV : ∀ x k, f ≤ x → x < n → k < m → V x k = (if k + 1 = m then 1 else 0) + sq_sm (fun y => if (decide (x < y) && J y) = true then sq_av N rp m (V y) x y k else 0) n) :
    sq_sm (fun k => sq_RR N J rp f e k * V e k) m = sq_Ue N J rp n f e (m - 1) := by
  have h0 : ∀ x k, x < e → k < m → sq_sm (fun t => if (sq_fl J f x t && (2 ^ x + t).testBit e) = true then sq_wv N rp x t k else 0) (2 ^ x) = 0 := fun x k hx _ =>
    sq_z (fun t ht => by rw [sq_t1 ht hx, Bool.and_false, if_neg (by decide)])
  have h1 : ∀ x k, e < x → x < n → k < m → sq_sm (fun t => if (sq_fl J f x t && (2 ^ x + t).testBit e) = true then sq_wv N rp x t k else 0) (2 ^ x) = if J x = true then sq_sm (fun l => sq_st N rp (fun j => sq_sm (fun t => if (sq_fl J f l t && (2 ^ l + t).testBit e) = true then sq_wv N rp l t j else 0) (2 ^ l)) l x k) x else 0 := by
    intro x k hx hxn _
    by_cases hJ : J x = true
    · rw [if_pos hJ]
      refine sq_stp N rp (fun x t => sq_fl J f x t && (2 ^ x + t).testBit e) ?_ ?_ k
      · show (sq_fl J f x 0 && (2 ^ x + 0).testBit e) = false
        rw [sq_fl_ne (by rw [sq_fv0]; omega), Bool.false_and]
      · intro l t hl ht
        show (sq_fl J f x (2 ^ l + t) && (2 ^ x + (2 ^ l + t)).testBit e) = (sq_fl J f l t && (2 ^ l + t).testBit e)
        rw [sq_fl1 hw hxn hJ hl ht, sq_t2 _ hx]
    · rw [if_neg hJ]
      refine sq_z (fun t _ => ?_)
      rw [sq_fl_J (by simpa using hJ), Bool.false_and, if_neg (by decide)]
  have D := sq_dual (Ge := fun x k => sq_sm (fun t => if (sq_fl J f x t && (2 ^ x + t).testBit e) = true then sq_wv N rp x t k else 0) (2 ^ x)) (V := V) he hm h0 h1 (fun x k hx => hV x k (by omega))
  refine Eq.trans (sq_cg (fun k _ => ?_)) D
  refine congrArg (fun z => z * V e k) (sq_cg (fun t ht => ?_))
  rw [sq_t0 ht, Bool.and_true]
end
section
/-! the laws of the questions: sums over first events and last events against sums over sets -/
def sq_Mf (M : Nat → Option Nat → Nat → Nat → Bool) (f : Nat) : Nat → Option Nat → Nat → Bool := fun k b e => M k b e f
def sq_fst (s : Nat) : Nat := (sq_fi s 10).getD 9
def sq_lst (s : Nat) : Nat := (sq_b s 10).getD 0
def sq_fo (M : Nat → Option Nat → Nat → Nat → Bool) (I : Nat → Nat → Bool) (rp : Nat → Bool) (m n s : Nat) : Nat :=
  (sq_b s n).elim 0 (fun l => if (decide (0 < m) && I (sq_fst s) l) = true then sq_W (sq_Mf M (sq_fst s)) rp s n (m - 1) else 0)
def sq_wh (M : Nat → Option Nat → Nat → Nat → Bool) (I : Nat → Nat → Bool) (rp : Nat → Bool) (m f e : Nat) : Nat :=
  if 0 < m then sq_RR (sq_Mf M f) (I f) rp f e (m - 1) else 0
def sq_U (M : Nat → Option Nat → Nat → Nat → Bool) (I : Nat → Nat → Bool) (rp : Nat → Bool) (m n f e : Nat) : Nat :=
  if 0 < m then sq_Ue (sq_Mf M f) (I f) rp n f e (m - 1) else 0
theorem sq_fst1 {e t : Nat} (he : e < 10) (ht : t < 2 ^ e) : sq_fst (2 ^ e + t) = sq_fv e t := by
  unfold sq_fst; rw [sq_ft ht he]; rfl
theorem sq_lst1 {e t : Nat} (he : e < 10) (ht : t < 2 ^ e) : sq_lst (2 ^ e + t) = e := by
  unfold sq_lst; rw [sq_bt ht he]; rfl
theorem sq_dec (F : Nat → Nat) (n : Nat) (h : F 0 = 0) : sq_sm F (2 ^ n) = sq_sm (fun x => sq_sm (fun t => F (2 ^ x + t)) (2 ^ x)) n := by
  rw [sq_pw, h, Nat.zero_add]
theorem sq_byf (g : Nat → Nat) (e N : Nat) (h : ∀ t, t < 2 ^ e → sq_fv e t < N ∨ g t = 0) : sq_sm (fun f => sq_sm (fun t => if sq_fv e t = f then g t else 0) (2 ^ e)) N = sq_sm g (2 ^ e) := by
  rw [sq_sw (fun f t => if sq_fv e t = f then g t else 0)]
  refine sq_cg (fun t ht => ?_)
  rcases h t ht with h1 | h1
  · rw [sq_one h1 (fun i _ hn => if_neg (fun z => hn z.symm)), if_pos rfl]
  · rw [h1]; exact sq_z (fun i _ => ite_self 0)
section
variable {M : Nat → Option Nat → Nat → Nat → Bool} {I : Nat → Nat → Bool} {rp : Nat → Bool} {m n : Nat}
theorem sq_fo0 : sq_fo M I rp m n 0 = 0 := by
  unfold sq_fo; rw [sq_b0]; rfl
theorem sq_fo1 (hn : n ≤ 10) {e t : Nat} (he : e < n) (ht : t < 2 ^ e) : sq_fo M I rp m n (2 ^ e + t) = if (decide (0 < m) && I (sq_fv e t) e) = true then sq_wv (sq_Mf M (sq_fv e t)) rp e t (m - 1) else 0 := by
  unfold sq_fo
  rw [sq_bt ht he, sq_fst1 (by omega) ht]
  show (if (decide (0 < m) && I (sq_fv e t) e) = true then sq_W (sq_Mf M (sq_fv e t)) rp (2 ^ e + t) n (m - 1) else 0) = _
  rw [sq_Wt ht he]
theorem sq_fom (hn : n ≤ 10) {e t : Nat} (he : e < n) (ht : t < 2 ^ e) (hm : ¬ 0 < m) : sq_fo M I rp m n (2 ^ e + t) = 0 := by
  rw [sq_fo1 hn he ht, decide_eq_false hm, Bool.false_and]
  exact if_neg (by decide)
theorem sq_whf (hn : n ≤ 10) {f e : Nat} (he : e < n) : sq_wh M I rp m f e = sq_sm (fun t => if sq_fv e t = f then sq_fo M I rp m n (2 ^ e + t) else 0) (2 ^ e) := by
  unfold sq_wh
  by_cases hm : 0 < m
  · rw [if_pos hm]
    unfold sq_RR
    refine sq_cg (fun t ht => ?_)
    by_cases hf : sq_fv e t = f
    · rw [if_pos hf, sq_fo1 hn he ht, sq_fl_eq hf, decide_eq_true hm, Bool.true_and, hf]
    · rw [if_neg hf, sq_fl_ne hf, if_neg (by decide)]
  · rw [if_neg hm]
    refine (sq_z (fun t ht => ?_)).symm
    rw [sq_fom hn he ht hm, ite_self]
theorem sq_wh0 (hn : n ≤ 10) {f e : Nat} (he : e < n) (h : e < f) : sq_wh M I rp m f e = 0 := by
  rw [sq_whf hn he]
  refine sq_z (fun t ht => if_neg ?_)
  have := sq_fvle e t ht
  omega
theorem sq_Uf (hn : n ≤ 10) {f e : Nat} : sq_U M I rp m n f e = sq_sm (fun x => sq_sm (fun t => if sq_fv x t = f then (if (2 ^ x + t).testBit e = true then sq_fo M I rp m n (2 ^ x + t) else 0) else 0) (2 ^ x)) n := by
  unfold sq_U
  by_cases hm : 0 < m
  · rw [if_pos hm]
    unfold sq_Ue
    refine sq_cg (fun x hx => sq_cg (fun t ht => ?_))
    by_cases hf : sq_fv x t = f
    · rw [if_pos hf, sq_fo1 hn hx ht, sq_fl_eq hf, decide_eq_true hm, Bool.true_and, hf]
      cases (2 ^ x + t).testBit e <;> cases I f x <;> rfl
    · rw [if_neg hf, sq_fl_ne hf, Bool.false_and, if_neg (by decide)]
  · rw [if_neg hm]
    refine (sq_z (fun x hx => sq_z (fun t ht => ?_))).symm
    rw [sq_fom hn hx ht hm, ite_self, ite_self]
theorem sq_Lend (hn : n ≤ 10) {e : Nat} (he : e < n) : sq_sm (fun f => sq_wh M I rp m f e) (e + 1) = sq_sm (fun s => if sq_lst s = e then sq_fo M I rp m n s else 0) (2 ^ n) := by
  rw [sq_dec (fun s => if sq_lst s = e then sq_fo M I rp m n s else 0) n (by rw [sq_fo0, ite_self])]
  rw [sq_one he (fun x hx hne => sq_z (fun t ht => if_neg (by rw [sq_lst1 (by omega) ht]; exact hne)))]
  rw [sq_cg (h := fun t => sq_fo M I rp m n (2 ^ e + t)) (fun t ht => if_pos (sq_lst1 (by omega) ht))]
  rw [← sq_byf (fun t => sq_fo M I rp m n (2 ^ e + t)) e (e + 1) (fun t ht => Or.inl (by have := sq_fvle e t ht; omega))]
  exact sq_cg (fun f _ => sq_whf hn he)
theorem sq_Lbeg (hn : n ≤ 10) (f : Nat) : sq_sm (fun x => sq_wh M I rp m f x) n = sq_sm (fun s => if sq_fst s = f then sq_fo M I rp m n s else 0) (2 ^ n) := by
  rw [sq_dec (fun s => if sq_fst s = f then sq_fo M I rp m n s else 0) n (by rw [sq_fo0, ite_self])]
  refine sq_cg (fun x hx => ?_)
  rw [sq_whf hn hx]
  refine sq_cg (fun t ht => ?_)
  rw [sq_fst1 (by omega) ht]
theorem sq_Lfin (hn : n ≤ 10) : sq_sm (fun f => sq_sm (fun x => sq_wh M I rp m f x) n) n = sq_sm (fun s => sq_fo M I rp m n s) (2 ^ n) := by
  rw [sq_dec (fun s => sq_fo M I rp m n s) n sq_fo0, sq_sw (fun f x => sq_wh M I rp m f x)]
  refine sq_cg (fun x hx => ?_)
  rw [← sq_byf (fun t => sq_fo M I rp m n (2 ^ x + t)) x n (fun t ht => Or.inl (by have := sq_fvle x t ht; omega))]
  exact sq_cg (fun f _ => sq_whf hn hx)
theorem sq_Luse (hn : n ≤ 10) (e : Nat) : sq_sm (fun f => sq_U M I rp m n f e) (e + 1) = sq_sm (fun s => if s.testBit e = true then sq_fo M I rp m n s else 0) (2 ^ n) := by
  rw [sq_dec (fun s => if s.testBit e = true then sq_fo M I rp m n s else 0) n (by rw [sq_fo0, ite_self])]
  rw [sq_cg (fun f _ => sq_Uf (M := M) (I := I) (rp := rp) (m := m) hn (f := f) (e := e))]
  rw [sq_sw (fun f x => sq_sm (fun t => if sq_fv x t = f then (if (2 ^ x + t).testBit e = true then sq_fo M I rp m n (2 ^ x + t) else 0) else 0) (2 ^ x))]
  refine sq_cg (fun x hx => ?_)
  refine sq_byf (fun t => if (2 ^ x + t).testBit e = true then sq_fo M I rp m n (2 ^ x + t) else 0) x (e + 1) (fun t ht => ?_)
  by_cases hb : (2 ^ x + t).testBit e = true
  · exact Or.inl (by have := sq_fvbit x t e ht hb; omega)
  · exact Or.inr (if_neg hb)
theorem sq_Llv (hn : n ≤ 10) (vn : Nat → Nat) : sq_sm (fun e => sq_sm (fun f => sq_wh M I rp m f e) (e + 1) * vn e) n = sq_sm (fun s => vn (sq_lst s) * sq_fo M I rp m n s) (2 ^ n) := by
  rw [sq_dec (fun s => vn (sq_lst s) * sq_fo M I rp m n s) n (by rw [sq_fo0, Nat.mul_zero])]
  refine sq_cg (fun e he => ?_)
  have a : sq_sm (fun f => sq_wh M I rp m f e) (e + 1) = sq_sm (fun t => sq_fo M I rp m n (2 ^ e + t)) (2 ^ e) := by
    rw [← sq_byf (fun t => sq_fo M I rp m n (2 ^ e + t)) e (e + 1) (fun t ht => Or.inl (by have := sq_fvle e t ht; omega))]
    exact sq_cg (fun f _ => sq_whf hn he)
  rw [a, Nat.mul_comm, ← sq_ml]
  exact sq_cg (fun t ht => by rw [sq_lst1 (by omega) ht])
theorem sq_Lwo (e : Nat) : sq_sm (fun s => sq_fo M I rp m n s) (2 ^ n) = sq_sm (fun s => if s.testBit e = true then sq_fo M I rp m n s else 0) (2 ^ n) + sq_sm (fun s => if s.testBit e = true then 0 else sq_fo M I rp m n s) (2 ^ n) := by
  rw [← sq_ad]
  exact sq_cg (fun s _ => by cases s.testBit e <;> simp)
/-- a find of Y's is a run of X's, and back -/
theorem sq_foX (hn : n ≤ 10) {e t : Nat} (he : e < n) (ht : t < 2 ^ e) (hp : 0 < sq_fo M I rp m n (2 ^ e + t)) : 0 < m ∧ sq_fl (I (sq_fv e t)) (sq_fv e t) e t = true ∧ 0 < sq_wv (sq_Mf M (sq_fv e t)) rp e t (m - 1) := by
  rw [sq_fo1 hn he ht] at hp
  by_cases hc : (decide (0 < m) && I (sq_fv e t) e) = true
  · rw [if_pos hc] at hp
    rw [Bool.and_eq_true, decide_eq_true_eq] at hc
    exact ⟨hc.1, by rw [sq_fl_eq rfl]; exact hc.2, hp⟩
  · rw [if_neg hc] at hp
    exact absurd hp (Nat.lt_irrefl 0)
theorem sq_foY (hn : n ≤ 10) {f e t : Nat} (he : e < n) (ht : t < 2 ^ e) (hm : 0 < m) (hf : sq_fl (I f) f e t = true) (hp : 0 < sq_wv (sq_Mf M f) rp e t (m - 1)) : 0 < sq_fo M I rp m n (2 ^ e + t) ∧ sq_fv e t = f := by
  obtain ⟨a, b⟩ := sq_fl_t hf
  rw [sq_fo1 hn he ht, a, decide_eq_true hm, b, Bool.true_and, if_pos rfl]
  exact ⟨hp, rfl⟩
end
/-! the greatest, or the least, of a set of numbers, or none -/
def sq_isM (o : Option Nat) (P : Nat → Prop) : Prop := (o = none ∧ ∀ z, ¬ P z) ∨ ∃ b, o = some b ∧ P b ∧ ∀ z, P z → z ≤ b
def sq_isL (o : Option Nat) (P : Nat → Prop) : Prop := (o = none ∧ ∀ z, ¬ P z) ∨ ∃ b, o = some b ∧ P b ∧ ∀ z, P z → b ≤ z
theorem sq_isM_eq {o o' : Option Nat} {P P' : Nat → Prop} (h : sq_isM o P) (h' : sq_isM o' P') (a : ∀ z, P z → ∃ z', P' z' ∧ z ≤ z') (b : ∀ z, P' z → ∃ z', P z' ∧ z ≤ z') : o' = o := by
  rcases h with ⟨e, h⟩ | ⟨x, e, hx, h⟩
  · rcases h' with ⟨e', h'⟩ | ⟨x', e', hx', h'⟩
    · rw [e, e']
    · obtain ⟨z, hz, _⟩ := b x' hx'
      exact absurd hz (h z)
  · rcases h' with ⟨e', h'⟩ | ⟨x', e', hx', h'⟩
    · obtain ⟨z, hz, _⟩ := a x hx
      exact absurd hz (h' z)
    · obtain ⟨z, hz, hz2⟩ := a x hx
      obtain ⟨y, hy, hy2⟩ := b x' hx'
      have h3 := h y hy
      have h4 := h' z hz
      rw [e, e', show x' = x by omega]
theorem sq_isL_eq {o o' : Option Nat} {P P' : Nat → Prop} (h : sq_isL o P) (h' : sq_isL o' P') (a : ∀ z, P z → P' z) (b : ∀ z, P' z → P z) : o' = o := by
  rcases h with ⟨e, h⟩ | ⟨x, e, hx, h⟩
  · rcases h' with ⟨e', h'⟩ | ⟨x', e', hx', h'⟩
    · rw [e, e']
    · exact absurd (b x' hx') (h x')
  · rcases h' with ⟨e', h'⟩ | ⟨x', e', hx', h'⟩
    · exact absurd (a x hx) (h' x)
    · have h3 := h x' (b x' hx')
      have h4 := h' x (a x hx)
      rw [e, e', show x' = x by omega]
theorem sq_isM_cg {o : Option Nat} {P P' : Nat → Prop} (h : sq_isM o P) (e : ∀ z, P z ↔ P' z) : sq_isM o P' := by
  have : P = P' := funext (fun z => propext (e z))
  rw [← this]; exact h
theorem sq_isL_cg {o : Option Nat} {P P' : Nat → Prop} (h : sq_isL o P) (e : ∀ z, P z ↔ P' z) : sq_isL o P' := by
  have : P = P' := funext (fun z => propext (e z))
  rw [← this]; exact h
theorem sq_isM_up {o : Option Nat} {P : Nat → Prop} {x : Nat} (h : sq_isM o P) (hx : ∀ b, o = some b → b < x) : sq_isM (some x) (fun z => P z ∨ z = x) := by
  refine Or.inr ⟨x, rfl, Or.inr rfl, fun z hz => ?_⟩
  rcases hz with hz | hz
  · rcases h with ⟨e, h⟩ | ⟨b, e, hb, h⟩
    · exact absurd hz (h z)
    · have a := h z hz
      have c := hx b e
      omega
  · omega
theorem sq_isM_no {P : Nat → Prop} {b x : Nat} (h : sq_isM (some b) P) (hx : x ≤ b) : sq_isM (some b) (fun z => P z ∨ z = x) := by
  rcases h with ⟨e, h⟩ | ⟨b', e, hb, h⟩
  · exact absurd e (by intro z; cases z)
  · cases e
    refine Or.inr ⟨b, rfl, Or.inl hb, fun z hz => ?_⟩
    rcases hz with hz | hz
    · exact h z hz
    · omega
theorem sq_isL_up {o : Option Nat} {P : Nat → Prop} {x : Nat} (h : sq_isL o P) (hx : ∀ b, o = some b → x < b) : sq_isL (some x) (fun z => P z ∨ z = x) := by
  refine Or.inr ⟨x, rfl, Or.inr rfl, fun z hz => ?_⟩
  rcases hz with hz | hz
  · rcases h with ⟨e, h⟩ | ⟨b, e, hb, h⟩
    · exact absurd hz (h z)
    · have a := h z hz
      have c := hx b e
      omega
  · omega
theorem sq_isL_no {P : Nat → Prop} {b x : Nat} (h : sq_isL (some b) P) (hx : b ≤ x) : sq_isL (some b) (fun z => P z ∨ z = x) := by
  rcases h with ⟨e, h⟩ | ⟨b', e, hb, h⟩
  · exact absurd e (by intro z; cases z)
  · cases e
    refine Or.inr ⟨b, rfl, Or.inl hb, fun z hz => ?_⟩
    rcases hz with hz | hz
    · exact h z hz
    · omega
end
section
/-! the words of the walks -/
def sq_bi : Bool → Int32
  | true => 1
  | false => 0
def sq_ob : Option Nat → Int32
  | none => -1
  | some l => nI l
def sq_on : Option Nat → Int32
  | none => -4
  | some b => nI b
def sq_dn : Nat → Int32
  | 0 => -1
  | i + 1 => nI i
def sq_mt (sT sB sK ty va : Nat → Int32) (k : Nat) (b : Option Nat) (e f : Nat) : Bool :=
  if ¬ sT k = 4 ∧ ¬ sT k = ty e then false
  else if sK k = 1 then b.elim true (fun l => !decide (va e ≤ va l))
  else if sK k = 2 then b.elim true (fun l => !decide (va l ≤ va e))
  else if sK k = 3 then decide (va e = sB k)
  else if sK k = 4 then decide (va e = va f) else true
def sq_rp (rp : Nat → Int32) (k : Nat) : Bool := !decide (rp k = 0)
def sq_iw (T : Nat → Nat) (w f e : Nat) : Bool := decide (T e - T f ≤ w)
def sq_ok (m n w : Nat) (sK ti : Nat → Int32) (T : Nat → Nat) : Prop :=
  m ≤ 4 ∧ n ≤ 10 ∧ w ≤ 40 ∧ (∀ k, k < 4 → sK k = 0 ∨ sK k = 1 ∨ sK k = 2 ∨ sK k = 3 ∨ sK k = 4) ∧ (∀ i, i < n → ti i = nI (T i) ∧ T i ≤ 5 * (i + 1)) ∧ (∀ i j, i ≤ j → j < n → T i ≤ T j)
theorem sq_y1 {post : Int32 → Prop} {c : Bool} (hc : c = true) (h : post (sq_bi c)) : post 1 := by subst hc; exact h
theorem sq_y0 {post : Int32 → Prop} {c : Bool} (hc : c = false) (h : post (sq_bi c)) : post 0 := by subst hc; exact h
theorem sq_bb {c : Bool} {A B : Prop} (a : c = false → A) (b : c = true → B) : (sq_bi c = 0 → A) ∧ (¬ sq_bi c = 0 → B) := by
  cases c
  · exact ⟨fun _ => a rfl, fun h => absurd rfl h⟩
  · exact ⟨fun h => absurd h (by decide), fun _ => b rfl⟩
theorem sq_b1 {c : Bool} {A B : Prop} (a : c = true → A) (b : c = false → B) : (sq_bi c = 1 → A) ∧ (¬ sq_bi c = 1 → B) := by
  cases c
  · exact ⟨fun h => absurd h (by decide), fun _ => b rfl⟩
  · exact ⟨fun _ => a rfl, fun h => absurd rfl h⟩
theorem sq_biN (c : Bool) : sq_bi c = nI (if c = true then 1 else 0) := by cases c <;> rfl
theorem sq_rpt {rp : Nat → Int32} {k : Nat} (h : ¬ rp k = 0) : sq_rp rp k = true := by unfold sq_rp; rw [decide_eq_false h]; rfl
theorem sq_rpf {rp : Nat → Int32} {k : Nat} (h : rp k = 0) : sq_rp rp k = false := by unfold sq_rp; rw [decide_eq_true h]; rfl
theorem sq_iwt {T : Nat → Nat} {w f e : Nat} (h : T e - T f ≤ w) : sq_iw T w f e = true := decide_eq_true h
theorem sq_iwf {T : Nat → Nat} {w f e : Nat} (h : w < T e - T f) : sq_iw T w f e = false := decide_eq_false (by omega)
theorem sq_okw {m n w f : Nat} {sK ti : Nat → Int32} {T : Nat → Nat} (O : sq_ok m n w sK ti T) : sq_wn (sq_iw T w f) n f := by
  obtain ⟨_, _, _, _, _, hM⟩ := O
  refine ⟨sq_iwt (by omega), fun l e hl he h => ?_⟩
  have a := hM l e hl he
  have b : T e - T f ≤ w := of_decide_eq_true h
  exact sq_iwt (by omega)
theorem sq_n10 : (10 : Int32) = nI 10 := rfl
theorem sq_ix (k e : Nat) : nI k * 10 + nI e = nI (k * 10 + e) := by
  rw [sq_n10, pk_mul, nI_add]
theorem sq_ix1 (k e : Nat) : (nI k + 1) * 10 + nI e = nI ((k + 1) * 10 + e) := by
  rw [nI_1, sq_ix]
theorem sq_m1 {m : Nat} (h : 0 < m) : nI m - 1 = nI (m - 1) := by
  obtain ⟨q, rfl⟩ : ∃ q, m = q + 1 := ⟨m - 1, by omega⟩
  rw [nI_pred, Nat.add_sub_cancel]
theorem sq_dn1 (i : Nat) : nI i - 1 = sq_dn i := by
  cases i with
  | zero => rw [nI_0]; decide
  | succ i => exact nI_pred i
theorem sq_dnm (i : Nat) : nI i + (-1) = sq_dn i := by
  cases i with
  | zero => rw [nI_0]; decide
  | succ i => exact pk_m1 i
theorem sq_tb {s i : Nat} (hs : s < 2 ^ 31) (hi : i < 32) : (nI s >>> (nI i &&& 31)) &&& 1 = sq_bi (s.testBit i) := by
  rw [pk_shrN hs _ i (s_l i hi), pk_andN (Nat.lt_of_le_of_lt (Nat.div_le_self _ _) (Nat.lt_trans hs (by decide))) 1 (by decide), sq_biN, Nat.testBit_eq_decide_div_mod_eq]
  have h : s / 2 ^ i % 2 = 0 ∨ s / 2 ^ i % 2 = 1 := by omega
  show nI (s / 2 ^ i % 2) = _
  rcases h with h | h <;> rw [h] <;> rfl
theorem sq_sh : ∀ n, n < 11 → (1 : Int32) <<< (nI n &&& 31) = nI (2 ^ n) := by decide +kernel
theorem sq_2n {n : Nat} (h : n ≤ 10) : 2 ^ n ≤ 1024 := sq_pm (b := 10) h
theorem sq_mxI {a b : Nat} (ha : a < 2 ^ 30) (hb : b < 2 ^ 30) : (if nI b + 1 ≤ nI a then nI a else nI b + 1) = nI (max a (b + 1)) := by
  rw [nI_1]
  by_cases h : b + 1 ≤ a
  · rw [if_pos (nI_le h (by omega)), Nat.max_eq_left h]
  · rw [if_neg (nI_ge (by omega) (by omega)), Nat.max_eq_right (by omega)]
theorem sq_ofv (x : Int32) : ∃ v : Nat, x = nI v := by
  refine ⟨x.toBitVec.toNat, ?_⟩
  apply Int32.toBitVec_inj.mp
  apply BitVec.eq_of_toNat_eq
  rw [pk_tn x.toBitVec.isLt]
/-! tables in arrays of 40 -/
def sq_AX (m : Nat) (a : Nat → Int32) (G : Nat → Nat → Nat) : Prop := ∀ i k, i < 10 → k < m → a (k * 10 + i) = nI (G i k)
theorem sq_AXc {m : Nat} {a : Nat → Int32} {G G' : Nat → Nat → Nat} (h : sq_AX m a G) (e : ∀ i j, i < 10 → j < m → G' i j = G i j) : sq_AX m a G' := fun i j hi hj => by
  rw [e i j hi hj]; exact h i j hi hj
theorem sq_AXu {m : Nat} {a : Nat → Int32} {G G' : Nat → Nat → Nat} {e k v : Nat} {x : Int32} (h : sq_AX m a G) (he : e < 10) (hx : x = nI v) (h1 : G' e k = v) (h2 : ∀ i j, i < 10 → j < m → (i ≠ e ∨ j ≠ k) → G' i j = G i j) : sq_AX m (upd a (k * 10 + e) x) G' := by
  intro i j hi hj
  by_cases c : i = e ∧ j = k
  · rw [c.1, c.2, pk_us, h1, hx]
  · rw [pk_un (by omega), h2 i j hi hj (by omega), h i j hi hj]
section
variable {m n w f : Nat} {fi : Int32} {sT sB sK rp ty va ti ru wa mo wy bf : Nat → Int32} {T : Nat → Nat} {G H : Nat → Nat → Nat}
theorem xw_meets {post : Int32 → Prop} {p0 p1 p2 : Int32} (k e : Nat) (b : Option Nat) (e0 : p0 = nI k) (e1 : p1 = sq_ob b) (e2 : p2 = nI e) (hk : k < 4) (he : e < 10) (hf : f < 10) (hb : ∀ l, b = some l → l < 10)
    (h : post (sq_bi ((sq_Mf (sq_mt sT sB sK ty va) f) k b e))) : wpX_meets post (nI m, nI w, nI n, nI f, sT, sB, sK, rp, ty, va, ti, ru, wa, mo) p0 p1 p2 := by
  subst e0 e1 e2
  have ik : vp_in (nI k) 4 := vp_in_nI hk (by decide)
  have ie : vp_in (nI e) 10 := vp_in_nI he (by decide)
  have jf : vp_in (nI f) 10 := vp_in_nI hf (by decide)
  have ck : (nI k).toNatClampNeg = k := nI_clamp (by omega)
  have ce : (nI e).toNatClampNeg = e := nI_clamp (by omega)
  have cf : (nI f).toNatClampNeg = f := nI_clamp (by omega)
  have hM : (sq_Mf (sq_mt sT sB sK ty va) f) k b e = sq_mt sT sB sK ty va k b e f := rfl
  rw [hM] at h
  have K : (sT k = 4 ∨ sT k = ty e) → wX_meets_27 post (nI k) (sq_ob b) (nI e) (nI m) (nI w) (nI n) (nI f) sT sB sK rp ty va ti ru wa mo := by
    intro ht
    unfold wX_meets_27
    rw [ck, ce, cf]
    unfold sq_mt at h
    rw [if_neg (fun z => by rcases ht with c | c; exact z.1 c; exact z.2 c)] at h
    refine ⟨ik, br_c (fun h1 => ?_) (fun h1 => ⟨ik, br_c (fun h2 => ?_) (fun h2 => ⟨ik, br_c (fun h3 => ?_) (fun h3 => ⟨ik, br_c (fun h4 => ?_) (fun h4 => ?_)⟩)⟩)⟩)⟩
    · rw [if_pos h1] at h
      cases b with
      | none => exact br_t (show sq_ob none < 0 by decide) h
      | some l =>
        have hl := hb l rfl
        have cl : (sq_ob (some l)).toNatClampNeg = l := nI_clamp (show l < 2 ^ 31 by omega)
        rw [cl]
        refine br_f (show ¬ sq_ob (some l) < 0 from nI_pos (by omega)) ⟨ie, vp_in_nI hl (by decide), ?_⟩
        by_cases hv : va e ≤ va l
        · exact br_t hv (sq_y0 (by simp [hv]) h)
        · exact br_f hv (sq_y1 (by simp [hv]) h)
    · rw [if_neg h1, if_pos h2] at h
      cases b with
      | none => exact br_t (show sq_ob none < 0 by decide) h
      | some l =>
        have hl := hb l rfl
        have cl : (sq_ob (some l)).toNatClampNeg = l := nI_clamp (show l < 2 ^ 31 by omega)
        rw [cl]
        refine br_f (show ¬ sq_ob (some l) < 0 from nI_pos (by omega)) ⟨ie, vp_in_nI hl (by decide), ?_⟩
        by_cases hv : va l ≤ va e
        · exact br_t hv (sq_y0 (by simp [hv]) h)
        · exact br_f hv (sq_y1 (by simp [hv]) h)
    · rw [if_neg h1, if_neg h2, if_pos h3] at h
      refine ⟨ie, ik, ?_⟩
      by_cases hv : va e = sB k
      · exact br_t hv (sq_y1 (decide_eq_true hv) h)
      · exact br_f hv (sq_y0 (decide_eq_false hv) h)
    · rw [if_neg h1, if_neg h2, if_neg h3, if_pos h4] at h
      refine ⟨ie, jf, ?_⟩
      by_cases hv : va e = va f
      · exact br_t hv (sq_y1 (decide_eq_true hv) h)
      · exact br_f hv (sq_y0 (decide_eq_false hv) h)
    · rw [if_neg h1, if_neg h2, if_neg h3, if_neg h4] at h
      exact h
  unfold wpX_meets
  dsimp only
  rw [ck, ce]
  refine ⟨ik, br_c (fun h4 => K (Or.inl h4)) (fun h4 => ⟨ik, ie, br_c (fun h5 => K (Or.inr h5)) (fun h5 => ?_)⟩)⟩
  exact sq_y0 (if_pos ⟨h4, h5⟩) h
theorem yw_meets (O : sq_ok m n w sK ti T) {post : Int32 → Prop} {p0 p1 p2 p3 : Int32} (k e : Nat) (b : Option Nat) (e0 : p0 = nI e) (e1 : p1 = nI k) (e2 : p2 = sq_ob b) (e3 : p3 = nI f) (hk : k < 4) (he : e < 10) (hf : f < 10) (hb : ∀ l, b = some l → l < 10)
    (h : post (sq_bi ((sq_Mf (sq_mt sT sB sK ty va) f) k b e))) : wpY_meets post (nI n, nI m, nI w, ty, va, ti, sT, sB, sK, rp, wy, bf) p0 p1 p2 p3 := by
  obtain ⟨_, _, _, hK, _, _⟩ := O
  subst e0 e1 e2 e3
  have ik : vp_in (nI k) 4 := vp_in_nI hk (by decide)
  have ie : vp_in (nI e) 10 := vp_in_nI he (by decide)
  have jf : vp_in (nI f) 10 := vp_in_nI hf (by decide)
  have ck : (nI k).toNatClampNeg = k := nI_clamp (by omega)
  have ce : (nI e).toNatClampNeg = e := nI_clamp (by omega)
  have cf : (nI f).toNatClampNeg = f := nI_clamp (by omega)
  have hM : (sq_Mf (sq_mt sT sB sK ty va) f) k b e = sq_mt sT sB sK ty va k b e f := rfl
  rw [hM] at h
  have K : (sT k = 4 ∨ sT k = ty e) → wY_meets_27 post (nI e) (nI k) (sq_ob b) (nI f) (nI n) (nI m) (nI w) ty va ti sT sB sK rp wy bf := by
    intro ht
    unfold wY_meets_27
    rw [ck, ce, cf]
    unfold sq_mt at h
    rw [if_neg (fun z => by rcases ht with c | c; exact z.1 c; exact z.2 c)] at h
    refine ⟨ik, br_c (fun h1 => ?_) (fun h1 => ⟨ik, br_c (fun h2 => ?_) (fun h2 => ⟨ik, br_c (fun h3 => ?_) (fun h3 => ⟨ik, br_c (fun h4 => ?_) (fun h4 => ?_)⟩)⟩)⟩)⟩
    · rw [if_pos h1] at h
      cases b with
      | none => exact br_t (show sq_ob none < 0 by decide) h
      | some l =>
        have hl := hb l rfl
        have cl : (sq_ob (some l)).toNatClampNeg = l := nI_clamp (show l < 2 ^ 31 by omega)
        rw [cl]
        refine br_f (show ¬ sq_ob (some l) < 0 from nI_pos (by omega)) ⟨ie, vp_in_nI hl (by decide), ?_⟩
        by_cases hv : va e ≤ va l
        · exact br_t hv (sq_y0 (by simp [hv]) h)
        · exact br_f hv (sq_y1 (by simp [hv]) h)
    · rw [if_neg h1, if_pos h2] at h
      cases b with
      | none => exact br_t (show sq_ob none < 0 by decide) h
      | some l =>
        have hl := hb l rfl
        have cl : (sq_ob (some l)).toNatClampNeg = l := nI_clamp (show l < 2 ^ 31 by omega)
        rw [cl]
        refine br_f (show ¬ sq_ob (some l) < 0 from nI_pos (by omega)) ⟨ie, vp_in_nI hl (by decide), ?_⟩
        by_cases hv : va l ≤ va e
        · exact br_t hv (sq_y0 (by simp [hv]) h)
        · exact br_f hv (sq_y1 (by simp [hv]) h)
    · rw [if_neg h1, if_neg h2, if_pos h3] at h
      refine ⟨ie, ik, ?_⟩
      by_cases hv : va e = sB k
      · exact br_t hv (sq_y1 (decide_eq_true hv) h)
      · exact br_f hv (sq_y0 (decide_eq_false hv) h)
    · rw [if_neg h1, if_neg h2, if_neg h3, if_neg (by rw [h4]; decide)] at h
      exact h
    · have h5 : sK k = 4 := by
        rcases hK k hk with z | z | z | z | z
        · exact absurd z h4
        · exact absurd z h1
        · exact absurd z h2
        · exact absurd z h3
        · exact z
      rw [if_neg h1, if_neg h2, if_neg h3, if_pos h5] at h
      refine ⟨ie, jf, ?_⟩
      by_cases hv : va e = va f
      · exact br_t hv (sq_y1 (decide_eq_true hv) h)
      · exact br_f hv (sq_y0 (decide_eq_false hv) h)
  unfold wpY_meets
  dsimp only
  rw [ck, ce]
  refine ⟨ik, br_c (fun h4 => K (Or.inl h4)) (fun h4 => ⟨ie, ik, br_c (fun h5 => K (Or.inr h5.symm)) (fun h5 => ?_)⟩)⟩
  exact sq_y0 (if_pos ⟨h4, fun z => h5 z.symm⟩) h
theorem xw_win (O : sq_ok m n w sK ti T) {post : Int32 → Prop} {p0 : Int32} (e : Nat) (e0 : p0 = nI e) (hfe : f ≤ e) (he : e < n) (h : post (sq_bi ((sq_iw T w f) e))) : wpX_inWindow post (nI m, nI w, nI n, nI f, sT, sB, sK, rp, ty, va, ti, ru, wa, mo) p0 := by
  obtain ⟨hm, hn, hw, hK, hT, hM⟩ := O
  subst e0
  unfold wpX_inWindow
  dsimp only
  rw [nI_clamp (n := e) (by omega), nI_clamp (n := f) (by omega), (hT e he).1, (hT f (by omega)).1, pk_sub (hM f e hfe he)]
  have b1 := (hT e he).2
  exact ⟨vp_in_nI (by omega) (by decide), vp_in_nI (by omega) (by decide), pk_lt w (T e - T f) (fun c => sq_y0 (sq_iwf c) h) (fun c => sq_y1 (sq_iwt c) h)⟩
theorem xw_add {post : SX → Prop} {p0 p1 p2 : Int32} (a : Nat) (e0 : p0 = nI a) (ha : a < 40) (h : post (nI m, nI w, nI n, fi, sT, sB, sK, rp, ty, va, ti, upd ru a (ru a + p1), wa, upd mo a (if p2 ≤ mo a then mo a else p2))) : wpX_add post (nI m, nI w, nI n, fi, sT, sB, sK, rp, ty, va, ti, ru, wa, mo) p0 p1 p2 := by
  subst e0
  have ia : vp_in (nI a) 40 := vp_in_nI ha (by decide)
  unfold wpX_add
  dsimp only
  rw [nI_clamp (n := a) (by omega)]
  refine ⟨ia, ia, nm_e ⟨ia, br_c (fun c => ⟨ia, ia, nm_e ?_⟩) (fun c => ⟨ia, nm_e ?_⟩)⟩⟩
  · rw [if_pos c] at h; exact h
  · rw [if_neg c] at h; exact h
theorem xw_whole (hm : m ≤ 4) {post : Int32 → Prop} {p0 : Int32} (e : Nat) (e0 : p0 = nI e) (he : e < 10) (A : sq_AX m ru G) (h : post (nI (if 0 < m then G e (m - 1) else 0))) : wpX_whole post (nI m, nI w, nI n, fi, sT, sB, sK, rp, ty, va, ti, ru, wa, mo) p0 := by
  subst e0
  unfold wpX_whole
  dsimp only
  refine pk_eq m 0 (fun z => ?_) (fun z => ?_)
  · rw [if_neg (by omega), nI_0] at h; exact h
  · rw [if_pos (by omega)] at h
    rw [sq_m1 (by omega), sq_ix, nI_clamp (by omega), A e (m - 1) he (by omega)]
    exact ⟨vp_in_nI (by omega) (by decide), h⟩
end
end
section
/-! X: extend, extendAll, runFrom -/
/-- the tables behind one extend: first the same step, then the next one (the runs at l not none) -/
def sq_e1G (c : Bool) (l e k : Nat) (G : Nat → Nat → Nat) : Nat → Nat → Nat := fun i j => if i = e ∧ j = k ∧ c = true then G e j + G l k else G i j
def sq_e1H (c : Bool) (l e k : Nat) (H : Nat → Nat → Nat) : Nat → Nat → Nat := fun i j => if i = e ∧ j = k ∧ c = true then max (H e j) (H l k + 1) else H i j
def sq_e2G (c : Bool) (l e k : Nat) (G : Nat → Nat → Nat) : Nat → Nat → Nat := fun i j => if i = e ∧ j = k + 1 ∧ c = true then G e j + G l k else G i j
def sq_e2H (c : Bool) (l e k : Nat) (H : Nat → Nat → Nat) : Nat → Nat → Nat := fun i j => if i = e ∧ j = k + 1 ∧ c = true then max (H e j) (H l k + 1) else H i j
/-- what extend does, by the cell -/
def sq_eG (N : Nat → Option Nat → Nat → Bool) (rp : Nat → Bool) (l e k : Nat) (G : Nat → Nat → Nat) : Nat → Nat → Nat := fun i j =>
  if i = e then G e j + (if (decide (j = k) && (rp k && N k (some l) e)) = true then G l k else 0) + (if (decide (j = k + 1) && N (k + 1) (some l) e) = true then G l k else 0) else G i j
def sq_eH (N : Nat → Option Nat → Nat → Bool) (rp : Nat → Bool) (l e k : Nat) (G H : Nat → Nat → Nat) : Nat → Nat → Nat := fun i j =>
  if i = e then max (max (H e j) (if (decide (j = k) && (rp k && N k (some l) e) && decide (0 < G l k)) = true then H l k + 1 else 0)) (if (decide (j = k + 1) && N (k + 1) (some l) e && decide (0 < G l k)) = true then H l k + 1 else 0) else H i j
theorem sq_eG0 {N : Nat → Option Nat → Nat → Bool} {rp : Nat → Bool} {l e k : Nat} {G : Nat → Nat → Nat} (h : G l k = 0) (i j : Nat) : sq_eG N rp l e k G i j = G i j := by
  unfold sq_eG
  rw [h, ite_self, ite_self]
  by_cases c : i = e
  · rw [if_pos c, c]; rfl
  · rw [if_neg c]
theorem sq_eH0 {N : Nat → Option Nat → Nat → Bool} {rp : Nat → Bool} {l e k : Nat} {G H : Nat → Nat → Nat} (h : G l k = 0) (i j : Nat) : sq_eH N rp l e k G H i j = H i j := by
  unfold sq_eH
  have d : decide (0 < G l k) = false := decide_eq_false (by omega)
  rw [d, Bool.and_false, Bool.and_false, if_neg Bool.false_ne_true]
  by_cases c : i = e
  · rw [if_pos c, c]; omega
  · rw [if_neg c]
theorem sq_eG1 {N : Nat → Option Nat → Nat → Bool} {rp : Nat → Bool} {l e k : Nat} {G : Nat → Nat → Nat} (hl : l < e) (i j : Nat) : sq_eG N rp l e k G i j = sq_e2G (N (k + 1) (some l) e) l e k (sq_e1G (rp k && N k (some l) e) l e k G) i j := by
  unfold sq_eG sq_e2G sq_e1G
  generalize (rp k && N k (some l) e) = c1
  generalize N (k + 1) (some l) e = c2
  have hle : ¬ l = e := by omega
  by_cases c : i = e
  · subst c
    by_cases a : j = k
    · subst a; cases c1 <;> cases c2 <;> simp [hle]
    · by_cases b : j = k + 1
      · subst b; cases c1 <;> cases c2 <;> simp [hle]
      · cases c1 <;> cases c2 <;> simp [hle, a, b]
  · simp [c]
theorem sq_eH1 {N : Nat → Option Nat → Nat → Bool} {rp : Nat → Bool} {l e k : Nat} {G H : Nat → Nat → Nat} (hl : l < e) (hp : 0 < G l k) (i j : Nat) : sq_eH N rp l e k G H i j = sq_e2H (N (k + 1) (some l) e) l e k (sq_e1H (rp k && N k (some l) e) l e k H) i j := by
  unfold sq_eH sq_e2H sq_e1H
  rw [decide_eq_true hp, Bool.and_true, Bool.and_true]
  generalize (rp k && N k (some l) e) = c1
  generalize N (k + 1) (some l) e = c2
  have hle : ¬ l = e := by omega
  by_cases c : i = e
  · subst c
    by_cases a : j = k
    · subst a; cases c1 <;> cases c2 <;> simp [hle]
    · by_cases b : j = k + 1
      · subst b; cases c1 <;> cases c2 <;> simp [hle]
      · cases c1 <;> cases c2 <;> simp [hle, a, b]
  · simp [c]
section
variable {m n w f : Nat} {fi : Int32} {sT sB sK rp ty va ti ru wa mo wy bf : Nat → Int32} {T : Nat → Nat} {G H : Nat → Nat → Nat}
theorem xw_ext64 (hm : m ≤ 4) {post : SX → Prop} (k l e : Nat) (hk : k < m) (hl : l < e) (he : e < 10) (hf : f < 10) (A : sq_AX m ru G) (B : sq_AX m mo H) (hH : ∀ i j, i < 10 → j < m → H i j < 100)
    (h : ∀ ru' mo', sq_AX m ru' (sq_e2G ((sq_Mf (sq_mt sT sB sK ty va) f) (k + 1) (some l) e) l e k G) → sq_AX m mo' (sq_e2H ((sq_Mf (sq_mt sT sB sK ty va) f) (k + 1) (some l) e) l e k H) → post (nI m, nI w, nI n, nI f, sT, sB, sK, rp, ty, va, ti, ru', wa, mo')) :
    wX_extend_64 post (nI k) (nI l) (nI e) (nI (k * 10 + l)) (nI m) (nI w) (nI n) (nI f) sT sB sK rp ty va ti ru wa mo := by
  have ia : vp_in (nI (k * 10 + l)) 40 := vp_in_nI (by omega) (by decide)
  unfold wX_extend_64
  refine pk_le m (k + 1) (fun c => ?_) (fun c => ?_) rfl (nI_1 k)
  · refine h ru mo (sq_AXc A (fun i j hi hj => if_neg (by omega))) (sq_AXc B (fun i j hi hj => if_neg (by omega)))
  · refine xw_meets (k + 1) e (some l) (nI_1 k) rfl rfl (by omega) he hf (fun q hq => by cases hq; omega) (sq_bb (fun d => ?_) (fun d => ⟨ia, ia, ?_⟩))
    · refine h ru mo (sq_AXc A (fun i j hi hj => if_neg (fun z => by rw [d] at z; exact absurd z.2.2 (by decide)))) (sq_AXc B (fun i j hi hj => if_neg (fun z => by rw [d] at z; exact absurd z.2.2 (by decide))))
    · have h1 := hH e (k + 1) he (by omega)
      have h2 := hH l k (by omega) hk
      refine xw_add ((k + 1) * 10 + e) (sq_ix1 k e) (by omega) (h _ _ (sq_AXu A he (v := G e (k + 1) + G l k) ?_ (if_pos ⟨rfl, rfl, d⟩) ?_) (sq_AXu B he (v := max (H e (k + 1)) (H l k + 1)) ?_ (if_pos ⟨rfl, rfl, d⟩) ?_))
      · rw [nI_clamp (n := k * 10 + l) (by omega), A e (k + 1) he (by omega), A l k (by omega) hk, nI_add]
      · exact fun i j _ _ hne => if_neg (by omega)
      · rw [nI_clamp (n := k * 10 + l) (by omega), B e (k + 1) he (by omega), B l k (by omega) hk, sq_mxI (by omega) (by omega)]
      · exact fun i j _ _ hne => if_neg (by omega)
theorem xw_extend (hm : m ≤ 4) {post : SX → Prop} {p0 p1 p2 : Int32} (k l e : Nat) (e0 : p0 = nI k) (e1 : p1 = nI l) (e2 : p2 = nI e) (hk : k < m) (hl : l < e) (he : e < 10) (hf : f < 10) (A : sq_AX m ru G) (B : sq_AX m mo H) (hG : G l k < 2 ^ 31) (hH : ∀ i j, i < 10 → j < m → H i j < 50)
    (h : ∀ ru' mo', sq_AX m ru' (sq_eG (sq_Mf (sq_mt sT sB sK ty va) f) (sq_rp rp) l e k G) → sq_AX m mo' (sq_eH (sq_Mf (sq_mt sT sB sK ty va) f) (sq_rp rp) l e k G H) → post (nI m, nI w, nI n, nI f, sT, sB, sK, rp, ty, va, ti, ru', wa, mo')) :
    wpX_extend post (nI m, nI w, nI n, nI f, sT, sB, sK, rp, ty, va, ti, ru, wa, mo) p0 p1 p2 := by
  subst e0 e1 e2
  have ia : vp_in (nI (k * 10 + l)) 40 := vp_in_nI (by omega) (by decide)
  have ik : vp_in (nI k) 4 := vp_in_nI (by omega) (by decide)
  have ca : (nI (k * 10 + l)).toNatClampNeg = k * 10 + l := nI_clamp (by omega)
  have ck : (nI k).toNatClampNeg = k := nI_clamp (by omega)
  unfold wpX_extend
  dsimp only
  refine nm_r (sq_ix k l) ?_
  rw [ca, ck, A l k (by omega) hk, B l k (by omega) hk]
  refine ⟨ia, pk_eq (G l k) 0 (fun z => ?_) (fun z => ⟨ik, ?_⟩)⟩
  · exact h ru mo (sq_AXc A (fun i j _ _ => sq_eG0 z i j)) (sq_AXc B (fun i j _ _ => sq_eH0 z i j))
  · have K : ∀ ru1 mo1, sq_AX m ru1 (sq_e1G ((sq_rp rp) k && (sq_Mf (sq_mt sT sB sK ty va) f) k (some l) e) l e k G) → sq_AX m mo1 (sq_e1H ((sq_rp rp) k && (sq_Mf (sq_mt sT sB sK ty va) f) k (some l) e) l e k H) → wX_extend_64 post (nI k) (nI l) (nI e) (nI (k * 10 + l)) (nI m) (nI w) (nI n) (nI f) sT sB sK rp ty va ti ru1 wa mo1 := by
      intro ru1 mo1 A1 B1
      refine xw_ext64 hm k l e hk hl he hf A1 B1 ?_ (fun ru' mo' A2 B2 => h ru' mo' (sq_AXc A2 (fun i j _ _ => sq_eG1 hl i j)) (sq_AXc B2 (fun i j _ _ => sq_eH1 hl (by omega) i j)))
      intro i j hi hj
      unfold sq_e1H
      have a1 := hH i j hi hj
      have a2 := hH e j he hj
      have a3 := hH l k (by omega) hk
      split <;> omega
    by_cases hr : rp k = 0
    · refine br_t hr (K ru mo (sq_AXc A (fun i j _ _ => if_neg ?_)) (sq_AXc B (fun i j _ _ => if_neg ?_)))
      · rw [sq_rpf hr, Bool.false_and]; exact fun z => absurd z.2.2 (by decide)
      · rw [sq_rpf hr, Bool.false_and]; exact fun z => absurd z.2.2 (by decide)
    · refine br_f hr (xw_meets k e (some l) rfl rfl rfl (by omega) he hf (fun q hq => by cases hq; omega) (sq_bb (fun d => ?_) (fun d => ⟨ia, ia, ?_⟩)))
      · refine K ru mo (sq_AXc A (fun i j _ _ => if_neg ?_)) (sq_AXc B (fun i j _ _ => if_neg ?_))
        · rw [d, Bool.and_false]; exact fun z => absurd z.2.2 (by decide)
        · rw [d, Bool.and_false]; exact fun z => absurd z.2.2 (by decide)
      · have dd : ((sq_rp rp) k && (sq_Mf (sq_mt sT sB sK ty va) f) k (some l) e) = true := by rw [sq_rpt hr, d]; rfl
        have h1 := hH e k he hk
        have h2 := hH l k (by omega) hk
        refine xw_add (k * 10 + e) (sq_ix k e) (by omega) (K _ _ (sq_AXu A he (v := G e k + G l k) ?_ (if_pos ⟨rfl, rfl, dd⟩) ?_) (sq_AXu B he (v := max (H e k) (H l k + 1)) ?_ (if_pos ⟨rfl, rfl, dd⟩) ?_))
        · rw [A e k he hk, nI_add]
        · exact fun i j _ _ hne => if_neg (by omega)
        · rw [B e k he hk, sq_mxI (by omega) (by omega)]
        · exact fun i j _ _ hne => if_neg (by omega)
end
/-- behind the steps below q -/
def sq_pG (N : Nat → Option Nat → Nat → Bool) (rp : Nat → Bool) (l e q : Nat) (G : Nat → Nat → Nat) : Nat → Nat → Nat := fun i j =>
  if i = e then G e j + (if (decide (j < q) && (rp j && N j (some l) e)) = true then G l j else 0) + (if (decide (0 < j ∧ j ≤ q) && N j (some l) e) = true then G l (j - 1) else 0) else G i j
def sq_pH (N : Nat → Option Nat → Nat → Bool) (rp : Nat → Bool) (l e q : Nat) (G H : Nat → Nat → Nat) : Nat → Nat → Nat := fun i j =>
  if i = e then max (max (H e j) (if (decide (0 < j ∧ j ≤ q) && N j (some l) e && decide (0 < G l (j - 1))) = true then H l (j - 1) + 1 else 0)) (if (decide (j < q) && (rp j && N j (some l) e) && decide (0 < G l j)) = true then H l j + 1 else 0) else H i j
def sq_aG (N : Nat → Option Nat → Nat → Bool) (rp : Nat → Bool) (l e : Nat) (G : Nat → Nat → Nat) : Nat → Nat → Nat := fun i j => if i = e then G e j + sq_st N rp (G l) l e j else G i j
def sq_aH (N : Nat → Option Nat → Nat → Bool) (rp : Nat → Bool) (l e : Nat) (G H : Nat → Nat → Nat) : Nat → Nat → Nat := fun i j => if i = e then max (H e j) (sq_sq N rp (G l) (H l) l e j) else H i j
section
variable {N : Nat → Option Nat → Nat → Bool} {rp : Nat → Bool} {l e q m : Nat} {G H : Nat → Nat → Nat}
theorem sq_dcf {p : Prop} [Decidable p] (h : ¬ p) (x : Bool) : (decide p && x) = false := by rw [decide_eq_false h]; rfl
theorem sq_dct {p : Prop} [Decidable p] (h : p) (x : Bool) : (decide p && x) = x := by rw [decide_eq_true h]; rfl
theorem sq_pG0 (i j : Nat) : G i j = sq_pG N rp l e 0 G i j := by
  unfold sq_pG
  rw [sq_dcf (p := j < 0) (by omega), sq_dcf (p := 0 < j ∧ j ≤ 0) (by omega), if_neg Bool.false_ne_true, if_neg Bool.false_ne_true]
  by_cases c : i = e
  · rw [if_pos c, c]; rfl
  · rw [if_neg c]
theorem sq_pH0 (i j : Nat) : H i j = sq_pH N rp l e 0 G H i j := by
  unfold sq_pH
  rw [sq_dcf (p := j < 0) (by omega), sq_dcf (p := 0 < j ∧ j ≤ 0) (by omega), Bool.false_and, Bool.false_and, if_neg Bool.false_ne_true, if_neg Bool.false_ne_true]
  by_cases c : i = e
  · rw [if_pos c, c]; omega
  · rw [if_neg c]
theorem sq_pGm (i j : Nat) (hj : j < m) : sq_aG N rp l e G i j = sq_pG N rp l e m G i j := by
  unfold sq_pG sq_aG sq_st
  have d : decide (0 < j ∧ j ≤ m) = decide (0 < j) := decide_eq_decide.mpr (by omega)
  rw [sq_dct (p := j < m) hj, d, Nat.add_assoc]
theorem sq_pHm (i j : Nat) (hj : j < m) : sq_aH N rp l e G H i j = sq_pH N rp l e m G H i j := by
  unfold sq_pH sq_aH sq_sq
  have d : decide (0 < j ∧ j ≤ m) = decide (0 < j) := decide_eq_decide.mpr (by omega)
  rw [sq_dct (p := j < m) hj, d, Nat.max_assoc]
theorem sq_pGs (hl : l < e) (i j : Nat) : sq_pG N rp l e (q + 1) G i j = sq_eG N rp l e q (sq_pG N rp l e q G) i j := by
  have hle : ¬ l = e := by omega
  unfold sq_eG
  have a1 : sq_pG N rp l e q G l q = G l q := if_neg hle
  rw [a1]
  by_cases c : i = e
  · subst c
    rw [if_pos rfl]
    unfold sq_pG
    rw [if_pos rfl, if_pos rfl]
    by_cases a : j = q
    · subst a
      rw [sq_dct (p := j < j + 1) (by omega), sq_dcf (p := j < j) (by omega), sq_dct (p := j = j) rfl, sq_dcf (p := j = j + 1) (by omega)]
      have d : decide (0 < j ∧ j ≤ j + 1) = decide (0 < j ∧ j ≤ j) := decide_eq_decide.mpr (by omega)
      rw [d]
      simp only [Bool.false_eq_true, if_false]
      omega
    · by_cases b : j = q + 1
      · subst b
        rw [sq_dcf (p := q + 1 < q + 1) (by omega), sq_dcf (p := q + 1 < q) (by omega), sq_dcf (p := q + 1 = q) (by omega), sq_dct (p := q + 1 = q + 1) rfl, sq_dct (p := 0 < q + 1 ∧ q + 1 ≤ q + 1) (by omega), sq_dcf (p := 0 < q + 1 ∧ q + 1 ≤ q) (by omega), Nat.add_sub_cancel]
        simp only [Bool.false_eq_true, if_false]
      · have d1 : decide (j < q + 1) = decide (j < q) := decide_eq_decide.mpr (by omega)
        have d2 : decide (0 < j ∧ j ≤ q + 1) = decide (0 < j ∧ j ≤ q) := decide_eq_decide.mpr (by omega)
        rw [d1, d2, sq_dcf (p := j = q) a, sq_dcf (p := j = q + 1) b]
        simp only [Bool.false_eq_true, if_false, Nat.add_zero]
  · rw [if_neg c]
    unfold sq_pG
    rw [if_neg c, if_neg c]
theorem sq_pHs (hl : l < e) (i j : Nat) : sq_pH N rp l e (q + 1) G H i j = sq_eH N rp l e q (sq_pG N rp l e q G) (sq_pH N rp l e q G H) i j := by
  have hle : ¬ l = e := by omega
  unfold sq_eH
  have a1 : sq_pG N rp l e q G l q = G l q := if_neg hle
  have a2 : sq_pH N rp l e q G H l q = H l q := if_neg hle
  rw [a1, a2]
  by_cases c : i = e
  · subst c
    rw [if_pos rfl]
    unfold sq_pH
    rw [if_pos rfl, if_pos rfl]
    by_cases a : j = q
    · subst a
      rw [sq_dct (p := j < j + 1) (by omega), sq_dcf (p := j < j) (by omega), sq_dct (p := j = j) rfl, sq_dcf (p := j = j + 1) (by omega)]
      have d : decide (0 < j ∧ j ≤ j + 1) = decide (0 < j ∧ j ≤ j) := decide_eq_decide.mpr (by omega)
      rw [d]
      simp only [Bool.false_and, Bool.false_eq_true, if_false]
      omega
    · by_cases b : j = q + 1
      · subst b
        rw [sq_dcf (p := q + 1 < q + 1) (by omega), sq_dcf (p := q + 1 < q) (by omega), sq_dcf (p := q + 1 = q) (by omega), sq_dct (p := q + 1 = q + 1) rfl, sq_dct (p := 0 < q + 1 ∧ q + 1 ≤ q + 1) (by omega), sq_dcf (p := 0 < q + 1 ∧ q + 1 ≤ q) (by omega), Nat.add_sub_cancel]
        simp only [Bool.false_and, Bool.false_eq_true, if_false]
        omega
      · have d1 : decide (j < q + 1) = decide (j < q) := decide_eq_decide.mpr (by omega)
        have d2 : decide (0 < j ∧ j ≤ q + 1) = decide (0 < j ∧ j ≤ q) := decide_eq_decide.mpr (by omega)
        rw [d1, d2, sq_dcf (p := j = q) a, sq_dcf (p := j = q + 1) b]
        simp only [Bool.false_and, Bool.false_eq_true, if_false]
        omega
  · rw [if_neg c]
    unfold sq_pH
    rw [if_neg c, if_neg c]
theorem sq_sqb {g h : Nat → Nat} {b k : Nat} (h1 : h k ≤ b) (h2 : h (k - 1) ≤ b) : sq_sq N rp g h l e k ≤ b + 1 := by
  unfold sq_sq; split <;> split <;> omega
theorem sq_pHb (i j : Nat) (hj : j < m) (h1 : H i j ≤ i + 1) (h2 : ∀ j, j < m → H l j ≤ l + 1) (hl : l < e) : sq_pH N rp l e q G H i j ≤ i + 1 := by
  unfold sq_pH
  have a := h2 j hj
  have b := h2 (j - 1) (by omega)
  by_cases c : i = e
  · subst c
    rw [if_pos rfl]
    split <;> split <;> omega
  · rw [if_neg c]; exact h1
end
section
variable {m n w f : Nat} {fi : Int32} {sT sB sK rp ty va ti ru wa mo wy bf : Nat → Int32} {T : Nat → Nat} {G H : Nat → Nat → Nat}
theorem xw_extAll (hm : m ≤ 4) {post : SX → Prop} {p0 p1 : Int32} (l e : Nat) (e0 : p0 = nI l) (e1 : p1 = nI e) (hl : l < e) (he : e < 10) (hf : f < 10) (A : sq_AX m ru G) (B : sq_AX m mo H) (hG : ∀ k, k < m → G l k < 2 ^ 31) (hH : ∀ i j, j < m → H i j ≤ i + 1)
    (h : ∀ ru' mo', sq_AX m ru' (sq_aG (sq_Mf (sq_mt sT sB sK ty va) f) (sq_rp rp) l e G) → sq_AX m mo' (sq_aH (sq_Mf (sq_mt sT sB sK ty va) f) (sq_rp rp) l e G H) → post (nI m, nI w, nI n, nI f, sT, sB, sK, rp, ty, va, ti, ru', wa, mo')) :
    wpX_extendAll post (nI m, nI w, nI n, nI f, sT, sB, sK, rp, ty, va, ti, ru, wa, mo) p0 p1 := by
  subst e0 e1
  unfold wpX_extendAll
  dsimp only
  refine pk_loop (fun n' i (s : (Nat → Int32) × (Nat → Int32)) => wX_extendAll_2 post (nI l) (nI e) n' (nI i) (nI m) (nI w) (nI n) (nI f) sT sB sK rp ty va ti s.1 wa s.2)
    (fun i s => sq_AX m s.1 (sq_pG (sq_Mf (sq_mt sT sB sK ty va) f) (sq_rp rp) l e i G) ∧ sq_AX m s.2 (sq_pH (sq_Mf (sq_mt sT sB sK ty va) f) (sq_rp rp) l e i G H)) m 0 (ru, mo) (by omega)
    ⟨sq_AXc A (fun i j _ _ => (sq_pG0 i j).symm), sq_AXc B (fun i j _ _ => (sq_pH0 i j).symm)⟩ ?_ ?_
  · intro n' s hs
    refine br_t (nI_le (Nat.le_refl m) (by omega)) ?_
    exact h s.1 s.2 (sq_AXc hs.1 (fun i j _ hj => sq_pGm i j hj)) (sq_AXc hs.2 (fun i j _ hj => sq_pHm i j hj))
  · intro n' i s hi hs K
    refine br_f (nI_ge hi (by omega)) ?_
    refine xw_extend hm i l e rfl rfl rfl hi hl he hf hs.1 hs.2 ?_ ?_ ?_
    · rw [show sq_pG (sq_Mf (sq_mt sT sB sK ty va) f) (sq_rp rp) l e i G l i = G l i from if_neg (by omega)]
      exact hG i hi
    · intro i' j hi' hj
      have := sq_pHb (N := (sq_Mf (sq_mt sT sB sK ty va) f)) (rp := (sq_rp rp)) (q := i) (G := G) i' j hj (hH i' j hj) (hH l) hl
      omega
    · intro ru' mo' A' B'
      refine nm_r (nI_1 i) ?_
      exact K (ru', mo') ⟨sq_AXc A' (fun i' j _ _ => sq_pGs hl i' j), sq_AXc B' (fun i' j _ _ => sq_pHs hl i' j)⟩
end
end
section
/-! X: runFrom -/
def sq_fG (N : Nat → Option Nat → Nat → Bool) (rp : Nat → Bool) (e q : Nat) (G : Nat → Nat → Nat) : Nat → Nat → Nat := fun i j => if i = e then sq_sm (fun l => sq_st N rp (G l) l e j) q else G i j
def sq_fH (N : Nat → Option Nat → Nat → Bool) (rp : Nat → Bool) (e q : Nat) (G H : Nat → Nat → Nat) : Nat → Nat → Nat := fun i j => if i = e then sq_mx (fun l => sq_sq N rp (G l) (H l) l e j) q else H i j
section
variable {N : Nat → Option Nat → Nat → Bool} {J : Nat → Bool} {rp : Nat → Bool} {e q m n f : Nat} {G H : Nat → Nat → Nat}
theorem sq_fGs (hq : q < e) (i j : Nat) : sq_fG N rp e (q + 1) G i j = sq_aG N rp q e (sq_fG N rp e q G) i j := by
  unfold sq_aG
  by_cases c : i = e
  · subst c
    rw [if_pos rfl]
    unfold sq_fG
    rw [if_pos rfl, if_pos rfl]
    show sq_sm (fun l => sq_st N rp (G l) l i j) q + sq_st N rp (G q) q i j = _
    refine congrArg (fun z => sq_sm (fun l => sq_st N rp (G l) l i j) q + z) (sq_st_cg ?_ ?_)
    · exact (if_neg (by omega)).symm
    · exact (if_neg (by omega)).symm
  · rw [if_neg c]
    unfold sq_fG
    rw [if_neg c, if_neg c]
theorem sq_fHs (hq : q < e) (i j : Nat) : sq_fH N rp e (q + 1) G H i j = sq_aH N rp q e (sq_fG N rp e q G) (sq_fH N rp e q G H) i j := by
  unfold sq_aH
  by_cases c : i = e
  · subst c
    rw [if_pos rfl]
    unfold sq_fH
    rw [if_pos rfl, if_pos rfl]
    show max (sq_mx (fun l => sq_sq N rp (G l) (H l) l i j) q) (sq_sq N rp (G q) (H q) q i j) = _
    refine congrArg (fun z => max (sq_mx (fun l => sq_sq N rp (G l) (H l) l i j) q) z) (sq_sq_cg ?_ ?_ ?_ ?_)
    · exact (if_neg (by omega)).symm
    · exact (if_neg (by omega)).symm
    · exact (if_neg (by omega)).symm
    · exact (if_neg (by omega)).symm
  · rw [if_neg c]
    unfold sq_fH
    rw [if_neg c, if_neg c]
theorem sq_fHb (hq : q ≤ e) (h : ∀ i j, j < m → H i j ≤ i + 1) (i j : Nat) (hj : j < m) : sq_fH N rp e q G H i j ≤ i + 1 := by
  unfold sq_fH
  by_cases c : i = e
  · rw [if_pos c]
    refine sq_mxb (fun l hl => ?_)
    have := sq_sqb (N := N) (rp := rp) (l := l) (e := e) (g := G l) (h l j hj) (h l (j - 1) (by omega))
    omega
  · rw [if_neg c]; exact h i j hj
theorem sq_Hb (Q : sq_Req N J rp m n f G H) : ∀ e k, e < n → k < m → H e k ≤ e + 1 := by
  intro e
  induction e using Nat.strongRecOn with
  | ind e ih =>
    intro k he hk
    rw [Q e k he hk]
    unfold sq_nq
    split
    · omega
    · split
      · split <;> omega
      · split
        · refine sq_mxb (fun l hl => ?_)
          have := sq_sqb (N := N) (rp := rp) (l := l) (e := e) (g := G l) (ih l hl k (by omega) hk) (ih l hl (k - 1) (by omega) (by omega))
          omega
        · omega
/-- the tables when the events below e are done -/
def sq_In (N : Nat → Option Nat → Nat → Bool) (J : Nat → Bool) (rp : Nat → Bool) (m f e : Nat) (G H : Nat → Nat → Nat) : Prop :=
  sq_Rec N J rp m e f G ∧ sq_Req N J rp m e f G H ∧ ∀ i j, e ≤ i → j < m → G i j = 0 ∧ H i j = 0
theorem sq_InH (h : sq_In N J rp m f e G H) (i j : Nat) (hj : j < m) : H i j ≤ i + 1 := by
  by_cases c : i < e
  · exact sq_Hb h.2.1 i j c hj
  · rw [(h.2.2 i j (by omega) hj).2]; omega
theorem sq_InS0 (h : sq_In N J rp m f e G H) (hfe : f < e) (hJ : J e = false) : sq_In N J rp m f (e + 1) G H := by
  refine ⟨fun i k hi hk => ?_, fun i k hi hk => ?_, fun i j hi hj => h.2.2 i j (by omega) hj⟩
  · by_cases c : i < e
    · exact h.1 i k c hk
    · have : i = e := by omega
      subst this
      unfold sq_nw
      rw [if_neg (by omega), if_neg (by omega), if_neg (by rw [hJ]; decide)]
      exact (h.2.2 i k (by omega) hk).1
  · by_cases c : i < e
    · exact h.2.1 i k c hk
    · have : i = e := by omega
      subst this
      unfold sq_nq
      rw [if_neg (by omega), if_neg (by omega), if_neg (by rw [hJ]; decide)]
      exact (h.2.2 i k (by omega) hk).2
theorem sq_InS1 (h : sq_In N J rp m f e G H) (hfe : f < e) (hJ : J e = true) : sq_In N J rp m f (e + 1) (sq_fG N rp e e G) (sq_fH N rp e e G H) := by
  have g1 : ∀ l j, l < e → sq_fG N rp e e G l j = G l j := fun l j hl => if_neg (by omega)
  have g2 : ∀ l j, l < e → sq_fH N rp e e G H l j = H l j := fun l j hl => if_neg (by omega)
  refine ⟨fun i k hi hk => ?_, fun i k hi hk => ?_, fun i j hi hj => ?_⟩
  · by_cases c : i < e
    · rw [g1 i k c, h.1 i k c hk]
      exact sq_nw_cg hk (fun l j hl _ => (g1 l j (by omega)).symm)
    · have : i = e := by omega
      subst this
      rw [← sq_nw_cg (G := G) hk (fun l j hl _ => (g1 l j hl).symm)]
      unfold sq_nw
      rw [if_neg (by omega), if_neg (by omega), if_pos hJ]
      exact if_pos rfl
  · by_cases c : i < e
    · rw [g2 i k c, h.2.1 i k c hk]
      exact sq_nq_cg hk (fun l j hl _ => (g1 l j (by omega)).symm) (fun l j hl _ => (g2 l j (by omega)).symm)
    · have : i = e := by omega
      subst this
      rw [← sq_nq_cg (G := G) (H := H) hk (fun l j hl _ => (g1 l j hl).symm) (fun l j hl _ => (g2 l j hl).symm)]
      unfold sq_nq
      rw [if_neg (by omega), if_neg (by omega), if_pos hJ]
      exact if_pos rfl
  · have a : sq_fG N rp e e G i j = G i j := if_neg (by omega)
    have b : sq_fH N rp e e G H i j = H i j := if_neg (by omega)
    rw [a, b]
    exact h.2.2 i j (by omega) hj
def sq_g0 (c : Bool) (f : Nat) : Nat → Nat → Nat := fun i j => if i = f ∧ j = 0 ∧ c = true then 1 else 0
theorem sq_In0 : sq_In N J rp m f (f + 1) (sq_g0 (N 0 none f) f) (sq_g0 (N 0 none f) f) := by
  have a : ∀ i k, i < f + 1 → sq_g0 (N 0 none f) f i k = if i < f then 0 else if i = f then (if (decide (k = 0) && N 0 none f) = true then 1 else 0) else 0 := by
    intro i k hi
    unfold sq_g0
    by_cases c : i < f
    · rw [if_pos c, if_neg (by omega)]
    · rw [if_neg c, if_pos (show i = f by omega)]
      have : i = f := by omega
      by_cases d : k = 0
      · cases N 0 none f <;> simp [this, d]
      · simp [d]
  refine ⟨fun i k hi hk => ?_, fun i k hi hk => ?_, fun i j hi hj => ?_⟩
  · rw [a i k hi]
    unfold sq_nw
    by_cases c : i < f
    · rw [if_pos c, if_pos c]
    · rw [if_neg c, if_neg c, if_pos (show i = f by omega), if_pos (show i = f by omega)]
  · rw [a i k hi]
    unfold sq_nq
    by_cases c : i < f
    · rw [if_pos c, if_pos c]
    · rw [if_neg c, if_neg c, if_pos (show i = f by omega), if_pos (show i = f by omega)]
  · have : sq_g0 (N 0 none f) f i j = 0 := if_neg (by omega)
    exact ⟨this, this⟩
end
section
variable {m n w f : Nat} {fi : Int32} {sT sB sK rp ty va ti ru wa mo wy bf : Nat → Int32} {T : Nat → Nat} {G H : Nat → Nat → Nat}
theorem xw_r79 (hm : m ≤ 4) {post : SX → Prop} {J : Int32 → Int32 → Int32 → Int32 → Int32 → (Nat → Int32) → (Nat → Int32) → (Nat → Int32) → (Nat → Int32) → (Nat → Int32) → (Nat → Int32) → (Nat → Int32) → (Nat → Int32) → (Nat → Int32) → (Nat → Int32) → Prop}
    (e : Nat) (hfe : f < e) (he : e < 10) (A : sq_AX m ru G) (B : sq_AX m mo H) (I : sq_In (sq_Mf (sq_mt sT sB sK ty va) f) (sq_iw T w f) (sq_rp rp) m f e G H)
    (h : ∀ ru' mo', sq_AX m ru' (sq_fG (sq_Mf (sq_mt sT sB sK ty va) f) (sq_rp rp) e e G) → sq_AX m mo' (sq_fH (sq_Mf (sq_mt sT sB sK ty va) f) (sq_rp rp) e e G H) → J (nI (e + 1)) (nI m) (nI w) (nI n) (nI f) sT sB sK rp ty va ti ru' wa mo') :
    ∃ n79, wX_runFrom_79 post J (nI f) (nI e) n79 (nI f) (nI m) (nI w) (nI n) (nI f) sT sB sK rp ty va ti ru wa mo := by
  have hz : ∀ l k, l < f → k < m → G l k = 0 := fun l k hl hk => by
    rw [I.1 l k (by omega) hk]; exact if_pos hl
  refine pk_loop (fun n' i (s : (Nat → Int32) × (Nat → Int32)) => wX_runFrom_79 post J (nI f) (nI e) n' (nI i) (nI m) (nI w) (nI n) (nI f) sT sB sK rp ty va ti s.1 wa s.2)
    (fun i s => sq_AX m s.1 (sq_fG (sq_Mf (sq_mt sT sB sK ty va) f) (sq_rp rp) e i G) ∧ sq_AX m s.2 (sq_fH (sq_Mf (sq_mt sT sB sK ty va) f) (sq_rp rp) e i G H)) e f (ru, mo) (by omega) ⟨sq_AXc A ?_, sq_AXc B ?_⟩ ?_ ?_
  · intro i j _ hj
    unfold sq_fG
    by_cases c : i = e
    · rw [if_pos c, sq_z (fun l hl => sq_st_z (hz l j hl hj) (hz l (j - 1) hl (by omega)))]
      exact (I.2.2 i j (by omega) hj).1.symm
    · rw [if_neg c]
  · intro i j _ hj
    unfold sq_fH
    by_cases c : i = e
    · rw [if_pos c, sq_mxz (fun l hl => sq_sq_z (hz l j hl hj) (hz l (j - 1) hl (by omega)))]
      exact (I.2.2 i j (by omega) hj).2.symm
    · rw [if_neg c]
  · intro n' s hs
    refine br_t (nI_le (Nat.le_refl e) (by omega)) (nm_r (nI_1 e) ?_)
    exact h s.1 s.2 hs.1 hs.2
  · intro n' i s hi hs K
    refine br_f (nI_ge hi (by omega)) ?_
    refine xw_extAll hm i e rfl rfl hi he (by omega) hs.1 hs.2 ?_ (sq_fHb (by omega) (sq_InH I)) ?_
    · intro k hk
      rw [show sq_fG (sq_Mf (sq_mt sT sB sK ty va) f) (sq_rp rp) e i G i k = G i k from if_neg (by omega)]
      exact Nat.lt_of_le_of_lt (sq_bd I.1 i k hi hk) (sq_310 (by omega))
    · intro ru' mo' A' B'
      refine nm_r (nI_1 i) ?_
      exact K (ru', mo') ⟨sq_AXc A' (fun i' j _ _ => sq_fGs hi i' j), sq_AXc B' (fun i' j _ _ => sq_fHs hi i' j)⟩
theorem xw_r61 (O : sq_ok m n w sK ti T) {post : SX → Prop} (hf : f < n) (A : sq_AX m ru G) (B : sq_AX m mo H) (I : sq_In (sq_Mf (sq_mt sT sB sK ty va) f) (sq_iw T w f) (sq_rp rp) m f (f + 1) G H)
    (h : ∀ ru' mo' G' H', sq_AX m ru' G' → sq_AX m mo' H' → sq_Rec (sq_Mf (sq_mt sT sB sK ty va) f) (sq_iw T w f) (sq_rp rp) m n f G' → sq_Req (sq_Mf (sq_mt sT sB sK ty va) f) (sq_iw T w f) (sq_rp rp) m n f G' H' → post (nI m, nI w, nI n, nI f, sT, sB, sK, rp, ty, va, ti, ru', wa, mo')) :
    ∃ n61, wX_runFrom_61 post (nI f) n61 (nI (f + 1)) (nI m) (nI w) (nI n) (nI f) sT sB sK rp ty va ti ru wa mo := by
  have hn : n ≤ 10 := O.2.1
  refine pk_loop (fun n' i (s : (Nat → Int32) × (Nat → Int32)) => wX_runFrom_61 post (nI f) n' (nI i) (nI m) (nI w) (nI n) (nI f) sT sB sK rp ty va ti s.1 wa s.2)
    (fun i s => f < i ∧ ∃ G H, sq_AX m s.1 G ∧ sq_AX m s.2 H ∧ sq_In (sq_Mf (sq_mt sT sB sK ty va) f) (sq_iw T w f) (sq_rp rp) m f i G H) n (f + 1) (ru, mo) (by omega) ⟨by omega, G, H, A, B, I⟩ ?_ ?_
  · intro n' s hs
    obtain ⟨_, G', H', A', B', I'⟩ := hs
    refine br_t (nI_le (Nat.le_refl n) (by omega)) ?_
    exact h s.1 s.2 G' H' A' B' I'.1 I'.2.1
  · intro n' i s hi hs K
    obtain ⟨hfi, G', H', A', B', I'⟩ := hs
    refine br_f (nI_ge hi (by omega)) ?_
    refine xw_win O i rfl (by omega) hi (sq_bb (fun d => nm_r (nI_1 i) ?_) (fun d => ?_))
    · exact K s ⟨by omega, G', H', A', B', sq_InS0 I' hfi d⟩
    · refine xw_r79 O.1 i hfi (by omega) A' B' I' (fun ru' mo' A2 B2 => ?_)
      exact K (ru', mo') ⟨by omega, _, _, A2, B2, sq_InS1 I' hfi d⟩
theorem xw_runFrom (O : sq_ok m n w sK ti T) {post : SX → Prop} {p0 : Int32} (f : Nat) (e0 : p0 = nI f) (hf : f < n)
    (h : ∀ ru' mo' G' H', sq_AX m ru' G' → sq_AX m mo' H' → sq_Rec (sq_Mf (sq_mt sT sB sK ty va) f) (sq_iw T w f) (sq_rp rp) m n f G' → sq_Req (sq_Mf (sq_mt sT sB sK ty va) f) (sq_iw T w f) (sq_rp rp) m n f G' H' → post (nI m, nI w, nI n, nI f, sT, sB, sK, rp, ty, va, ti, ru', wa, mo')) :
    wpX_runFrom post (nI m, nI w, nI n, fi, sT, sB, sK, rp, ty, va, ti, ru, wa, mo) p0 := by
  subst e0
  have hn : n ≤ 10 := O.2.1
  have hm : m ≤ 4 := O.1
  unfold wpX_runFrom
  dsimp only
  refine pk_loop (fun n' i (s : (Nat → Int32) × (Nat → Int32)) => wX_runFrom_7 post (nI f) (nI m) (nI w) (nI n) (nI f) n' (nI i) sT sB sK rp ty va ti s.1 wa s.2)
    (fun i s => ∀ a, a < i → s.1 a = 0 ∧ s.2 a = 0) 40 0 (ru, mo) (by omega) (fun a ha => absurd ha (by omega)) ?_ ?_
  · intro n' s hs
    have A0 : sq_AX m s.1 (fun _ _ => 0) := fun i k hi hk => by rw [(hs (k * 10 + i) (by omega)).1, nI_0]
    have B0 : sq_AX m s.2 (fun _ _ => 0) := fun i k hi hk => by rw [(hs (k * 10 + i) (by omega)).2, nI_0]
    have L : ∀ ru' mo', sq_AX m ru' (sq_g0 ((sq_Mf (sq_mt sT sB sK ty va) f) 0 none f) f) → sq_AX m mo' (sq_g0 ((sq_Mf (sq_mt sT sB sK ty va) f) 0 none f) f) → ∃ n61, wX_runFrom_61 post (nI f) n61 (nI (f + 1)) (nI m) (nI w) (nI n) (nI f) sT sB sK rp ty va ti ru' wa mo' := fun ru' mo' A' B' =>
      xw_r61 O hf A' B' sq_In0 h
    refine br_t (show (40 : Int32) ≤ nI 40 by decide) ?_
    refine pk_le m 0 (fun c => nm_r (nI_1 f) (L s.1 s.2 ?_ ?_)) (fun c => ?_)
    · exact fun i k hi hk => absurd hk (by omega)
    · exact fun i k hi hk => absurd hk (by omega)
    · refine xw_meets 0 f none nI_0.symm rfl rfl (by omega) (by omega) (by omega) (fun l hl => by cases hl) (sq_bb (fun d => nm_r (nI_1 f) (L s.1 s.2 ?_ ?_)) (fun d => ?_))
      · exact sq_AXc A0 (fun i j _ _ => if_neg (fun z => by rw [d] at z; exact absurd z.2.2 (by decide)))
      · exact sq_AXc B0 (fun i j _ _ => if_neg (fun z => by rw [d] at z; exact absurd z.2.2 (by decide)))
      · refine xw_add (0 * 10 + f) (by rw [Nat.zero_mul, Nat.zero_add]) (by omega) (nm_r (nI_1 f) (L _ _ (sq_AXu A0 (by omega) (v := 1) ?_ (if_pos ⟨rfl, rfl, d⟩) ?_) (sq_AXu B0 (by omega) (v := 1) ?_ (if_pos ⟨rfl, rfl, d⟩) ?_)))
        · rw [A0 f 0 (by omega) (by omega)]; dsimp only; decide
        · exact fun i j _ _ hne => if_neg (by omega)
        · rw [B0 f 0 (by omega) (by omega)]; exact if_neg (show ¬ (1 : Int32) ≤ nI 0 by decide)
        · exact fun i j _ _ hne => if_neg (by omega)
  · intro n' i s hi hs K
    refine br_f (nI_ge (b := 40) hi (by decide)) ⟨vp_in_nI hi (by decide), nm_r (congrArg (fun z => upd s.1 z 0) (nI_clamp (n := i) (by omega))) ⟨vp_in_nI hi (by decide), nm_r (congrArg (fun z => upd s.2 z 0) (nI_clamp (n := i) (by omega))) (nm_r (nI_1 i) ?_)⟩⟩
    refine K (upd s.1 i 0, upd s.2 i 0) (fun a ha => ?_)
    by_cases c : a = i
    · subst c
      exact ⟨pk_us, pk_us⟩
    · have := hs a (by omega)
      exact ⟨(pk_un c).trans this.1, (pk_un c).trans this.2⟩
end
end
section
/-! X: waysOn, waysFrom -/
def sq_vs (N : Nat → Option Nat → Nat → Bool) (J : Nat → Bool) (rp : Nat → Bool) (m n : Nat) (V : Nat → Nat → Nat) (e k : Nat) : Nat :=
  (if k + 1 = m then 1 else 0) + sq_sm (fun y => if (decide (e < y) && J y) = true then sq_av N rp m (V y) e y k else 0) n
theorem sq_vs_cg {N : Nat → Option Nat → Nat → Bool} {J : Nat → Bool} {rp : Nat → Bool} {m n e k : Nat} {V V' : Nat → Nat → Nat} (hk : k < m) (h : ∀ y j, e < y → j < m → V y j = V' y j) : sq_vs N J rp m n V e k = sq_vs N J rp m n V' e k := by
  unfold sq_vs
  refine congrArg (fun z => (if k + 1 = m then 1 else 0) + z) (sq_cg (fun y _ => ?_))
  by_cases c : e < y
  · unfold sq_av
    by_cases d : k + 1 < m
    · rw [h y k c hk, h y (k + 1) c d]
    · rw [h y k c hk, sq_dcf d, if_neg Bool.false_ne_true, if_neg Bool.false_ne_true]
  · rw [sq_dcf c, if_neg (by decide), if_neg (by decide)]
theorem sq_av0 {N : Nat → Option Nat → Nat → Bool} {rp : Nat → Bool} {m l y k : Nat} {v : Nat → Nat} (h : (rp k && N k (some l) y) = false) : sq_av N rp m v l y k = (if (decide (k + 1 < m) && N (k + 1) (some l) y) = true then v (k + 1) else 0) := by
  unfold sq_av; rw [h, if_neg Bool.false_ne_true, Nat.zero_add]
theorem sq_av1 {N : Nat → Option Nat → Nat → Bool} {rp : Nat → Bool} {m l y k : Nat} {v : Nat → Nat} (h : (rp k && N k (some l) y) = true) : sq_av N rp m v l y k = v k + (if (decide (k + 1 < m) && N (k + 1) (some l) y) = true then v (k + 1) else 0) := by
  unfold sq_av; rw [h, if_pos rfl]
section
variable {m n w f : Nat} {fi : Int32} {sT sB sK rp ty va ti ru wa mo wy bf : Nat → Int32} {T : Nat → Nat} {G H V : Nat → Nat → Nat}
theorem xw_w74 (hm : m ≤ 4) {post : Int32 → Prop} {J21 : Int32 → Int32 → Prop} (k e x acc : Nat) (hk : k < m) (he : e < 10) (hx : x < 10) (hf : f < 10) (A : sq_AX m wa V)
    (h : J21 (nI (acc + (if (decide (k + 1 < m) && (sq_Mf (sq_mt sT sB sK ty va) f) (k + 1) (some e) x) = true then V x (k + 1) else 0))) (nI (x + 1))) :
    wX_waysOn_74 post J21 (nI k) (nI e) (nI acc) (nI x) (nI m) (nI w) (nI n) (nI f) sT sB sK rp ty va ti ru wa mo := by
  unfold wX_waysOn_74
  refine pk_le m (k + 1) (fun c => nm_r (nI_1 x) ?_) (fun c => ?_) rfl (nI_1 k)
  · rw [sq_dcf (by omega), if_neg (by decide), Nat.add_zero] at h
    exact h
  · refine xw_meets (k + 1) x (some e) (nI_1 k) rfl rfl (by omega) hx hf (fun q hq => by cases hq; omega) (sq_bb (fun d => nm_r (nI_1 x) ?_) (fun d => ?_))
    · rw [d, Bool.and_false, if_neg (by decide), Nat.add_zero] at h
      exact h
    · rw [d, sq_dct (by omega), if_pos rfl] at h
      rw [sq_ix1 k x, nI_clamp (n := (k + 1) * 10 + x) (by omega), A x (k + 1) hx (by omega)]
      exact ⟨vp_in_nI (by omega) (by decide), nm_r (nI_add _ _) (nm_r (nI_1 x) h)⟩
theorem xw_w21 (O : sq_ok m n w sK ti T) {post : Int32 → Prop} (k e c : Nat) (hk : k < m) (hfe : f ≤ e) (he : e < n) (A : sq_AX m wa V)
    (h : post (nI (c + sq_sm (fun y => if (decide (e < y) && (sq_iw T w f) y) = true then sq_av (sq_Mf (sq_mt sT sB sK ty va) f) (sq_rp rp) m (V y) e y k else 0) n))) :
    ∃ n21, wX_waysOn_21 post (nI k) (nI e) (nI m) (nI w) (nI n) (nI f) sT sB sK rp ty va ti ru wa mo n21 (nI c) (nI (e + 1)) := by
  have hm : m ≤ 4 := O.1
  have hn : n ≤ 10 := O.2.1
  have ik : vp_in (nI k) 4 := vp_in_nI (by omega) (by decide)
  have ck : (nI k).toNatClampNeg = k := nI_clamp (by omega)
  refine pk_loop (fun n' i (s : Int32) => wX_waysOn_21 post (nI k) (nI e) (nI m) (nI w) (nI n) (nI f) sT sB sK rp ty va ti ru wa mo n' s (nI i))
    (fun i s => e < i ∧ s = nI (c + sq_sm (fun y => if (decide (e < y) && (sq_iw T w f) y) = true then sq_av (sq_Mf (sq_mt sT sB sK ty va) f) (sq_rp rp) m (V y) e y k else 0) i)) n (e + 1) (nI c) (by omega) ⟨by omega, ?_⟩ ?_ ?_
  · rw [sq_z (n := e + 1) (fun y hy => by rw [sq_dcf (by omega), if_neg (by decide)]), Nat.add_zero]
  · intro n' s hs
    refine br_t (nI_le (Nat.le_refl n) (by omega)) ?_
    rw [hs.2]
    exact h
  · intro n' i s hi hs K
    obtain ⟨hei, rfl⟩ := hs
    refine br_f (nI_ge hi (by omega)) ?_
    refine xw_win O i rfl (by omega) hi (sq_bb (fun d => nm_r (nI_1 i) ?_) (fun d => ?_))
    · refine K _ ⟨by omega, congrArg nI ?_⟩
      show _ = c + (sq_sm (fun y => if (decide (e < y) && (sq_iw T w f) y) = true then sq_av (sq_Mf (sq_mt sT sB sK ty va) f) (sq_rp rp) m (V y) e y k else 0) i + (if (decide (e < i) && (sq_iw T w f) i) = true then sq_av (sq_Mf (sq_mt sT sB sK ty va) f) (sq_rp rp) m (V i) e i k else 0))
      rw [d, Bool.and_false, if_neg (by decide), Nat.add_zero]
    · have E : sq_sm (fun y => if (decide (e < y) && (sq_iw T w f) y) = true then sq_av (sq_Mf (sq_mt sT sB sK ty va) f) (sq_rp rp) m (V y) e y k else 0) (i + 1) = sq_sm (fun y => if (decide (e < y) && (sq_iw T w f) y) = true then sq_av (sq_Mf (sq_mt sT sB sK ty va) f) (sq_rp rp) m (V y) e y k else 0) i + sq_av (sq_Mf (sq_mt sT sB sK ty va) f) (sq_rp rp) m (V i) e i k := by
        show sq_sm (fun y => if (decide (e < y) && (sq_iw T w f) y) = true then sq_av (sq_Mf (sq_mt sT sB sK ty va) f) (sq_rp rp) m (V y) e y k else 0) i + (if (decide (e < i) && (sq_iw T w f) i) = true then sq_av (sq_Mf (sq_mt sT sB sK ty va) f) (sq_rp rp) m (V i) e i k else 0) = _
        rw [sq_dct hei, d, if_pos rfl]
      rw [ck]
      refine ⟨ik, ?_⟩
      by_cases hr : rp k = 0
      · refine br_t hr (xw_w74 hm k e i _ hk (by omega) (by omega) (by omega) A (K _ ⟨by omega, congrArg nI ?_⟩))
        rw [E, sq_av0 (by rw [sq_rpf hr, Bool.false_and]), Nat.add_assoc]
      · refine br_f hr (xw_meets k i (some e) rfl rfl rfl (by omega) (by omega) (by omega) (fun q hq => by cases hq; omega) (sq_bb (fun d2 => ?_) (fun d2 => ?_)))
        · refine xw_w74 hm k e i _ hk (by omega) (by omega) (by omega) A (K _ ⟨by omega, congrArg nI ?_⟩)
          rw [E, sq_av0 (by rw [d2, Bool.and_false]), Nat.add_assoc]
        · rw [sq_ix k i, nI_clamp (n := k * 10 + i) (by omega), A i k (by omega) hk]
          refine ⟨vp_in_nI (by omega) (by decide), nm_r (nI_add _ _) ?_⟩
          refine xw_w74 hm k e i _ hk (by omega) (by omega) (by omega) A (K _ ⟨by omega, congrArg nI ?_⟩)
          rw [E, sq_av1 (by rw [d2, sq_rpt hr, Bool.and_self]), Nat.add_assoc, Nat.add_assoc]
theorem xw_waysOn (O : sq_ok m n w sK ti T) {post : Int32 → Prop} {p0 p1 : Int32} (k e : Nat) (e0 : p0 = nI k) (e1 : p1 = nI e) (hk : k < m) (hfe : f ≤ e) (he : e < n) (A : sq_AX m wa V)
    (h : post (nI (sq_vs (sq_Mf (sq_mt sT sB sK ty va) f) (sq_iw T w f) (sq_rp rp) m n V e k))) : wpX_waysOn post (nI m, nI w, nI n, nI f, sT, sB, sK, rp, ty, va, ti, ru, wa, mo) p0 p1 := by
  have hm : m ≤ 4 := O.1
  subst e0 e1
  unfold wpX_waysOn
  dsimp only
  unfold sq_vs at h
  refine pk_eq k (m - 1) (fun c => nm_r (nI_1 e) ?_) (fun c => nm_r (nI_1 e) ?_) rfl (sq_m1 (by omega))
  · rw [if_pos (by omega)] at h
    exact xw_w21 O k e 1 hk hfe he A h
  · rw [if_neg (by omega)] at h
    exact xw_w21 O k e 0 hk hfe he A h
theorem xw_wf24 (O : sq_ok m n w sK ti T) {post : SX → Prop} {J12 : Int32 → (Nat → Int32) → (Nat → Int32) → (Nat → Int32) → (Nat → Int32) → (Nat → Int32) → (Nat → Int32) → (Nat → Int32) → (Nat → Int32) → (Nat → Int32) → (Nat → Int32) → Prop}
    (e : Nat) (hfe : f ≤ e) (he : e < n) (A : sq_AX m wa V) (hV : ∀ x k, e < x → x < n → k < m → V x k = sq_vs (sq_Mf (sq_mt sT sB sK ty va) f) (sq_iw T w f) (sq_rp rp) m n V x k)
    (h : ∀ wa' V', sq_AX m wa' V' → (∀ x k, e ≤ x → x < n → k < m → V' x k = sq_vs (sq_Mf (sq_mt sT sB sK ty va) f) (sq_iw T w f) (sq_rp rp) m n V' x k) → J12 (sq_dn e) sT sB sK rp ty va ti ru wa' mo) :
    ∃ n24, wX_waysFrom_24 post J12 (nI f) (nI e) (nI m) (nI w) (nI n) (nI f) n24 (sq_dn m) sT sB sK rp ty va ti ru wa mo := by
  have hm : m ≤ 4 := O.1
  have hn : n ≤ 10 := O.2.1
  refine ⟨m + 1, pk_loopD (fun n' i s => wX_waysFrom_24 post J12 (nI f) (nI e) (nI m) (nI w) (nI n) (nI f) n' (sq_dn i) sT sB sK rp ty va ti ru s mo)
    (fun i s => i ≤ m ∧ ∃ V, sq_AX m s V ∧ (∀ x k, e < x → x < n → k < m → V x k = sq_vs (sq_Mf (sq_mt sT sB sK ty va) f) (sq_iw T w f) (sq_rp rp) m n V x k) ∧ (∀ k, i ≤ k → k < m → V e k = sq_vs (sq_Mf (sq_mt sT sB sK ty va) f) (sq_iw T w f) (sq_rp rp) m n V e k)) ?_ ?_ m wa ⟨Nat.le_refl m, V, A, hV, fun k a b => absurd b (by omega)⟩⟩
  · intro n' s hs
    obtain ⟨_, V', A', h1, h2⟩ := hs
    refine br_t (show sq_dn 0 < 0 by decide) (nm_r (sq_dnm e) (h s V' A' (fun x k hx hxn hk => ?_)))
    by_cases c : x = e
    · subst c; exact h2 k (by omega) hk
    · exact h1 x k (by omega) hxn hk
  · intro n' i s hs K
    obtain ⟨him, V', A', h1, h2⟩ := hs
    show wX_waysFrom_24 post J12 (nI f) (nI e) (nI m) (nI w) (nI n) (nI f) (n' + 1) (nI i) sT sB sK rp ty va ti ru s mo
    refine br_f (nI_pos (by omega)) (xw_waysOn O i e rfl rfl (by omega) hfe he A' ?_)
    rw [sq_ix i e, nI_clamp (n := i * 10 + e) (by omega)]
    refine ⟨vp_in_nI (by omega) (by decide), nm_e (nm_r (sq_dnm i) ?_)⟩
    have g : ∀ x k, e ≤ x → k < m → sq_vs (sq_Mf (sq_mt sT sB sK ty va) f) (sq_iw T w f) (sq_rp rp) m n (fun y j => if y = e ∧ j = i then sq_vs (sq_Mf (sq_mt sT sB sK ty va) f) (sq_iw T w f) (sq_rp rp) m n V' e i else V' y j) x k = sq_vs (sq_Mf (sq_mt sT sB sK ty va) f) (sq_iw T w f) (sq_rp rp) m n V' x k := fun x k hx hk =>
      sq_vs_cg hk (fun y j hy _ => if_neg (by omega))
    refine K _ ⟨by omega, fun y j => if y = e ∧ j = i then sq_vs (sq_Mf (sq_mt sT sB sK ty va) f) (sq_iw T w f) (sq_rp rp) m n V' e i else V' y j, sq_AXu A' (by omega) rfl (if_pos ⟨rfl, rfl⟩) (fun y j _ _ hne => if_neg (by omega)), fun x k hx hxn hk => ?_, fun k hik hk => ?_⟩
    · rw [g x k (by omega) hk]
      exact (if_neg (by omega)).trans (h1 x k hx hxn hk)
    · rw [g e k (by omega) hk]
      by_cases c : k = i
      · subst c; exact if_pos ⟨rfl, rfl⟩
      · exact (if_neg (by omega)).trans (h2 k (by omega) hk)
theorem sq_dnlt {f : Nat} (h : f < 2 ^ 31) : sq_dn f < nI f := by
  cases f with
  | zero => rw [nI_0]; decide
  | succ f => exact nI_lt (by omega) h
theorem xw_waysFrom (O : sq_ok m n w sK ti T) {post : SX → Prop} {p0 : Int32} (f : Nat) (e0 : p0 = nI f) (hf : f < n) (A : sq_AX m wa V)
    (h : ∀ wa' V', sq_AX m wa' V' → (∀ x k, f ≤ x → x < n → k < m → V' x k = sq_vs (sq_Mf (sq_mt sT sB sK ty va) f) (sq_iw T w f) (sq_rp rp) m n V' x k) → post (nI m, nI w, nI n, nI f, sT, sB, sK, rp, ty, va, ti, ru, wa', mo)) :
    wpX_waysFrom post (nI m, nI w, nI n, fi, sT, sB, sK, rp, ty, va, ti, ru, wa, mo) p0 := by
  have hm : m ≤ 4 := O.1
  have hn : n ≤ 10 := O.2.1
  subst e0
  unfold wpX_waysFrom
  dsimp only
  refine nm_r ((sq_dn1 n).trans (congrArg sq_dn (show n = f + (n - f) by omega))) ?_
  refine ⟨n - f + 1, pk_loopD (fun n' i s => wX_waysFrom_12 post (nI f) (nI m) (nI w) (nI n) (nI f) n' (sq_dn (f + i)) sT sB sK rp ty va ti ru s mo)
    (fun i s => f + i ≤ n ∧ ∃ V, sq_AX m s V ∧ (∀ x k, f + i ≤ x → x < n → k < m → V x k = sq_vs (sq_Mf (sq_mt sT sB sK ty va) f) (sq_iw T w f) (sq_rp rp) m n V x k)) ?_ ?_ (n - f) wa ⟨by omega, V, A, fun x k hx hxn _ => absurd hxn (by omega)⟩⟩
  · intro n' s hs
    obtain ⟨_, V', A', h1⟩ := hs
    exact br_t (sq_dnlt (by omega)) (h s V' A' h1)
  · intro n' i s hs K
    obtain ⟨hi, V', A', h1⟩ := hs
    show wX_waysFrom_12 post (nI f) (nI m) (nI w) (nI n) (nI f) (n' + 1) (nI (f + i)) sT sB sK rp ty va ti ru s mo
    refine br_f (nI_nlt (by omega) (by omega)) (nm_r (sq_dn1 m) ?_)
    refine xw_wf24 O (f + i) (by omega) (by omega) A' (fun x k hx => h1 x k (by omega)) (fun wa' V2 A2 h2 => ?_)
    exact K wa' ⟨by omega, V2, A2, h2⟩
end
end
section
/-! X: the questions -/
theorem sq_AXex (m : Nat) (a : Nat → Int32) : ∃ V, sq_AX m a V := by
  refine ⟨fun i k => (a (k * 10 + i)).toBitVec.toNat, fun i k _ _ => ?_⟩
  apply Int32.toBitVec_inj.mp
  apply BitVec.eq_of_toNat_eq
  rw [pk_tn (a (k * 10 + i)).toBitVec.isLt]
theorem sq_whG {M : Nat → Option Nat → Nat → Nat → Bool} {I : Nat → Nat → Bool} {rp : Nat → Bool} {m n f e : Nat} {G : Nat → Nat → Nat} (hw : sq_wn (I f) n f) (R : sq_Rec (sq_Mf M f) (I f) rp m n f G) (he : e < n) : (if 0 < m then G e (m - 1) else 0) = sq_wh M I rp m f e := by
  unfold sq_wh
  by_cases h : 0 < m
  · rw [if_pos h, if_pos h, sq_A hw R e (m - 1) he (by omega)]
  · rw [if_neg h, if_neg h]
section
variable {m n w f : Nat} {fi : Int32} {sT sB sK rp ty va ti ru wa mo wy bf : Nat → Int32} {T : Nat → Nat} {G H V : Nat → Nat → Nat}
theorem xw_noE0 (hn : n ≤ 10) {post : Int32 → Prop} {p0 : Int32} (e : Nat) (e0 : p0 = nI e) (he : e < n) (h : post 0) : wpX_noEvent post (nI m, nI w, nI n, fi, sT, sB, sK, rp, ty, va, ti, ru, wa, mo) p0 := by
  subst e0
  exact br_f (nI_pos (by omega)) (br_t (nI_lt he (by omega)) h)
theorem xw_noE1 {post : Int32 → Prop} {p0 : Int32} (hb : p0 < 0 ∨ nI n ≤ p0) (h : post 1) : wpX_noEvent post (nI m, nI w, nI n, fi, sT, sB, sK, rp, ty, va, ti, ru, wa, mo) p0 := by
  refine br_c (fun _ => h) (fun c => br_c (fun d => ?_) (fun _ => h))
  rcases hb with hb | hb
  · exact absurd hb c
  · exact absurd d (Int32.not_lt.mpr hb)
theorem xw_ending (O : sq_ok m n w sK ti T) {post : Int32 → SX → Prop} {p0 : Int32} (e : Nat) (e0 : p0 = nI e) (he : e < n)
    (h : ∀ fi' ru' mo', post (nI (sq_sm (fun f => sq_wh (sq_mt sT sB sK ty va) (sq_iw T w) (sq_rp rp) m f e) (e + 1))) (nI m, nI w, nI n, fi', sT, sB, sK, rp, ty, va, ti, ru', wa, mo')) : wpX_endingAt post (nI m, nI w, nI n, fi, sT, sB, sK, rp, ty, va, ti, ru, wa, mo) p0 := by
  have hm : m ≤ 4 := O.1
  have hn : n ≤ 10 := O.2.1
  subst e0
  unfold wpX_endingAt
  dsimp only
  refine xw_noE0 hn e rfl he (br_t rfl ?_)
  refine pk_loop (fun n' i (s : Int32 × Int32 × (Nat → Int32) × (Nat → Int32)) => wX_endingAt_15 post (nI e) n' s.1 (nI i) (nI m) (nI w) (nI n) s.2.1 sT sB sK rp ty va ti s.2.2.1 wa s.2.2.2)
    (fun i s => s.1 = nI (sq_sm (fun f => sq_wh (sq_mt sT sB sK ty va) (sq_iw T w) (sq_rp rp) m f e) i)) (e + 1) 0 (0, fi, ru, mo) (by omega) nI_0.symm ?_ ?_
  · intro n' s hs
    refine br_t (nI_lt (by omega) (by omega)) ?_
    rw [hs]
    exact h s.2.1 s.2.2.1 s.2.2.2
  · intro n' i s hi hs K
    refine br_f (nI_nlt (by omega) (by omega)) ?_
    refine xw_runFrom O i rfl (by omega) (fun ru' mo' G' H' A' B' R' Q' => ?_)
    refine xw_whole hm e rfl (by omega) A' ?_
    rw [hs, sq_whG (I := (sq_iw T w)) (sq_okw O) R' he]
    refine nm_r (nI_add _ _) (nm_r (nI_1 i) ?_)
    exact K (_, nI i, ru', mo') rfl
theorem xw_begin (O : sq_ok m n w sK ti T) {post : Int32 → SX → Prop} {p0 : Int32} (f : Nat) (e0 : p0 = nI f) (hf : f < n)
    (h : ∀ fi' ru' mo', post (nI (sq_sm (fun x => sq_wh (sq_mt sT sB sK ty va) (sq_iw T w) (sq_rp rp) m f x) n)) (nI m, nI w, nI n, fi', sT, sB, sK, rp, ty, va, ti, ru', wa, mo')) : wpX_beginningAt post (nI m, nI w, nI n, fi, sT, sB, sK, rp, ty, va, ti, ru, wa, mo) p0 := by
  have hm : m ≤ 4 := O.1
  have hn : n ≤ 10 := O.2.1
  subst e0
  unfold wpX_beginningAt
  dsimp only
  refine xw_noE0 hn f rfl hf (br_t rfl ?_)
  refine xw_runFrom O f rfl hf (fun ru' mo' G' H' A' B' R' Q' => ?_)
  refine pk_loop (fun n' i (s : Int32) => wX_beginningAt_20 post (nI m) (nI w) (nI n) (nI f) sT sB sK rp ty va ti ru' wa mo' n' s (nI i))
    (fun i s => s = nI (sq_sm (fun x => sq_wh (sq_mt sT sB sK ty va) (sq_iw T w) (sq_rp rp) m f x) i)) n f 0 (by omega) ?_ ?_ ?_
  · rw [sq_z (fun x hx => sq_wh0 hn (show x < n by omega) hx), nI_0]
  · intro n' s hs
    refine br_t (nI_le (Nat.le_refl n) (by omega)) ?_
    rw [hs]
    exact h (nI f) ru' mo'
  · intro n' i s hi hs K
    refine br_f (nI_ge hi (by omega)) ?_
    refine xw_whole hm i rfl (by omega) A' ?_
    rw [hs, sq_whG (I := (sq_iw T w)) (sq_okw O) R' hi]
    exact nm_r (nI_add _ _) (nm_r (nI_1 i) (K _ rfl))
theorem xw_finds (O : sq_ok m n w sK ti T) {post : Int32 → SX → Prop}
    (h : ∀ fi' ru' mo', post (nI (sq_sm (fun f => sq_sm (fun x => sq_wh (sq_mt sT sB sK ty va) (sq_iw T w) (sq_rp rp) m f x) n) n)) (nI m, nI w, nI n, fi', sT, sB, sK, rp, ty, va, ti, ru', wa, mo')) : wpX_finds post (nI m, nI w, nI n, fi, sT, sB, sK, rp, ty, va, ti, ru, wa, mo) := by
  have hn : n ≤ 10 := O.2.1
  unfold wpX_finds
  dsimp only
  refine pk_loop (fun n' i (s : Int32 × Int32 × (Nat → Int32) × (Nat → Int32)) => wX_finds_4 post n' s.1 (nI i) (nI m) (nI w) (nI n) s.2.1 sT sB sK rp ty va ti s.2.2.1 wa s.2.2.2)
    (fun i s => s.1 = nI (sq_sm (fun f => sq_sm (fun x => sq_wh (sq_mt sT sB sK ty va) (sq_iw T w) (sq_rp rp) m f x) n) i)) n 0 (0, fi, ru, mo) (by omega) nI_0.symm ?_ ?_
  · intro n' s hs
    refine br_t (nI_le (Nat.le_refl n) (by omega)) ?_
    rw [hs]
    exact h s.2.1 s.2.2.1 s.2.2.2
  · intro n' i s hi hs K
    refine br_f (nI_ge hi (by omega)) ?_
    refine xw_begin O i rfl hi (fun fi' ru' mo' => ?_)
    rw [hs]
    refine nm_r (nI_add _ _) (nm_r (nI_1 i) ?_)
    exact K (_, fi', ru', mo') rfl
theorem xw_using (O : sq_ok m n w sK ti T) {post : Int32 → SX → Prop} {p0 : Int32} (e : Nat) (e0 : p0 = nI e) (he : e < n)
    (h : ∀ fi' ru' wa' mo', post (nI (sq_sm (fun f => sq_U (sq_mt sT sB sK ty va) (sq_iw T w) (sq_rp rp) m n f e) (e + 1))) (nI m, nI w, nI n, fi', sT, sB, sK, rp, ty, va, ti, ru', wa', mo')) : wpX_using post (nI m, nI w, nI n, fi, sT, sB, sK, rp, ty, va, ti, ru, wa, mo) p0 := by
  have hm : m ≤ 4 := O.1
  have hn : n ≤ 10 := O.2.1
  subst e0
  unfold wpX_using
  dsimp only
  refine xw_noE0 hn e rfl he (br_t rfl ?_)
  refine pk_loop (fun n' i (s : Int32 × Int32 × (Nat → Int32) × (Nat → Int32) × (Nat → Int32)) => wX_using_15 post (nI e) n' s.1 (nI i) (nI m) (nI w) (nI n) s.2.1 sT sB sK rp ty va ti s.2.2.1 s.2.2.2.1 s.2.2.2.2)
    (fun i s => s.1 = nI (sq_sm (fun f => sq_U (sq_mt sT sB sK ty va) (sq_iw T w) (sq_rp rp) m n f e) i)) (e + 1) 0 (0, fi, ru, wa, mo) (by omega) nI_0.symm ?_ ?_
  · intro n' s hs
    refine br_t (nI_lt (by omega) (by omega)) ?_
    rw [hs]
    exact h s.2.1 s.2.2.1 s.2.2.2.1 s.2.2.2.2
  · intro n' i s hi hs K
    refine br_f (nI_nlt (by omega) (by omega)) ?_
    refine xw_runFrom O i rfl (by omega) (fun ru' mo' G' H' A' B' R' Q' => ?_)
    obtain ⟨V0, hV0⟩ := sq_AXex m s.2.2.2.1
    refine xw_waysFrom O i rfl (by omega) hV0 (fun wa' V' A2 hV' => ?_)
    have E : sq_sm (fun k => G' e k * V' e k) m = sq_U (sq_mt sT sB sK ty va) (sq_iw T w) (sq_rp rp) m n i e := by
      unfold sq_U
      by_cases hm0 : 0 < m
      · rw [if_pos hm0, ← sq_use (sq_okw O) (show i ≤ e by omega) he hm0 hV']
        exact sq_cg (fun k hk => by rw [sq_A (sq_okw O) R' e k he hk])
      · rw [if_neg hm0, show m = 0 by omega]
        rfl
    refine pk_loop (fun n2 j (t : Int32) => wX_using_33 post (wX_using_15 post (nI e) n') (nI e) (nI i) (nI m) (nI w) (nI n) (nI i) sT sB sK rp ty va ti ru' wa' mo' n2 t (nI j))
      (fun j t => t = nI (sq_sm (fun f => sq_U (sq_mt sT sB sK ty va) (sq_iw T w) (sq_rp rp) m n f e) i + sq_sm (fun k => G' e k * V' e k) j)) m 0 s.1 (by omega) hs ?_ ?_
    · intro n2 t ht
      refine br_t (nI_le (Nat.le_refl m) (by omega)) (nm_r (nI_1 i) ?_)
      exact K (t, nI i, ru', wa', mo') (by rw [ht, E]; rfl)
    · intro n2 j t hj ht K2
      refine br_f (nI_ge hj (by omega)) ?_
      rw [sq_ix j e, nI_clamp (n := j * 10 + e) (by omega), A' e j (by omega) hj, A2 e j (by omega) hj]
      refine ⟨vp_in_nI (by omega) (by decide), vp_in_nI (by omega) (by decide), nm_r (e' := nI (sq_sm (fun f => sq_U (sq_mt sT sB sK ty va) (sq_iw T w) (sq_rp rp) m n f e) i + sq_sm (fun k => G' e k * V' e k) (j + 1))) ?_ (nm_r (nI_1 j) (K2 _ rfl))⟩
      rw [ht, pk_mul, nI_add, Nat.add_assoc]
      rfl
theorem xw_lastv (O : sq_ok m n w sK ti T) {post : Int32 → SX → Prop} (vn : Nat → Nat) (hv : ∀ i, va i = nI (vn i))
    (h : ∀ fi' ru' mo', post (nI (sq_sm (fun e => sq_sm (fun f => sq_wh (sq_mt sT sB sK ty va) (sq_iw T w) (sq_rp rp) m f e) (e + 1) * vn e) n)) (nI m, nI w, nI n, fi', sT, sB, sK, rp, ty, va, ti, ru', wa, mo')) : wpX_lastValues post (nI m, nI w, nI n, fi, sT, sB, sK, rp, ty, va, ti, ru, wa, mo) := by
  have hn : n ≤ 10 := O.2.1
  unfold wpX_lastValues
  dsimp only
  refine pk_loop (fun n' i (s : Int32 × Int32 × (Nat → Int32) × (Nat → Int32)) => wX_lastValues_4 post n' s.1 (nI i) (nI m) (nI w) (nI n) s.2.1 sT sB sK rp ty va ti s.2.2.1 wa s.2.2.2)
    (fun i s => s.1 = nI (sq_sm (fun e => sq_sm (fun f => sq_wh (sq_mt sT sB sK ty va) (sq_iw T w) (sq_rp rp) m f e) (e + 1) * vn e) i)) n 0 (0, fi, ru, mo) (by omega) nI_0.symm ?_ ?_
  · intro n' s hs
    refine br_t (nI_le (Nat.le_refl n) (by omega)) ?_
    rw [hs]
    exact h s.2.1 s.2.2.1 s.2.2.2
  · intro n' i s hi hs K
    refine br_f (nI_ge hi (by omega)) ?_
    refine xw_ending O i rfl hi (fun fi' ru' mo' => ?_)
    refine ⟨vp_in_nI (by omega) (by decide), nm_r (e' := nI (sq_sm (fun e => sq_sm (fun f => sq_wh (sq_mt sT sB sK ty va) (sq_iw T w) (sq_rp rp) m f e) (e + 1) * vn e) (i + 1))) ?_ (nm_r (nI_1 i) ?_)⟩
    · rw [hs, nI_clamp (n := i) (by omega), hv i, pk_mul, nI_add]
      rfl
    · exact K (_, fi', ru', mo') rfl
end
/-! pairs of a first and a last event, one behind another -/
def sq_Pp (Q : Nat → Nat → Nat → Prop) (n i j : Nat) (z : Nat) : Prop := ∃ f e, ((f < i ∧ e < n) ∨ (f = i ∧ e < j)) ∧ Q f e z
theorem sq_Pp0 {Q : Nat → Nat → Nat → Prop} {n z : Nat} : ¬ sq_Pp Q n 0 0 z := fun ⟨f, e, h, _⟩ => by omega
theorem sq_PpS {Q : Nat → Nat → Nat → Prop} {n i j z : Nat} : (sq_Pp Q n i j z ∨ Q i j z) ↔ sq_Pp Q n i (j + 1) z := by
  constructor
  · rintro (⟨f, e, h, hq⟩ | hq)
    · exact ⟨f, e, by omega, hq⟩
    · exact ⟨i, j, by omega, hq⟩
  · rintro ⟨f, e, h, hq⟩
    by_cases c : f = i ∧ e = j
    · rw [c.1, c.2] at hq; exact Or.inr hq
    · exact Or.inl ⟨f, e, by omega, hq⟩
theorem sq_PpI {Q : Nat → Nat → Nat → Prop} {n i z : Nat} : sq_Pp Q n i n z ↔ sq_Pp Q n (i + 1) 0 z := by
  constructor
  · rintro ⟨f, e, h, hq⟩; exact ⟨f, e, by omega, hq⟩
  · rintro ⟨f, e, h, hq⟩; exact ⟨f, e, by omega, hq⟩
theorem sq_PpD {Q : Nat → Nat → Nat → Prop} {n i z : Nat} (hQ : ∀ f e z, Q f e z → f ≤ e) : sq_Pp Q n i 0 z ↔ sq_Pp Q n i i z := by
  constructor
  · rintro ⟨f, e, h, hq⟩; exact ⟨f, e, by omega, hq⟩
  · rintro ⟨f, e, h, hq⟩
    have := hQ f e z hq
    exact ⟨f, e, by omega, hq⟩
def sq_Qs (M : Nat → Option Nat → Nat → Nat → Bool) (I : Nat → Nat → Bool) (rp : Nat → Bool) (m f e z : Nat) : Prop :=
  0 < m ∧ ∃ t, t < 2 ^ e ∧ sq_fl (I f) f e t = true ∧ 0 < sq_wv (sq_Mf M f) rp e t (m - 1) ∧ z = sq_zv e t
theorem sq_Qs_le {M : Nat → Option Nat → Nat → Nat → Bool} {I : Nat → Nat → Bool} {rp : Nat → Bool} {m : Nat} (f e z : Nat) (h : sq_Qs M I rp m f e z) : f ≤ e := by
  obtain ⟨_, t, ht, hf, _, _⟩ := h
  have := (sq_fl_t hf).1
  have := sq_fvle e t ht
  omega
def sq_Qt (M : Nat → Option Nat → Nat → Nat → Bool) (I : Nat → Nat → Bool) (rp : Nat → Bool) (m n : Nat) (T : Nat → Nat) (f e z : Nat) : Prop :=
  e < n ∧ f ≤ e ∧ 0 < sq_wh M I rp m f e ∧ z = T e - T f
theorem sq_isM_a {o : Option Nat} {P Q : Nat → Prop} {x : Nat} (h : sq_isM o P) (hq : sq_isM (some x) Q) (hx : ∀ b, o = some b → b < x) : sq_isM (some x) (fun z => P z ∨ Q z) := by
  rcases hq with ⟨e', _⟩ | ⟨x', e', hx', hq⟩
  · cases e'
  · cases e'
    refine Or.inr ⟨x, rfl, Or.inr hx', fun z hz => ?_⟩
    rcases hz with hz | hz
    · rcases h with ⟨e, h⟩ | ⟨b, e, hb, h⟩
      · exact absurd hz (h z)
      · have a := h z hz
        have c := hx b e
        omega
    · exact hq z hz
theorem sq_isM_b {P Q : Nat → Prop} {b x : Nat} (h : sq_isM (some b) P) (hq : sq_isM (some x) Q) (hx : x ≤ b) : sq_isM (some b) (fun z => P z ∨ Q z) := by
  rcases hq with ⟨e', _⟩ | ⟨x', e', hx', hq⟩
  · cases e'
  · cases e'
    rcases h with ⟨e, h⟩ | ⟨b', e, hb, h⟩
    · cases e
    · cases e
      refine Or.inr ⟨b, rfl, Or.inl hb, fun z hz => ?_⟩
      rcases hz with hz | hz
      · exact h z hz
      · have := hq z hz
        omega
theorem sq_isM_c {o : Option Nat} {P Q : Nat → Prop} (h : sq_isM o P) (hq : ∀ z, ¬ Q z) : sq_isM o (fun z => P z ∨ Q z) :=
  sq_isM_cg h (fun z => ⟨Or.inl, fun c => c.elim id (fun d => absurd d (hq z))⟩)
theorem sq_isL_c {o : Option Nat} {P Q : Nat → Prop} (h : sq_isL o P) (hq : ∀ z, ¬ Q z) : sq_isL o (fun z => P z ∨ Q z) :=
  sq_isL_cg h (fun z => ⟨Or.inl, fun c => c.elim id (fun d => absurd d (hq z))⟩)
theorem sq_onle {x : Nat} (o : Option Nat) {A B : Prop} (hx : x < 2 ^ 31) (ho : ∀ b, o = some b → b < 2 ^ 31) (a : ∀ b, o = some b → x ≤ b → A) (c : (∀ b, o = some b → b < x) → B) : (nI x ≤ sq_on o → A) ∧ (¬ nI x ≤ sq_on o → B) := by
  cases o with
  | none =>
    refine br_f ?_ (c (fun b hb => by cases hb))
    rw [Int32.le_iff_toInt_le, nI_toInt hx, show (sq_on none).toInt = -4 by decide]
    omega
  | some b =>
    exact pk_le x b (fun z => a b rfl z) (fun z => c (fun b' hb => by cases hb; exact z)) rfl rfl hx (ho b rfl)
end
section
/-! X: longest, tightest, without -/
section
variable {m n w f : Nat} {fi : Int32} {sT sB sK rp ty va ti ru wa mo wy bf : Nat → Int32} {T : Nat → Nat} {G H V : Nat → Nat → Nat}
theorem sq_gb {N : Nat → Option Nat → Nat → Bool} {J : Nat → Bool} {rp : Nat → Bool} {m n f e : Nat} {G : Nat → Nat → Nat} (R : sq_Rec N J rp m n f G) (he : e < n) (hn : n ≤ 10) : (if 0 < m then G e (m - 1) else 0) < 2 ^ 31 := by
  by_cases h : 0 < m
  · rw [if_pos h]
    exact Nat.lt_of_le_of_lt (sq_bd R e (m - 1) he (by omega)) (sq_310 (by omega))
  · rw [if_neg h]; decide
theorem sq_QsM {M : Nat → Option Nat → Nat → Nat → Bool} {I : Nat → Nat → Bool} {rp : Nat → Bool} {m n f e : Nat} {G H : Nat → Nat → Nat} (hw : sq_wn (I f) n f) (R : sq_Rec (sq_Mf M f) (I f) rp m n f G) (Q : sq_Req (sq_Mf M f) (I f) rp m n f G H) (he : e < n) (hg : 0 < if 0 < m then G e (m - 1) else 0) : 0 < m ∧ sq_isM (some (H e (m - 1))) (sq_Qs M I rp m f e) := by
  by_cases h : 0 < m
  · rw [if_pos h] at hg
    obtain ⟨a, b⟩ := sq_H hw R Q e (m - 1) he (by omega)
    refine ⟨h, Or.inr ⟨_, rfl, ?_, ?_⟩⟩
    · obtain ⟨t, ht, hf, hp, hz⟩ := b hg
      exact ⟨h, t, ht, hf, hp, hz.symm⟩
    · rintro z ⟨_, t, ht, hf, hp, rfl⟩
      exact a t ht hf hp
  · rw [if_neg h] at hg
    exact absurd hg (Nat.lt_irrefl 0)
theorem sq_QsN {M : Nat → Option Nat → Nat → Nat → Bool} {I : Nat → Nat → Bool} {rp : Nat → Bool} {m n f e : Nat} {G : Nat → Nat → Nat} (hw : sq_wn (I f) n f) (R : sq_Rec (sq_Mf M f) (I f) rp m n f G) (he : e < n) (hg : (if 0 < m then G e (m - 1) else 0) ≤ 0) (z : Nat) : ¬ sq_Qs M I rp m f e z := by
  rintro ⟨h, t, ht, hf, hp, _⟩
  rw [if_pos h, sq_A hw R e (m - 1) he (by omega)] at hg
  have := sq_RR1 ht hf hp
  omega
theorem xw_longest (O : sq_ok m n w sK ti T) {post : Int32 → SX → Prop}
    (h : ∀ o fi' ru' mo', sq_isM o (sq_Pp (sq_Qs (sq_mt sT sB sK ty va) (sq_iw T w) (sq_rp rp) m) n n 0) → post (sq_on o) (nI m, nI w, nI n, fi', sT, sB, sK, rp, ty, va, ti, ru', wa, mo')) : wpX_longest post (nI m, nI w, nI n, fi, sT, sB, sK, rp, ty, va, ti, ru, wa, mo) := by
  have hm : m ≤ 4 := O.1
  have hn : n ≤ 10 := O.2.1
  unfold wpX_longest
  dsimp only
  refine pk_loop (fun n' i (s : Int32 × Int32 × (Nat → Int32) × (Nat → Int32)) => wX_longest_5 post n' s.1 (nI i) (nI m) (nI w) (nI n) s.2.1 sT sB sK rp ty va ti s.2.2.1 wa s.2.2.2)
    (fun i s => ∃ o, s.1 = sq_on o ∧ sq_isM o (sq_Pp (sq_Qs (sq_mt sT sB sK ty va) (sq_iw T w) (sq_rp rp) m) n i 0) ∧ ∀ b, o = some b → b < 100) n 0 (-4, fi, ru, mo) (by omega)
    ⟨none, rfl, Or.inl ⟨rfl, fun z => sq_Pp0⟩, fun b hb => by cases hb⟩ ?_ ?_
  · intro n' s hs
    obtain ⟨o, ho, hM, _⟩ := hs
    refine br_t (nI_le (Nat.le_refl n) (by omega)) ?_
    rw [ho]
    exact h o s.2.1 s.2.2.1 s.2.2.2 hM
  · intro n' i s hi hs K
    obtain ⟨o0, ho0, hM0, hb0⟩ := hs
    refine br_f (nI_ge hi (by omega)) ?_
    refine xw_runFrom O i rfl hi (fun ru' mo' G' H' A' B' R' Q' => ?_)
    refine pk_loop (fun n2 j (t : Int32) => wX_longest_20 post (wX_longest_5 post n') (nI i) (nI m) (nI w) (nI n) (nI i) sT sB sK rp ty va ti ru' wa mo' n2 t (nI j))
      (fun j t => ∃ o, t = sq_on o ∧ sq_isM o (sq_Pp (sq_Qs (sq_mt sT sB sK ty va) (sq_iw T w) (sq_rp rp) m) n i j) ∧ ∀ b, o = some b → b < 100) n i s.1 (by omega)
      ⟨o0, ho0, sq_isM_cg hM0 (fun z => sq_PpD (fun f e z hq => sq_Qs_le f e z hq)), hb0⟩ ?_ ?_
    · intro n2 t ht
      obtain ⟨o, ho, hM, hb⟩ := ht
      refine br_t (nI_le (Nat.le_refl n) (by omega)) (nm_r (nI_1 i) ?_)
      exact K (t, nI i, ru', mo') ⟨o, ho, sq_isM_cg hM (fun z => sq_PpI), hb⟩
    · intro n2 j t hj ht K2
      obtain ⟨o, rfl, hM, hb⟩ := ht
      refine br_f (nI_ge hj (by omega)) ?_
      refine xw_whole hm j rfl (by omega) A' ?_
      refine pk_le (if 0 < m then G' j (m - 1) else 0) 0 (fun c => nm_r (nI_1 j) ?_) (fun c => ?_) rfl rfl (sq_gb R' hj hn) (by decide)
      · exact K2 _ ⟨o, rfl, sq_isM_cg (sq_isM_c hM (sq_QsN (I := (sq_iw T w)) (sq_okw O) R' hj c)) (fun z => sq_PpS), hb⟩
      · obtain ⟨hm0, hQ⟩ := sq_QsM (I := (sq_iw T w)) (sq_okw O) R' Q' hj c
        have hHb := sq_Hb Q' j (m - 1) hj (by omega)
        have iv : vp_in (nI ((m - 1) * 10 + j)) 40 := vp_in_nI (by omega) (by decide)
        rw [sq_m1 hm0, sq_ix, nI_clamp (n := (m - 1) * 10 + j) (by omega), B' j (m - 1) (by omega) (by omega)]
        refine ⟨iv, sq_onle o (by omega) (fun b hb' => by have := hb b hb'; omega) (fun b hb' hle => nm_r (nI_1 j) ?_) (fun hlt => ⟨iv, nm_e (nm_r (nI_1 j) ?_)⟩)⟩
        · subst hb'
          exact K2 _ ⟨some b, rfl, sq_isM_cg (sq_isM_b hM hQ hle) (fun z => sq_PpS), hb⟩
        · exact K2 _ ⟨some (H' j (m - 1)), rfl, sq_isM_cg (sq_isM_a hM hQ hlt) (fun z => sq_PpS), fun b hb' => by cases hb'; omega⟩
theorem xw_tightest (O : sq_ok m n w sK ti T) {post : Int32 → SX → Prop}
    (h : ∀ o fi' ru' mo', sq_isL o (sq_Pp (sq_Qt (sq_mt sT sB sK ty va) (sq_iw T w) (sq_rp rp) m n T) n n 0) → post (sq_on o) (nI m, nI w, nI n, fi', sT, sB, sK, rp, ty, va, ti, ru', wa, mo')) : wpX_tightest post (nI m, nI w, nI n, fi, sT, sB, sK, rp, ty, va, ti, ru, wa, mo) := by
  have hm : m ≤ 4 := O.1
  have hn : n ≤ 10 := O.2.1
  have hT := O.2.2.2.2.1
  have hMo := O.2.2.2.2.2
  unfold wpX_tightest
  dsimp only
  refine pk_loop (fun n' i (s : Int32 × Int32 × (Nat → Int32) × (Nat → Int32)) => wX_tightest_5 post n' s.1 (nI i) (nI m) (nI w) (nI n) s.2.1 sT sB sK rp ty va ti s.2.2.1 wa s.2.2.2)
    (fun i s => ∃ o, s.1 = sq_on o ∧ sq_isL o (sq_Pp (sq_Qt (sq_mt sT sB sK ty va) (sq_iw T w) (sq_rp rp) m n T) n i 0) ∧ ∀ b, o = some b → b < 100) n 0 (-4, fi, ru, mo) (by omega)
    ⟨none, rfl, Or.inl ⟨rfl, fun z => sq_Pp0⟩, fun b hb => by cases hb⟩ ?_ ?_
  · intro n' s hs
    obtain ⟨o, ho, hM, _⟩ := hs
    refine br_t (nI_le (Nat.le_refl n) (by omega)) ?_
    rw [ho]
    exact h o s.2.1 s.2.2.1 s.2.2.2 hM
  · intro n' i s hi hs K
    obtain ⟨o0, ho0, hM0, hb0⟩ := hs
    refine br_f (nI_ge hi (by omega)) ?_
    refine xw_runFrom O i rfl hi (fun ru' mo' G' H' A' B' R' Q' => ?_)
    refine pk_loop (fun n2 j (t : Int32) => wX_tightest_20 post (wX_tightest_5 post n') (nI i) (nI m) (nI w) (nI n) (nI i) sT sB sK rp ty va ti ru' wa mo' n2 t (nI j))
      (fun j t => i ≤ j ∧ ∃ o, t = sq_on o ∧ sq_isL o (sq_Pp (sq_Qt (sq_mt sT sB sK ty va) (sq_iw T w) (sq_rp rp) m n T) n i j) ∧ ∀ b, o = some b → b < 100) n i s.1 (by omega)
      ⟨Nat.le_refl i, o0, ho0, sq_isL_cg hM0 (fun z => sq_PpD (fun f e z hq => hq.2.1)), hb0⟩ ?_ ?_
    · intro n2 t ht
      obtain ⟨_, o, ho, hM, hb⟩ := ht
      refine br_t (nI_le (Nat.le_refl n) (by omega)) (nm_r (nI_1 i) ?_)
      exact K (t, nI i, ru', mo') ⟨o, ho, sq_isL_cg hM (fun z => sq_PpI), hb⟩
    · intro n2 j t hj ht K2
      obtain ⟨hij, o, rfl, hM, hb⟩ := ht
      have hTj := hT j hj
      have hTi := hT i hi
      refine br_f (nI_ge hj (by omega)) ?_
      refine xw_whole hm j rfl (by omega) A' ?_
      rw [sq_whG (I := (sq_iw T w)) (sq_okw O) R' hj]
      refine ⟨vp_in_nI (by omega) (by decide), vp_in_nI (by omega) (by decide), nm_r (e' := nI (T j - T i)) ?_ ?_⟩
      · rw [nI_clamp (n := j) (by omega), nI_clamp (n := i) (by omega), hTj.1, hTi.1, pk_sub (hMo i j hij hj)]
      · have hgb := sq_gb R' hj hn
        rw [sq_whG (I := (sq_iw T w)) (sq_okw O) R' hj] at hgb
        refine pk_le (sq_wh (sq_mt sT sB sK ty va) (sq_iw T w) (sq_rp rp) m i j) 0 (fun c => nm_r (nI_1 j) ?_) (fun c => ?_) rfl rfl hgb (by decide)
        · refine K2 _ ⟨by omega, o, rfl, sq_isL_cg (sq_isL_c hM (Q := sq_Qt (sq_mt sT sB sK ty va) (sq_iw T w) (sq_rp rp) m n T i j) (fun z hz => ?_)) (fun z => sq_PpS), hb⟩
          have := hz.2.2.1
          omega
        · have hq : ∀ z, z = T j - T i ↔ sq_Qt (sq_mt sT sB sK ty va) (sq_iw T w) (sq_rp rp) m n T i j z := fun z => ⟨fun e => ⟨hj, hij, c, e⟩, fun e => e.2.2.2⟩
          have up : (∀ b, o = some b → T j - T i < b) → wX_tightest_20 post (wX_tightest_5 post n') (nI i) (nI m) (nI w) (nI n) (nI i) sT sB sK rp ty va ti ru' wa mo' n2 (nI (T j - T i)) (nI (j + 1)) := fun hlt =>
            K2 _ ⟨by omega, some (T j - T i), rfl, sq_isL_cg (sq_isL_up hM hlt) (fun z => Iff.trans ⟨fun a => a.imp id (hq z).mp, fun a => a.imp id (hq z).mpr⟩ sq_PpS), fun b hb' => by cases hb'; omega⟩
          cases o with
          | none => exact br_t (show sq_on none < 0 by decide) (nm_r (nI_1 j) (up (fun b hb' => by cases hb')))
          | some b =>
            have hb1 := hb b rfl
            refine br_f (show ¬ sq_on (some b) < 0 from nI_pos (by omega)) (pk_le b (T j - T i) (fun d => nm_r (nI_1 j) ?_) (fun d => nm_r (nI_1 j) (up (fun b' hb' => by cases hb'; exact d))))
            exact K2 _ ⟨by omega, some b, rfl, sq_isL_cg (sq_isL_no hM d) (fun z => Iff.trans ⟨fun a => a.imp id (hq z).mp, fun a => a.imp id (hq z).mpr⟩ sq_PpS), hb⟩
theorem xw_without (O : sq_ok m n w sK ti T) {post : Int32 → SX → Prop} {p0 : Int32} (e : Nat) (e0 : p0 = nI e) (he : e < n)
    (h : ∀ fi' ru' wa' mo', post (nI (sq_sm (fun f => sq_sm (fun x => sq_wh (sq_mt sT sB sK ty va) (sq_iw T w) (sq_rp rp) m f x) n) n) - nI (sq_sm (fun f => sq_U (sq_mt sT sB sK ty va) (sq_iw T w) (sq_rp rp) m n f e) (e + 1))) (nI m, nI w, nI n, fi', sT, sB, sK, rp, ty, va, ti, ru', wa', mo')) : wpX_without post (nI m, nI w, nI n, fi, sT, sB, sK, rp, ty, va, ti, ru, wa, mo) p0 := by
  have hn : n ≤ 10 := O.2.1
  subst e0
  unfold wpX_without
  dsimp only
  refine xw_noE0 hn e rfl he (br_t rfl ?_)
  refine xw_finds O (fun fi' ru' mo' => ?_)
  exact xw_using O e rfl he (fun fi2 ru2 wa2 mo2 => h fi2 ru2 wa2 mo2)
end
end
section
/-! Y: firstOf, lastOf, sizeOf, take, findsOf -/
theorem sq_blt {x l : Nat} : ∀ {d : Nat}, sq_b x d = some l → l < d := by
  intro d
  induction d with
  | zero => intro h; cases h
  | succ d ih =>
    intro h
    have h' : (if x.testBit d = true then some d else sq_b x d) = some l := h
    by_cases c : x.testBit d = true
    · rw [if_pos c] at h'
      cases h'; omega
    · rw [if_neg c] at h'
      have := ih h'
      omega
theorem sq_bS1 {x d : Nat} (h : x.testBit d = true) : sq_b x (d + 1) = some d := if_pos h
theorem sq_bS0 {x d : Nat} (h : x.testBit d = false) : sq_b x (d + 1) = sq_b x d := if_neg (by rw [h]; decide)
theorem sq_she {n : Nat} (h : n ≤ 10) : (1 : Int32) <<< (nI n &&& 31) ≤ nI (2 ^ n) := by
  rw [sq_sh n (by omega)]
  have := sq_2n h
  exact nI_le (Nat.le_refl _) (by omega)
theorem sq_shl {n i : Nat} (h : n ≤ 10) (hi : i < 2 ^ n) : ¬ (1 : Int32) <<< (nI n &&& 31) ≤ nI i := by
  rw [sq_sh n (by omega)]
  have := sq_2n h
  exact nI_ge hi (by omega)
section
variable {m n w f : Nat} {fi : Int32} {sT sB sK rp ty va ti ru wa mo wy bf : Nat → Int32} {T : Nat → Nat}
theorem yw_lastOf {post : Int32 → Prop} {p0 : Int32} (x : Nat) (e0 : p0 = nI x) (hx : x < 2 ^ 31) (h : post (nI (sq_lst x))) : wpY_lastOf post (nI n, nI m, nI w, ty, va, ti, sT, sB, sK, rp, wy, bf) p0 := by
  subst e0
  unfold wpY_lastOf
  dsimp only
  refine pk_loop (fun n' i (s : Int32) => wY_lastOf_4 post (nI x) (nI n) (nI m) (nI w) ty va ti sT sB sK rp wy bf n' s (nI i)) (fun i s => s = nI ((sq_b x i).getD 0)) 10 0 0 (by omega) nI_0.symm ?_ ?_
  · intro n' s hs
    refine br_t (show (10 : Int32) ≤ nI 10 by decide) ?_
    rw [hs]
    exact h
  · intro n' i s hi hs K
    refine br_f (nI_ge (b := 10) hi (by decide)) ?_
    rw [sq_tb hx (by omega)]
    refine sq_b1 (fun c => nm_r (nI_1 i) (K _ ?_)) (fun c => nm_r (nI_1 i) (K _ ?_))
    · rw [sq_bS1 c]; rfl
    · rw [sq_bS0 c]; exact hs
theorem yw_firstOf {post : Int32 → Prop} {p0 : Int32} (x : Nat) (e0 : p0 = nI x) (hx : x < 2 ^ 31) (h : post (nI (sq_fst x))) : wpY_firstOf post (nI n, nI m, nI w, ty, va, ti, sT, sB, sK, rp, wy, bf) p0 := by
  subst e0
  unfold wpY_firstOf
  dsimp only
  refine ⟨11, pk_loopD (fun n' i (s : Int32) => wY_firstOf_6 post (nI x) (nI n) (nI m) (nI w) ty va ti sT sB sK rp wy bf n' s (sq_dn i)) (fun i s => i ≤ 10 ∧ ∃ r, s = nI r ∧ (sq_fi x i).getD r = sq_fst x) ?_ ?_ 10 9 ⟨by omega, 9, rfl, rfl⟩⟩
  · intro n' s hs
    obtain ⟨_, r, rfl, hr⟩ := hs
    refine br_t (show sq_dn 0 < 0 by decide) ?_
    have hr' : r = sq_fst x := hr
    rw [hr']
    exact h
  · intro n' i s hs K
    obtain ⟨hi, r, rfl, hr⟩ := hs
    show wY_firstOf_6 post (nI x) (nI n) (nI m) (nI w) ty va ti sT sB sK rp wy bf (n' + 1) (nI r) (nI i)
    refine br_f (nI_pos (by omega)) ?_
    rw [sq_tb hx (by omega)]
    have hr' : ((sq_fi x i).or (if x.testBit i = true then some i else none)).getD r = sq_fst x := hr
    refine sq_b1 (fun c => nm_r (sq_dnm i) (K _ ⟨by omega, i, rfl, ?_⟩)) (fun c => nm_r (sq_dnm i) (K _ ⟨by omega, r, rfl, ?_⟩))
    · rw [if_pos c] at hr'
      rw [← hr']
      cases sq_fi x i <;> rfl
    · rw [if_neg (by rw [c]; decide)] at hr'
      rw [← hr']
      cases sq_fi x i <;> rfl
theorem yw_sizeOf {post : Int32 → Prop} {p0 : Int32} (x : Nat) (e0 : p0 = nI x) (hx : x < 2 ^ 31) (h : post (nI (sq_sz x 10))) : wpY_sizeOf post (nI n, nI m, nI w, ty, va, ti, sT, sB, sK, rp, wy, bf) p0 := by
  subst e0
  unfold wpY_sizeOf
  dsimp only
  refine pk_loop (fun n' i (s : Int32) => wY_sizeOf_4 post (nI x) (nI n) (nI m) (nI w) ty va ti sT sB sK rp wy bf n' s (nI i)) (fun i s => s = nI (sq_sz x i)) 10 0 0 (by omega) nI_0.symm ?_ ?_
  · intro n' s hs
    refine br_t (show (10 : Int32) ≤ nI 10 by decide) ?_
    rw [hs]
    exact h
  · intro n' i s hi hs K
    refine br_f (nI_ge (b := 10) hi (by decide)) ?_
    refine nm_r (e' := nI (sq_sz x (i + 1))) ?_ (nm_r (nI_1 i) (K _ rfl))
    rw [sq_tb hx (by omega), sq_biN, hs, nI_add]
    rfl
theorem yw_t110 (O : sq_ok m n w sK ti T) {post : SY → Prop} {J35 : Int32 → (Nat → Int32) → (Nat → Int32) → (Nat → Int32) → (Nat → Int32) → (Nat → Int32) → (Nat → Int32) → (Nat → Int32) → (Nat → Int32) → (Nat → Int32) → Prop}
    (k e v : Nat) (b : Option Nat) {z0 : Int32} (ez : z0 = nI v) (hk : k < 4) (he : e < 10) (hf : f < 10) (hb : ∀ l, b = some l → l < 10)
    (h : J35 (nI (k + 1)) ty va ti sT sB sK rp (upd wy k (nI (if (sq_Mf (sq_mt sT sB sK ty va) f) k b e = true then v else 0))) bf) : wY_take_110 post J35 (nI e) (sq_ob b) (nI f) (nI k) z0 (nI n) (nI m) (nI w) ty va ti sT sB sK rp wy bf := by
  subst ez
  unfold wY_take_110
  rw [nI_clamp (n := k) (by omega)]
  refine yw_meets O k e b rfl rfl rfl rfl hk he hf hb (sq_bb (fun d => ⟨vp_in_nI hk (by decide), nm_e (nm_r (nI_1 k) ?_)⟩) (fun d => ⟨vp_in_nI hk (by decide), nm_e (nm_r (nI_1 k) ?_)⟩))
  · rw [if_neg (by rw [d]; decide), nI_0] at h
    exact h
  · rw [if_pos d] at h
    exact h
theorem yw_t65s (O : sq_ok m n w sK ti T) {post : SY → Prop} {J35 : Int32 → (Nat → Int32) → (Nat → Int32) → (Nat → Int32) → (Nat → Int32) → (Nat → Int32) → (Nat → Int32) → (Nat → Int32) → (Nat → Int32) → (Nat → Int32) → Prop}
    (k e v l : Nat) (g : Nat → Nat) {z0 : Int32} (ez : z0 = nI v) (hk : k < m) (he : e < 10) (hf : f < 10) (hl : l < 10) (hg : ∀ k, k < m → bf k = nI (g k))
    (h : J35 (nI (k + 1)) ty va ti sT sB sK rp (upd wy k (nI (if (sq_Mf (sq_mt sT sB sK ty va) f) k (some l) e = true then v + (if 0 < k then g (k - 1) else 0) else 0))) bf) : wY_take_65 post J35 (nI e) (nI l) (nI f) (nI k) z0 (nI n) (nI m) (nI w) ty va ti sT sB sK rp wy bf := by
  have hm : m ≤ 4 := O.1
  subst ez
  have L : ∀ z : Int32, z = nI (v + (if 0 < k then g (k - 1) else 0)) → wY_take_89 post J35 (nI e) (nI l) (nI f) (nI k) z (nI n) (nI m) (nI w) ty va ti sT sB sK rp wy bf := fun z hz => by
    unfold wY_take_89
    exact br_t (nI_pos' (by omega)) (yw_t110 O k e _ (some l) hz (by omega) he hf (fun q hq => by cases hq; exact hl) h)
  unfold wY_take_65
  refine pk_le k 0 (fun c => ?_) (fun c => ?_)
  · refine L _ ?_
    rw [if_neg (by omega), Nat.add_zero]
  · rw [sq_m1 c, nI_clamp (n := k - 1) (by omega), hg (k - 1) (by omega)]
    refine ⟨vp_in_nI (by omega) (by decide), L _ ?_⟩
    rw [if_pos c, nI_add]
theorem yw_t65n (O : sq_ok m n w sK ti T) {post : SY → Prop} {J35 : Int32 → (Nat → Int32) → (Nat → Int32) → (Nat → Int32) → (Nat → Int32) → (Nat → Int32) → (Nat → Int32) → (Nat → Int32) → (Nat → Int32) → (Nat → Int32) → Prop}
    (k e : Nat) {z0 : Int32} (hk : k < m) (he : e < 10) (hf : f < 10)
    (h : J35 (nI (k + 1)) ty va ti sT sB sK rp (upd wy k (nI (if (sq_Mf (sq_mt sT sB sK ty va) f) k none e = true then (if k = 0 then 1 else 0) else 0))) bf) : wY_take_65 post J35 (nI e) (-1) (nI f) (nI k) z0 (nI n) (nI m) (nI w) ty va ti sT sB sK rp wy bf := by
  have hm : m ≤ 4 := O.1
  have L : ∀ z : Int32, wY_take_89 post J35 (nI e) (-1) (nI f) (nI k) z (nI n) (nI m) (nI w) ty va ti sT sB sK rp wy bf := fun z => by
    unfold wY_take_89
    refine br_f (by decide) (pk_eq k 0 (fun c => ?_) (fun c => ?_))
    · rw [if_pos c] at h
      exact yw_t110 O k e 1 none rfl (by omega) he hf (fun q hq => by cases hq) h
    · rw [if_neg c] at h
      exact yw_t110 O k e 0 none rfl (by omega) he hf (fun q hq => by cases hq) h
  unfold wY_take_65
  refine pk_le k 0 (fun c => L _) (fun c => ?_)
  rw [sq_m1 c]
  exact ⟨vp_in_nI (by omega) (by decide), L _⟩
theorem yw_take (O : sq_ok m n w sK ti T) {post : SY → Prop} {p0 p1 p2 : Int32} (e : Nat) (b : Option Nat) (e0 : p0 = nI e) (e1 : p1 = sq_ob b) (e2 : p2 = nI f) (he : e < 10) (hf : f < 10) (hb : ∀ l, b = some l → l < 10) (g : Nat → Nat) (hg : ∀ l, b = some l → ∀ k, k < m → wy k = nI (g k))
    (h : ∀ wy' bf', (∀ k, k < m → wy' k = nI (sq_tk (sq_Mf (sq_mt sT sB sK ty va) f) (sq_rp rp) b g e k)) → post (nI n, nI m, nI w, ty, va, ti, sT, sB, sK, rp, wy', bf')) : wpY_take post (nI n, nI m, nI w, ty, va, ti, sT, sB, sK, rp, wy, bf) p0 p1 p2 := by
  have hm : m ≤ 4 := O.1
  subst e0 e1 e2
  unfold wpY_take
  dsimp only
  refine pk_loop (fun n' i s => wY_take_3 post (nI e) (sq_ob b) (nI f) (nI n) (nI m) (nI w) n' (nI i) ty va ti sT sB sK rp wy s) (fun i s => ∀ k, k < i → s k = wy k) m 0 bf (by omega) (fun k hk => absurd hk (by omega)) ?_ ?_
  · intro n' s hs
    refine br_t (nI_le (Nat.le_refl m) (by omega)) ?_
    refine pk_loop (fun n2 i t => wY_take_35 post (nI e) (sq_ob b) (nI f) (nI n) (nI m) (nI w) n2 (nI i) ty va ti sT sB sK rp t s) (fun i t => ∀ k, k < i → t k = nI (sq_tk (sq_Mf (sq_mt sT sB sK ty va) f) (sq_rp rp) b g e k)) m 0 wy (by omega) (fun k hk => absurd hk (by omega)) ?_ ?_
    · intro n2 t ht
      exact br_t (nI_le (Nat.le_refl m) (by omega)) (h t s ht)
    · intro n2 i t hi ht K
      have ii : vp_in (nI i) 4 := vp_in_nI (by omega) (by decide)
      have up : ∀ v, v = sq_tk (sq_Mf (sq_mt sT sB sK ty va) f) (sq_rp rp) b g e i → wY_take_35 post (nI e) (sq_ob b) (nI f) (nI n) (nI m) (nI w) n2 (nI (i + 1)) ty va ti sT sB sK rp (upd t i (nI v)) s := fun v hv =>
        K _ (fun k hk => by
          by_cases c : k = i
          · rw [c, pk_us, hv]
          · rw [pk_un c]; exact ht k (by omega))
      refine br_f (nI_ge hi (by omega)) ?_
      rw [nI_clamp (n := i) (by omega)]
      refine ⟨ii, ?_⟩
      cases b with
      | none =>
        have E : (if (sq_Mf (sq_mt sT sB sK ty va) f) i none e = true then (if i = 0 then 1 else 0) else 0) = sq_tk (sq_Mf (sq_mt sT sB sK ty va) f) (sq_rp rp) none g e i := by
          show _ = if (decide (i = 0) && (sq_Mf (sq_mt sT sB sK ty va) f) 0 none e) = true then 1 else 0
          by_cases c : i = 0
          · rw [c, sq_dct rfl, if_pos rfl]
          · rw [sq_dcf c, if_neg c, ite_self, if_neg (by decide)]
        exact br_c (fun _ => yw_t65n O i e hi he hf (up _ E)) (fun _ => ⟨ii, yw_t65n O i e hi he hf (up _ E)⟩)
      | some l =>
        have hl := hb l rfl
        have hg' : ∀ k, k < m → s k = nI (g k) := fun k hk => by rw [hs k hk]; exact hg l rfl k hk
        refine br_c (fun hr => yw_t65s O i e 0 l g nI_0.symm hi he hf hl hg' (up _ ?_)) (fun hr => ⟨ii, yw_t65s O i e (g i) l g (hg' i hi) hi he hf hl hg' (up _ ?_)⟩)
        · show _ = sq_st (sq_Mf (sq_mt sT sB sK ty va) f) (sq_rp rp) g l e i
          unfold sq_st
          rw [sq_rpf hr]
          cases (sq_Mf (sq_mt sT sB sK ty va) f) i (some l) e <;> simp
        · show _ = sq_st (sq_Mf (sq_mt sT sB sK ty va) f) (sq_rp rp) g l e i
          unfold sq_st
          rw [sq_rpt hr]
          cases (sq_Mf (sq_mt sT sB sK ty va) f) i (some l) e <;> simp
  · intro n' i s hi hs K
    have ii : vp_in (nI i) 4 := vp_in_nI (by omega) (by decide)
    refine br_f (nI_ge hi (by omega)) ⟨ii, ii, nm_r (e' := upd s i (wy i)) (by rw [nI_clamp (n := i) (by omega)]) (nm_r (nI_1 i) (K _ ?_))⟩
    intro k hk
    by_cases c : k = i
    · rw [c, pk_us]
    · rw [pk_un c]; exact hs k (by omega)
theorem yw_76 (O : sq_ok m n w sK ti T) {post : Int32 → SY → Prop} {z0 : Int32} (c : Bool) (v : Nat) (ez : z0 = sq_bi c) (hv : 0 < m → wy (m - 1) = nI v) (h : post (nI (if (decide (0 < m) && c) = true then v else 0)) (nI n, nI m, nI w, ty, va, ti, sT, sB, sK, rp, wy, bf)) : wY_findsOf_76 post z0 (nI n) (nI m) (nI w) ty va ti sT sB sK rp wy bf := by
  have hm : m ≤ 4 := O.1
  subst ez
  unfold wY_findsOf_76
  refine sq_bb (fun d => ?_) (fun d => ?_)
  · rw [d, Bool.and_false, if_neg (by decide), nI_0] at h
    exact h
  · rw [d, Bool.and_true] at h
    refine pk_le m 0 (fun c0 => ?_) (fun c0 => ?_)
    · rw [decide_eq_false (by omega), if_neg (by decide), nI_0] at h
      exact h
    · rw [decide_eq_true c0, if_pos rfl] at h
      rw [sq_m1 c0, nI_clamp (n := m - 1) (by omega), hv c0]
      exact ⟨vp_in_nI (by omega) (by decide), h⟩
theorem yw_findsOf (O : sq_ok m n w sK ti T) {post : Int32 → SY → Prop} {p0 : Int32} (x : Nat) (e0 : p0 = nI x) (hx0 : 0 < x) (hx : x < 2 ^ n)
    (h : ∀ wy' bf', post (nI (sq_fo (sq_mt sT sB sK ty va) (sq_iw T w) (sq_rp rp) m n x)) (nI n, nI m, nI w, ty, va, ti, sT, sB, sK, rp, wy', bf')) : wpY_findsOf post (nI n, nI m, nI w, ty, va, ti, sT, sB, sK, rp, wy, bf) p0 := by
  have hm : m ≤ 4 := O.1
  have hn : n ≤ 10 := O.2.1
  have hT := O.2.2.2.2.1
  have hMo := O.2.2.2.2.2
  have h1024 := sq_2n hn
  subst e0
  obtain ⟨d, t, hd, ht, rfl⟩ := sq_sd hx0 hx
  have hfd := sq_fvle d t ht
  unfold wpY_findsOf
  dsimp only
  refine yw_firstOf (2 ^ d + t) rfl (by omega) ?_
  rw [sq_fst1 (by omega) ht]
  rw [sq_fo1 hn hd ht] at h
  generalize hff : sq_fv d t = f at h hfd
  refine pk_loop (fun n' i (s : Int32 × (Nat → Int32) × (Nat → Int32)) => wY_findsOf_11 post (nI (2 ^ d + t)) (nI f) n' s.1 (nI i) (nI n) (nI m) (nI w) ty va ti sT sB sK rp s.2.1 s.2.2)
    (fun i s => s.1 = sq_ob (sq_b (2 ^ d + t) i) ∧ ∀ l, sq_b (2 ^ d + t) i = some l → ∀ k, k < m → s.2.1 k = nI (sq_W (sq_Mf (sq_mt sT sB sK ty va) f) (sq_rp rp) (2 ^ d + t) i k)) n 0 (-1, wy, bf) (by omega) ⟨rfl, fun l hl => by cases hl⟩ ?_ ?_
  · intro n' s hs
    obtain ⟨h1, h2⟩ := hs
    rw [sq_bt ht hd] at h1 h2
    have h3 := h2 d rfl
    rw [sq_Wt ht hd] at h3
    refine br_t (nI_le (Nat.le_refl n) (by omega)) ?_
    rw [h1]
    have hTd := hT d hd
    have hTf := hT f (by omega)
    refine br_f (show ¬ sq_ob (some d) < 0 from nI_pos (by omega)) ⟨vp_in_nI (show d < 10 by omega) (by decide), vp_in_nI (show f < 10 by omega) (by decide), ?_⟩
    have cd : (sq_ob (some d)).toNatClampNeg = d := nI_clamp (show d < 2 ^ 31 by omega)
    rw [cd, nI_clamp (n := f) (by omega), hTd.1, hTf.1, pk_sub (hMo f d hfd hd)]
    refine pk_lt w (T d - T f) (fun c => ?_) (fun c => ?_) rfl rfl (by have := O.2.2.1; omega) (by omega)
    · refine yw_76 O false (sq_wv (sq_Mf (sq_mt sT sB sK ty va) f) (sq_rp rp) d t (m - 1)) rfl (fun hm0 => h3 (m - 1) (by omega)) ?_
      have := h s.2.1 s.2.2
      rw [sq_iwf c] at this
      exact this
    · refine yw_76 O true (sq_wv (sq_Mf (sq_mt sT sB sK ty va) f) (sq_rp rp) d t (m - 1)) rfl (fun hm0 => h3 (m - 1) (by omega)) ?_
      have := h s.2.1 s.2.2
      rw [sq_iwt c] at this
      exact this
  · intro n' i s hi hs K
    obtain ⟨h1, h2⟩ := hs
    refine br_f (nI_ge hi (by omega)) ?_
    rw [sq_tb (by omega) (by omega)]
    refine sq_b1 (fun c => ?_) (fun c => nm_r (nI_1 i) (K s ⟨by rw [sq_bS0 c]; exact h1, ?_⟩))
    · refine yw_take O i (sq_b (2 ^ d + t) i) rfl h1 rfl (by omega) (by omega) (fun l hl => by have := sq_blt hl; omega) (sq_W (sq_Mf (sq_mt sT sB sK ty va) f) (sq_rp rp) (2 ^ d + t) i) h2 (fun wy' bf' hw => nm_r (nI_1 i) ?_)
      refine K (nI i, wy', bf') ⟨by rw [sq_bS1 c]; rfl, fun l _ k hk => ?_⟩
      rw [show sq_W (sq_Mf (sq_mt sT sB sK ty va) f) (sq_rp rp) (2 ^ d + t) (i + 1) = sq_tk (sq_Mf (sq_mt sT sB sK ty va) f) (sq_rp rp) (sq_b (2 ^ d + t) i) (sq_W (sq_Mf (sq_mt sT sB sK ty va) f) (sq_rp rp) (2 ^ d + t) i) i from if_pos c]
      exact hw k hk
    · intro l hl k hk
      rw [sq_bS0 c] at hl
      rw [show sq_W (sq_Mf (sq_mt sT sB sK ty va) f) (sq_rp rp) (2 ^ d + t) (i + 1) = sq_W (sq_Mf (sq_mt sT sB sK ty va) f) (sq_rp rp) (2 ^ d + t) i from if_neg (by rw [c]; decide)]
      exact h2 l hl k hk
end
end
section
/-! Y: the questions -/
section
variable {m n w f : Nat} {fi : Int32} {sT sB sK rp ty va ti ru wa mo wy bf : Nat → Int32} {T : Nat → Nat}
theorem yw_isE1 (hn : n ≤ 10) {post : Int32 → Prop} {p0 : Int32} (e : Nat) (e0 : p0 = nI e) (he : e < n) (h : post 1) : wpY_isEvent post (nI n, nI m, nI w, ty, va, ti, sT, sB, sK, rp, wy, bf) p0 := by
  subst e0
  exact br_f (nI_pos (by omega)) (br_f (nI_ge he (by omega)) h)
theorem yw_isE0 {post : Int32 → Prop} {p0 : Int32} (hb : p0 < 0 ∨ nI n ≤ p0) (h : post 0) : wpY_isEvent post (nI n, nI m, nI w, ty, va, ti, sT, sB, sK, rp, wy, bf) p0 := by
  refine br_c (fun _ => h) (fun c => br_c (fun _ => h) (fun d => ?_))
  rcases hb with hb | hb
  · exact absurd hb c
  · exact absurd hb d
theorem yw_finds (O : sq_ok m n w sK ti T) {post : Int32 → SY → Prop} (h : ∀ wy' bf', post (nI (sq_sm (fun s => sq_fo (sq_mt sT sB sK ty va) (sq_iw T w) (sq_rp rp) m n s) (2 ^ n))) (nI n, nI m, nI w, ty, va, ti, sT, sB, sK, rp, wy', bf')) : wpY_finds post (nI n, nI m, nI w, ty, va, ti, sT, sB, sK, rp, wy, bf) := by
  have hn : n ≤ 10 := O.2.1
  have h1024 := sq_2n hn
  unfold wpY_finds
  dsimp only
  refine pk_loop (fun n' i (s : Int32 × (Nat → Int32) × (Nat → Int32)) => wY_finds_4 post n' s.1 (nI i) (nI n) (nI m) (nI w) ty va ti sT sB sK rp s.2.1 s.2.2)
    (fun i s => 0 < i ∧ s.1 = nI (sq_sm (fun s => sq_fo (sq_mt sT sB sK ty va) (sq_iw T w) (sq_rp rp) m n s) i)) (2 ^ n) 1 (0, wy, bf) (Nat.two_pow_pos n) ⟨by omega, ?_⟩ ?_ ?_
  · show (0 : Int32) = nI (0 + sq_fo (sq_mt sT sB sK ty va) (sq_iw T w) (sq_rp rp) m n 0)
    rw [sq_fo0, nI_0]
  · intro n' s hs
    refine br_t (sq_she hn) ?_
    rw [hs.2]
    exact h s.2.1 s.2.2
  · intro n' i s hi hs K
    refine br_f (sq_shl hn hi) (yw_findsOf O i rfl hs.1 hi (fun wy' bf' => ?_))
    rw [hs.2]
    refine nm_r (nI_add _ _) (nm_r (nI_1 i) ?_)
    exact K (_, wy', bf') ⟨by omega, rfl⟩
theorem yw_ending (O : sq_ok m n w sK ti T) {post : Int32 → SY → Prop} {p0 : Int32} (e : Nat) (e0 : p0 = nI e) (he : e < n) (h : ∀ wy' bf', post (nI (sq_sm (fun s => if sq_lst s = e then sq_fo (sq_mt sT sB sK ty va) (sq_iw T w) (sq_rp rp) m n s else 0) (2 ^ n))) (nI n, nI m, nI w, ty, va, ti, sT, sB, sK, rp, wy', bf')) : wpY_endingAt post (nI n, nI m, nI w, ty, va, ti, sT, sB, sK, rp, wy, bf) p0 := by
  have hn : n ≤ 10 := O.2.1
  have h1024 := sq_2n hn
  subst e0
  unfold wpY_endingAt
  dsimp only
  refine yw_isE1 hn e rfl he (br_f (by decide) ?_)
  refine pk_loop (fun n' i (s : Int32 × (Nat → Int32) × (Nat → Int32)) => wY_endingAt_15 post (nI e) n' s.1 (nI i) (nI n) (nI m) (nI w) ty va ti sT sB sK rp s.2.1 s.2.2)
    (fun i s => 0 < i ∧ s.1 = nI (sq_sm (fun s => if sq_lst s = e then sq_fo (sq_mt sT sB sK ty va) (sq_iw T w) (sq_rp rp) m n s else 0) i)) (2 ^ n) 1 (0, wy, bf) (Nat.two_pow_pos n) ⟨by omega, ?_⟩ ?_ ?_
  · show (0 : Int32) = nI (0 + if sq_lst 0 = e then sq_fo (sq_mt sT sB sK ty va) (sq_iw T w) (sq_rp rp) m n 0 else 0)
    rw [sq_fo0, ite_self, nI_0]
  · intro n' s hs
    refine br_t (sq_she hn) ?_
    rw [hs.2]
    exact h s.2.1 s.2.2
  · intro n' i s hi hs K
    refine br_f (sq_shl hn hi) (yw_lastOf i rfl (by omega) ?_)
    obtain ⟨d, t, hd, ht, hdt⟩ := sq_sd hs.1 hi
    have hl : sq_lst i = d := by rw [hdt]; exact sq_lst1 (by omega) ht
    refine pk_eq (sq_lst i) e (fun c => yw_findsOf O i rfl hs.1 hi (fun wy' bf' => ?_)) (fun c => nm_r (nI_1 i) ?_)
    · rw [hs.2]
      refine nm_r (nI_add _ _) (nm_r (nI_1 i) ?_)
      refine K (_, wy', bf') ⟨by omega, congrArg nI ?_⟩
      show _ = sq_sm (fun s => if sq_lst s = e then sq_fo (sq_mt sT sB sK ty va) (sq_iw T w) (sq_rp rp) m n s else 0) i + (if sq_lst i = e then sq_fo (sq_mt sT sB sK ty va) (sq_iw T w) (sq_rp rp) m n i else 0)
      rw [if_pos c]
    · refine K s ⟨by omega, hs.2.trans (congrArg nI ?_)⟩
      show _ = sq_sm (fun s => if sq_lst s = e then sq_fo (sq_mt sT sB sK ty va) (sq_iw T w) (sq_rp rp) m n s else 0) i + (if sq_lst i = e then sq_fo (sq_mt sT sB sK ty va) (sq_iw T w) (sq_rp rp) m n i else 0)
      rw [if_neg c, Nat.add_zero]
theorem sq_fstle (hn : n ≤ 10) {i : Nat} (h0 : 0 < i) (hi : i < 2 ^ n) : sq_fst i < n ∧ sq_fst i ≤ sq_lst i ∧ sq_lst i < n := by
  obtain ⟨d, t, hd, ht, hdt⟩ := sq_sd h0 hi
  rw [hdt, sq_fst1 (by omega) ht, sq_lst1 (by omega) ht]
  have := sq_fvle d t ht
  omega
theorem yw_begin (O : sq_ok m n w sK ti T) {post : Int32 → SY → Prop} {p0 : Int32} (e : Nat) (e0 : p0 = nI e) (he : e < n) (h : ∀ wy' bf', post (nI (sq_sm (fun s => if sq_fst s = e then sq_fo (sq_mt sT sB sK ty va) (sq_iw T w) (sq_rp rp) m n s else 0) (2 ^ n))) (nI n, nI m, nI w, ty, va, ti, sT, sB, sK, rp, wy', bf')) : wpY_beginningAt post (nI n, nI m, nI w, ty, va, ti, sT, sB, sK, rp, wy, bf) p0 := by
  have hn : n ≤ 10 := O.2.1
  have h1024 := sq_2n hn
  subst e0
  unfold wpY_beginningAt
  dsimp only
  refine yw_isE1 hn e rfl he (br_f (by decide) ?_)
  refine pk_loop (fun n' i (s : Int32 × (Nat → Int32) × (Nat → Int32)) => wY_beginningAt_15 post (nI e) n' s.1 (nI i) (nI n) (nI m) (nI w) ty va ti sT sB sK rp s.2.1 s.2.2)
    (fun i s => 0 < i ∧ s.1 = nI (sq_sm (fun s => if sq_fst s = e then sq_fo (sq_mt sT sB sK ty va) (sq_iw T w) (sq_rp rp) m n s else 0) i)) (2 ^ n) 1 (0, wy, bf) (Nat.two_pow_pos n) ⟨by omega, ?_⟩ ?_ ?_
  · show (0 : Int32) = nI (0 + if sq_fst 0 = e then sq_fo (sq_mt sT sB sK ty va) (sq_iw T w) (sq_rp rp) m n 0 else 0)
    rw [sq_fo0, ite_self, nI_0]
  · intro n' s hs
    refine br_t (sq_she hn) ?_
    rw [hs.2]
    exact h s.2.1 s.2.2
  · intro n' i s hi hs K
    refine br_f (sq_shl hn hi) (yw_firstOf i rfl (by omega) ?_)
    have hl := sq_fstle hn hs.1 hi
    refine pk_eq (sq_fst i) e (fun c => yw_findsOf O i rfl hs.1 hi (fun wy' bf' => ?_)) (fun c => nm_r (nI_1 i) ?_)
    · rw [hs.2]
      refine nm_r (nI_add _ _) (nm_r (nI_1 i) ?_)
      refine K (_, wy', bf') ⟨by omega, congrArg nI ?_⟩
      show _ = sq_sm (fun s => if sq_fst s = e then sq_fo (sq_mt sT sB sK ty va) (sq_iw T w) (sq_rp rp) m n s else 0) i + (if sq_fst i = e then sq_fo (sq_mt sT sB sK ty va) (sq_iw T w) (sq_rp rp) m n i else 0)
      rw [if_pos c]
    · refine K s ⟨by omega, hs.2.trans (congrArg nI ?_)⟩
      show _ = sq_sm (fun s => if sq_fst s = e then sq_fo (sq_mt sT sB sK ty va) (sq_iw T w) (sq_rp rp) m n s else 0) i + (if sq_fst i = e then sq_fo (sq_mt sT sB sK ty va) (sq_iw T w) (sq_rp rp) m n i else 0)
      rw [if_neg c, Nat.add_zero]
theorem yw_using (O : sq_ok m n w sK ti T) {post : Int32 → SY → Prop} {p0 : Int32} (e : Nat) (e0 : p0 = nI e) (he : e < n) (h : ∀ wy' bf', post (nI (sq_sm (fun s => if s.testBit e = true then sq_fo (sq_mt sT sB sK ty va) (sq_iw T w) (sq_rp rp) m n s else 0) (2 ^ n))) (nI n, nI m, nI w, ty, va, ti, sT, sB, sK, rp, wy', bf')) : wpY_using post (nI n, nI m, nI w, ty, va, ti, sT, sB, sK, rp, wy, bf) p0 := by
  have hn : n ≤ 10 := O.2.1
  have h1024 := sq_2n hn
  subst e0
  unfold wpY_using
  dsimp only
  refine yw_isE1 hn e rfl he (br_f (by decide) ?_)
  refine pk_loop (fun n' i (s : Int32 × (Nat → Int32) × (Nat → Int32)) => wY_using_15 post (nI e) n' s.1 (nI i) (nI n) (nI m) (nI w) ty va ti sT sB sK rp s.2.1 s.2.2)
    (fun i s => 0 < i ∧ s.1 = nI (sq_sm (fun s => if s.testBit e = true then sq_fo (sq_mt sT sB sK ty va) (sq_iw T w) (sq_rp rp) m n s else 0) i)) (2 ^ n) 1 (0, wy, bf) (Nat.two_pow_pos n) ⟨by omega, ?_⟩ ?_ ?_
  · show (0 : Int32) = nI (0 + if (0 : Nat).testBit e = true then sq_fo (sq_mt sT sB sK ty va) (sq_iw T w) (sq_rp rp) m n 0 else 0)
    rw [sq_fo0, ite_self, nI_0]
  · intro n' s hs
    refine br_t (sq_she hn) ?_
    rw [hs.2]
    exact h s.2.1 s.2.2
  · intro n' i s hi hs K
    refine br_f (sq_shl hn hi) ?_
    rw [sq_tb (s := i) (i := e) (by omega) (by omega)]
    refine sq_b1 (fun c => yw_findsOf O i rfl hs.1 hi (fun wy' bf' => ?_)) (fun c => nm_r (nI_1 i) ?_)
    · rw [hs.2]
      refine nm_r (nI_add _ _) (nm_r (nI_1 i) ?_)
      refine K (_, wy', bf') ⟨by omega, congrArg nI ?_⟩
      show _ = sq_sm (fun s => if s.testBit e = true then sq_fo (sq_mt sT sB sK ty va) (sq_iw T w) (sq_rp rp) m n s else 0) i + (if i.testBit e = true then sq_fo (sq_mt sT sB sK ty va) (sq_iw T w) (sq_rp rp) m n i else 0)
      rw [if_pos c]
    · refine K s ⟨by omega, hs.2.trans (congrArg nI ?_)⟩
      show _ = sq_sm (fun s => if s.testBit e = true then sq_fo (sq_mt sT sB sK ty va) (sq_iw T w) (sq_rp rp) m n s else 0) i + (if i.testBit e = true then sq_fo (sq_mt sT sB sK ty va) (sq_iw T w) (sq_rp rp) m n i else 0)
      rw [c, if_neg Bool.false_ne_true, Nat.add_zero]
theorem yw_without (O : sq_ok m n w sK ti T) {post : Int32 → SY → Prop} {p0 : Int32} (e : Nat) (e0 : p0 = nI e) (he : e < n) (h : ∀ wy' bf', post (nI (sq_sm (fun s => if s.testBit e = true then 0 else sq_fo (sq_mt sT sB sK ty va) (sq_iw T w) (sq_rp rp) m n s) (2 ^ n))) (nI n, nI m, nI w, ty, va, ti, sT, sB, sK, rp, wy', bf')) : wpY_without post (nI n, nI m, nI w, ty, va, ti, sT, sB, sK, rp, wy, bf) p0 := by
  have hn : n ≤ 10 := O.2.1
  have h1024 := sq_2n hn
  subst e0
  unfold wpY_without
  dsimp only
  refine yw_isE1 hn e rfl he (br_f (by decide) ?_)
  refine pk_loop (fun n' i (s : Int32 × (Nat → Int32) × (Nat → Int32)) => wY_without_15 post (nI e) n' s.1 (nI i) (nI n) (nI m) (nI w) ty va ti sT sB sK rp s.2.1 s.2.2)
    (fun i s => 0 < i ∧ s.1 = nI (sq_sm (fun s => if s.testBit e = true then 0 else sq_fo (sq_mt sT sB sK ty va) (sq_iw T w) (sq_rp rp) m n s) i)) (2 ^ n) 1 (0, wy, bf) (Nat.two_pow_pos n) ⟨by omega, ?_⟩ ?_ ?_
  · show (0 : Int32) = nI (0 + if (0 : Nat).testBit e = true then 0 else sq_fo (sq_mt sT sB sK ty va) (sq_iw T w) (sq_rp rp) m n 0)
    rw [sq_fo0, ite_self, nI_0]
  · intro n' s hs
    refine br_t (sq_she hn) ?_
    rw [hs.2]
    exact h s.2.1 s.2.2
  · intro n' i s hi hs K
    refine br_f (sq_shl hn hi) ?_
    rw [sq_tb (s := i) (i := e) (by omega) (by omega)]
    refine sq_bb (fun c => yw_findsOf O i rfl hs.1 hi (fun wy' bf' => ?_)) (fun c => nm_r (nI_1 i) ?_)
    · rw [hs.2]
      refine nm_r (nI_add _ _) (nm_r (nI_1 i) ?_)
      refine K (_, wy', bf') ⟨by omega, congrArg nI ?_⟩
      show _ = sq_sm (fun s => if s.testBit e = true then 0 else sq_fo (sq_mt sT sB sK ty va) (sq_iw T w) (sq_rp rp) m n s) i + (if i.testBit e = true then 0 else sq_fo (sq_mt sT sB sK ty va) (sq_iw T w) (sq_rp rp) m n i)
      rw [c, if_neg Bool.false_ne_true]
    · refine K s ⟨by omega, hs.2.trans (congrArg nI ?_)⟩
      show _ = sq_sm (fun s => if s.testBit e = true then 0 else sq_fo (sq_mt sT sB sK ty va) (sq_iw T w) (sq_rp rp) m n s) i + (if i.testBit e = true then 0 else sq_fo (sq_mt sT sB sK ty va) (sq_iw T w) (sq_rp rp) m n i)
      rw [if_pos c, Nat.add_zero]
theorem yw_lastv (O : sq_ok m n w sK ti T) {post : Int32 → SY → Prop} (vn : Nat → Nat) (hv : ∀ i, va i = nI (vn i)) (h : ∀ wy' bf', post (nI (sq_sm (fun s => vn (sq_lst s) * sq_fo (sq_mt sT sB sK ty va) (sq_iw T w) (sq_rp rp) m n s) (2 ^ n))) (nI n, nI m, nI w, ty, va, ti, sT, sB, sK, rp, wy', bf')) : wpY_lastValues post (nI n, nI m, nI w, ty, va, ti, sT, sB, sK, rp, wy, bf) := by
  have hn : n ≤ 10 := O.2.1
  have h1024 := sq_2n hn
  unfold wpY_lastValues
  dsimp only
  refine pk_loop (fun n' i (s : Int32 × (Nat → Int32) × (Nat → Int32)) => wY_lastValues_4 post n' s.1 (nI i) (nI n) (nI m) (nI w) ty va ti sT sB sK rp s.2.1 s.2.2)
    (fun i s => 0 < i ∧ s.1 = nI (sq_sm (fun s => vn (sq_lst s) * sq_fo (sq_mt sT sB sK ty va) (sq_iw T w) (sq_rp rp) m n s) i)) (2 ^ n) 1 (0, wy, bf) (Nat.two_pow_pos n) ⟨by omega, ?_⟩ ?_ ?_
  · show (0 : Int32) = nI (0 + vn (sq_lst 0) * sq_fo (sq_mt sT sB sK ty va) (sq_iw T w) (sq_rp rp) m n 0)
    rw [sq_fo0, Nat.mul_zero, nI_0]
  · intro n' s hs
    refine br_t (sq_she hn) ?_
    rw [hs.2]
    exact h s.2.1 s.2.2
  · intro n' i s hi hs K
    have hl := sq_fstle hn hs.1 hi
    refine br_f (sq_shl hn hi) (yw_lastOf i rfl (by omega) ⟨vp_in_nI (by omega) (by decide), yw_findsOf O i rfl hs.1 hi (fun wy' bf' => ?_)⟩)
    refine nm_r (e' := nI (sq_sm (fun s => vn (sq_lst s) * sq_fo (sq_mt sT sB sK ty va) (sq_iw T w) (sq_rp rp) m n s) (i + 1))) ?_ (nm_r (nI_1 i) ?_)
    · rw [hs.2, nI_clamp (n := sq_lst i) (by omega), hv, pk_mul, nI_add]
      rfl
    · exact K (_, wy', bf') ⟨by omega, rfl⟩
/-- the bound of a set's ways -/
theorem sq_wvb (N : Nat → Option Nat → Nat → Bool) (rp : Nat → Bool) : ∀ e t k, t < 2 ^ e → sq_wv N rp e t k ≤ 2 ^ e := by
  intro e
  induction e using Nat.strongRecOn with
  | ind e ih =>
    intro t k ht
    have hp := Nat.two_pow_pos e
    by_cases h0 : t = 0
    · rw [h0, sq_wv0]; split <;> omega
    · obtain ⟨l, t', hl, ht', rfl⟩ := sq_sd (by omega) ht
      rw [sq_wv1 N rp hl ht']
      have a := sq_stb (N := N) (rp := rp) (sq_wv N rp l t') l e k
      have b := ih l hl t' k ht'
      have c := ih l hl t' (k - 1) ht'
      have d := sq_pm (show l + 1 ≤ e from hl)
      have f := sq_p1 l
      omega
theorem sq_fob {M : Nat → Option Nat → Nat → Nat → Bool} {I : Nat → Nat → Bool} {rp : Nat → Bool} {m n i : Nat} (hn : n ≤ 10) (h0 : 0 < i) (hi : i < 2 ^ n) : sq_fo M I rp m n i < 2 ^ 31 := by
  obtain ⟨d, t, hd, ht, rfl⟩ := sq_sd h0 hi
  rw [sq_fo1 hn hd ht]
  have a := sq_wvb (sq_Mf M (sq_fv d t)) rp d t (m - 1) ht
  have b := sq_2n (show d ≤ 10 by omega)
  split <;> omega
theorem sq_szb (x d : Nat) : sq_sz x d ≤ d := by
  induction d with
  | zero => exact Nat.le_refl 0
  | succ d ih =>
    show sq_sz x d + (if x.testBit d = true then 1 else 0) ≤ d + 1
    split <;> omega
def sq_Ps (F V : Nat → Nat) (i z : Nat) : Prop := ∃ s, s < i ∧ 0 < F s ∧ z = V s
theorem sq_PsS {F V : Nat → Nat} {i z : Nat} (h : 0 < F i) : (sq_Ps F V i z ∨ z = V i) ↔ sq_Ps F V (i + 1) z := by
  constructor
  · rintro (⟨s, a, b, c⟩ | c)
    · exact ⟨s, by omega, b, c⟩
    · exact ⟨i, by omega, h, c⟩
  · rintro ⟨s, a, b, c⟩
    by_cases d : s = i
    · rw [d] at c; exact Or.inr c
    · exact Or.inl ⟨s, by omega, b, c⟩
theorem sq_PsN {F V : Nat → Nat} {i z : Nat} (h : ¬ 0 < F i) : sq_Ps F V i z ↔ sq_Ps F V (i + 1) z := by
  constructor
  · rintro ⟨s, a, b, c⟩
    exact ⟨s, by omega, b, c⟩
  · rintro ⟨s, a, b, c⟩
    by_cases d : s = i
    · rw [d] at b; exact absurd b h
    · exact ⟨s, by omega, b, c⟩
theorem sq_isM_le {F V : Nat → Nat} {i b : Nat} (h : sq_isM (some b) (sq_Ps F V i)) (hx : V i ≤ b) : sq_isM (some b) (sq_Ps F V (i + 1)) := by
  by_cases c : 0 < F i
  · exact sq_isM_cg (sq_isM_no h hx) (fun z => sq_PsS c)
  · exact sq_isM_cg h (fun z => sq_PsN c)
theorem sq_isL_le {F V : Nat → Nat} {i b : Nat} (h : sq_isL (some b) (sq_Ps F V i)) (hx : b ≤ V i) : sq_isL (some b) (sq_Ps F V (i + 1)) := by
  by_cases c : 0 < F i
  · exact sq_isL_cg (sq_isL_no h hx) (fun z => sq_PsS c)
  · exact sq_isL_cg h (fun z => sq_PsN c)
theorem yw_longest (O : sq_ok m n w sK ti T) {post : Int32 → SY → Prop} (h : ∀ o wy' bf', sq_isM o (sq_Ps (sq_fo (sq_mt sT sB sK ty va) (sq_iw T w) (sq_rp rp) m n) (fun s => sq_sz s 10) (2 ^ n)) → post (sq_on o) (nI n, nI m, nI w, ty, va, ti, sT, sB, sK, rp, wy', bf')) : wpY_longest post (nI n, nI m, nI w, ty, va, ti, sT, sB, sK, rp, wy, bf) := by
  have hn : n ≤ 10 := O.2.1
  have h1024 := sq_2n hn
  unfold wpY_longest
  dsimp only
  refine pk_loop (fun n' i (s : Int32 × (Nat → Int32) × (Nat → Int32)) => wY_longest_5 post n' s.1 (nI i) (nI n) (nI m) (nI w) ty va ti sT sB sK rp s.2.1 s.2.2)
    (fun i s => 0 < i ∧ ∃ o, s.1 = sq_on o ∧ sq_isM o (sq_Ps (sq_fo (sq_mt sT sB sK ty va) (sq_iw T w) (sq_rp rp) m n) (fun s => sq_sz s 10) i) ∧ ∀ b, o = some b → b < 100) (2 ^ n) 1 (-4, wy, bf) (Nat.two_pow_pos n)
    ⟨by omega, none, rfl, Or.inl ⟨rfl, ?_⟩, fun b hb => by cases hb⟩ ?_ ?_
  · rintro z ⟨s, hs, hp, _⟩
    rw [show s = 0 by omega, sq_fo0] at hp
    exact absurd hp (Nat.lt_irrefl 0)
  · intro n' s hs
    obtain ⟨_, o, ho, hM, _⟩ := hs
    refine br_t (sq_she hn) ?_
    rw [ho]
    exact h o s.2.1 s.2.2 hM
  · intro n' i s hi hs K
    obtain ⟨h0, o, ho, hM, hb⟩ := hs
    have hz := sq_szb i 10
    refine br_f (sq_shl hn hi) (yw_sizeOf i rfl (by omega) ?_)
    rw [ho]
    refine sq_onle o (by omega) (fun b hb' => by have := hb b hb'; omega) (fun b hb' hle => nm_r (nI_1 i) ?_) (fun hlt => ?_)
    · subst hb'
      exact K (_, s.2.1, s.2.2) ⟨by omega, some b, rfl, sq_isM_le hM hle, hb⟩
    · refine yw_findsOf O i rfl h0 hi (fun wy' bf' => ?_)
      refine pk_le (sq_fo (sq_mt sT sB sK ty va) (sq_iw T w) (sq_rp rp) m n i) 0 (fun c => nm_r (nI_1 i) ?_) (fun c => nm_r (nI_1 i) ?_) rfl rfl (sq_fob hn h0 hi) (by decide)
      · exact K (_, wy', bf') ⟨by omega, o, rfl, sq_isM_cg hM (fun z => sq_PsN (by omega)), hb⟩
      · exact K (_, wy', bf') ⟨by omega, some (sq_sz i 10), rfl, sq_isM_cg (sq_isM_up hM hlt) (fun z => sq_PsS c), fun b hb' => by cases hb'; omega⟩
theorem yw_tightest (O : sq_ok m n w sK ti T) {post : Int32 → SY → Prop} (h : ∀ o wy' bf', sq_isL o (sq_Ps (sq_fo (sq_mt sT sB sK ty va) (sq_iw T w) (sq_rp rp) m n) (fun s => T (sq_lst s) - T (sq_fst s)) (2 ^ n)) → post (sq_on o) (nI n, nI m, nI w, ty, va, ti, sT, sB, sK, rp, wy', bf')) : wpY_tightest post (nI n, nI m, nI w, ty, va, ti, sT, sB, sK, rp, wy, bf) := by
  have hn : n ≤ 10 := O.2.1
  have hT := O.2.2.2.2.1
  have hMo := O.2.2.2.2.2
  have h1024 := sq_2n hn
  unfold wpY_tightest
  dsimp only
  refine pk_loop (fun n' i (s : Int32 × (Nat → Int32) × (Nat → Int32)) => wY_tightest_5 post n' s.1 (nI i) (nI n) (nI m) (nI w) ty va ti sT sB sK rp s.2.1 s.2.2)
    (fun i s => 0 < i ∧ ∃ o, s.1 = sq_on o ∧ sq_isL o (sq_Ps (sq_fo (sq_mt sT sB sK ty va) (sq_iw T w) (sq_rp rp) m n) (fun s => T (sq_lst s) - T (sq_fst s)) i) ∧ ∀ b, o = some b → b < 100) (2 ^ n) 1 (-4, wy, bf) (Nat.two_pow_pos n)
    ⟨by omega, none, rfl, Or.inl ⟨rfl, ?_⟩, fun b hb => by cases hb⟩ ?_ ?_
  · rintro z ⟨s, hs, hp, _⟩
    rw [show s = 0 by omega, sq_fo0] at hp
    exact absurd hp (Nat.lt_irrefl 0)
  · intro n' s hs
    obtain ⟨_, o, ho, hM, _⟩ := hs
    refine br_t (sq_she hn) ?_
    rw [ho]
    exact h o s.2.1 s.2.2 hM
  · intro n' i s hi hs K
    obtain ⟨h0, o, ho, hM, hb⟩ := hs
    have hl := sq_fstle hn h0 hi
    have t1 := hT (sq_lst i) hl.2.2
    have t2 := hT (sq_fst i) hl.1
    have t3 := hMo (sq_fst i) (sq_lst i) hl.2.1 hl.2.2
    refine br_f (sq_shl hn hi) (yw_firstOf i rfl (by omega) (yw_lastOf i rfl (by omega) ⟨vp_in_nI (by omega) (by decide), vp_in_nI (by omega) (by decide), nm_r (e' := nI (T (sq_lst i) - T (sq_fst i))) ?_ ?_⟩))
    · rw [nI_clamp (n := sq_lst i) (by omega), nI_clamp (n := sq_fst i) (by omega), t1.1, t2.1, pk_sub t3]
    · rw [ho]
      have L : (∀ b, o = some b → T (sq_lst i) - T (sq_fst i) < b) → wY_tightest_56 post (wY_tightest_5 post n') (sq_on o) (nI i) (nI (T (sq_lst i) - T (sq_fst i))) (nI n) (nI m) (nI w) ty va ti sT sB sK rp s.2.1 s.2.2 := by
        intro hlt
        unfold wY_tightest_56
        refine yw_findsOf O i rfl h0 hi (fun wy' bf' => ?_)
        refine pk_le (sq_fo (sq_mt sT sB sK ty va) (sq_iw T w) (sq_rp rp) m n i) 0 (fun c => nm_r (nI_1 i) ?_) (fun c => nm_r (nI_1 i) ?_) rfl rfl (sq_fob hn h0 hi) (by decide)
        · exact K (_, wy', bf') ⟨by omega, o, rfl, sq_isL_cg hM (fun z => sq_PsN (by omega)), hb⟩
        · exact K (_, wy', bf') ⟨by omega, some (T (sq_lst i) - T (sq_fst i)), rfl, sq_isL_cg (sq_isL_up hM hlt) (fun z => sq_PsS c), fun b hb' => by cases hb'; omega⟩
      cases o with
      | none => exact br_t rfl (L (fun b hb' => by cases hb'))
      | some b =>
        have hb1 := hb b rfl
        refine br_f ?_ (pk_le b (T (sq_lst i) - T (sq_fst i)) (fun d => nm_r (nI_1 i) ?_) (fun d => L (fun b' hb' => by cases hb'; exact d)))
        · intro z
          have z1 : (nI b).toInt = (-4 : Int32).toInt := congrArg Int32.toInt z
          rw [nI_toInt (by omega), show (-4 : Int32).toInt = -4 by decide] at z1
          omega
        · exact K (_, s.2.1, s.2.2) ⟨by omega, some b, rfl, sq_isL_le hM d, hb⟩
end
end
section
/-! where X's numbers and Y's meet: longest, tightest -/
section
variable {M : Nat → Option Nat → Nat → Nat → Bool} {I : Nat → Nat → Bool} {rp : Nat → Bool} {m n : Nat} {T : Nat → Nat}
theorem sq_PQ1 (hn : n ≤ 10) {z : Nat} (h : sq_Pp (sq_Qs M I rp m) n n 0 z) : sq_Ps (sq_fo M I rp m n) (fun s => sq_sz s 10) (2 ^ n) z := by
  obtain ⟨f, e, hfe, hm, t, ht, hf, hp, hz⟩ := h
  have he : e < n := by omega
  refine ⟨2 ^ e + t, sq_tl he ht, (sq_foY hn he ht hm hf hp).1, ?_⟩
  show z = sq_sz (2 ^ e + t) 10
  rw [sq_zt ht (by omega), hz]
  rfl
theorem sq_PQ2 (hn : n ≤ 10) {z : Nat} (h : sq_Ps (sq_fo M I rp m n) (fun s => sq_sz s 10) (2 ^ n) z) : sq_Pp (sq_Qs M I rp m) n n 0 z := by
  obtain ⟨s, hs, hp, hz⟩ := h
  have h0 : 0 < s := by
    by_cases c : s = 0
    · rw [c, sq_fo0] at hp; exact absurd hp (Nat.lt_irrefl 0)
    · omega
  obtain ⟨e, t, he, ht, rfl⟩ := sq_sd h0 hs
  obtain ⟨hm, hf, hw⟩ := sq_foX hn he ht hp
  have := sq_fvle e t ht
  refine ⟨sq_fv e t, e, by omega, hm, t, ht, hf, hw, ?_⟩
  rw [hz]
  show sq_sz (2 ^ e + t) 10 = _
  rw [sq_zt ht (by omega)]
  rfl
theorem sq_PT1 (hn : n ≤ 10) {z : Nat} (h : sq_Pp (sq_Qt M I rp m n T) n n 0 z) : sq_Ps (sq_fo M I rp m n) (fun s => T (sq_lst s) - T (sq_fst s)) (2 ^ n) z := by
  obtain ⟨f, e, _, he, hfe, hw, hz⟩ := h
  unfold sq_wh at hw
  by_cases hm : 0 < m
  · rw [if_pos hm] at hw
    obtain ⟨t, ht, hf, hp⟩ := sq_RR2 hw
    obtain ⟨a, b⟩ := sq_foY hn he ht hm hf hp
    refine ⟨2 ^ e + t, sq_tl he ht, a, ?_⟩
    show z = T (sq_lst (2 ^ e + t)) - T (sq_fst (2 ^ e + t))
    rw [sq_lst1 (by omega) ht, sq_fst1 (by omega) ht, b]
    exact hz
  · rw [if_neg hm] at hw
    exact absurd hw (Nat.lt_irrefl 0)
theorem sq_PT2 (hn : n ≤ 10) {z : Nat} (h : sq_Ps (sq_fo M I rp m n) (fun s => T (sq_lst s) - T (sq_fst s)) (2 ^ n) z) : sq_Pp (sq_Qt M I rp m n T) n n 0 z := by
  obtain ⟨s, hs, hp, hz⟩ := h
  have h0 : 0 < s := by
    by_cases c : s = 0
    · rw [c, sq_fo0] at hp; exact absurd hp (Nat.lt_irrefl 0)
    · omega
  obtain ⟨e, t, he, ht, rfl⟩ := sq_sd h0 hs
  obtain ⟨hm, hf, hw⟩ := sq_foX hn he ht hp
  have := sq_fvle e t ht
  refine ⟨sq_fv e t, e, by omega, he, this, ?_, ?_⟩
  · unfold sq_wh
    rw [if_pos hm]
    exact sq_RR1 ht hf hw
  · rw [hz]
    show T (sq_lst (2 ^ e + t)) - T (sq_fst (2 ^ e + t)) = _
    rw [sq_lst1 (by omega) ht, sq_fst1 (by omega) ht]
end
/-! step and event, either side -/
section
variable {m n w f : Nat} {fi : Int32} {sT sB sK rp ty va ti ru wa mo wy bf : Nat → Int32} {T : Nat → Nat}
theorem yw_s26b {post : Int32 → SY → Prop} {x1 x2 x3 z0 : Int32} (hb : x1 < 0 ∨ 4 < x1 ∨ x2 < 0 ∨ 9 < x2 ∨ z0 = 0) (h : post (-1) (nI n, nI m, nI w, ty, va, ti, sT, sB, sK, rp, wy, bf)) : wY_step_26 post x1 x2 x3 z0 (nI n) (nI m) (nI w) ty va ti sT sB sK rp wy bf := by
  unfold wY_step_26
  refine br_c (fun _ => h) (fun c1 => br_c (fun _ => h) (fun c2 => br_c (fun _ => h) (fun c3 => br_c (fun _ => h) (fun c4 => br_c (fun _ => h) (fun c5 => ?_)))))
  rcases hb with z | z | z | z | z
  · exact absurd z c1
  · exact absurd z c2
  · exact absurd z c3
  · exact absurd z c4
  · exact absurd z c5
theorem yw_stepA {post : Int32 → SY → Prop} {x1 x2 x3 : Int32} (h : ∀ z0, wY_step_26 post x1 x2 x3 z0 (nI n) (nI m) (nI w) ty va ti sT sB sK rp wy bf) : wpY_step post (nI n, nI m, nI w, ty, va, ti, sT, sB, sK, rp, wy, bf) x1 x2 x3 := by
  have h9 : wY_step_9 post x1 x2 x3 (nI n) (nI m) (nI w) ty va ti sT sB sK rp wy bf := br_c (fun _ => h 0) (fun _ => br_c (fun _ => h 0) (fun _ => h 1))
  exact br_c (fun _ => h9) (fun _ => br_c (fun _ => h 1) (fun _ => h9))
theorem yw_stepN {post : Int32 → SY → Prop} {x1 x2 x3 : Int32} (hx : x3 < 0) (h : wY_step_26 post x1 x2 x3 0 (nI n) (nI m) (nI w) ty va ti sT sB sK rp wy bf) : wpY_step post (nI n, nI m, nI w, ty, va, ti, sT, sB, sK, rp, wy, bf) x1 x2 x3 := by
  refine br_t hx (br_t ?_ h)
  rw [Int32.lt_iff_toInt_lt] at hx ⊢
  rw [show (0 : Int32).toInt = 0 by decide] at hx
  rw [show (8 : Int32).toInt = 8 by decide]
  omega
theorem yw_stepJ {post : Int32 → SY → Prop} {x1 x2 : Int32} (j : Nat) (hj : j < 2 ^ 31) (h0 : ¬ (j ≤ 4 ∨ 8 ≤ j ∧ j ≤ 12) → wY_step_26 post x1 x2 (nI j) 0 (nI n) (nI m) (nI w) ty va ti sT sB sK rp wy bf) (h1 : (j ≤ 4 ∨ 8 ≤ j ∧ j ≤ 12) → wY_step_26 post x1 x2 (nI j) 1 (nI n) (nI m) (nI w) ty va ti sT sB sK rp wy bf) : wpY_step post (nI n, nI m, nI w, ty, va, ti, sT, sB, sK, rp, wy, bf) x1 x2 (nI j) := by
  refine br_f (nI_pos hj) (pk_le j 4 (fun c => h1 (by omega)) (fun c => ?_) rfl rfl hj (by decide))
  exact pk_lt j 8 (fun d => h0 (by omega)) (fun d => pk_lt 12 j (fun d2 => h0 (by omega)) (fun d2 => h1 (by omega)) rfl rfl (by decide) hj) rfl rfl hj (by decide)
theorem sq_okS (O : sq_ok m n w sK ti T) (hm : m < 4) {j : Nat} (hj : j % 8 ≤ 4) : sq_ok (m + 1) n w (upd sK m (nI (j % 8))) ti T := by
  obtain ⟨h1, h2, h3, h4, h5, h6⟩ := O
  refine ⟨by omega, h2, h3, fun k hk => ?_, h5, h6⟩
  by_cases c : k = m
  · rw [c, pk_us]
    have : j % 8 = 0 ∨ j % 8 = 1 ∨ j % 8 = 2 ∨ j % 8 = 3 ∨ j % 8 = 4 := by omega
    rcases this with z | z | z | z | z <;> rw [z] <;> decide
  · rw [pk_un c]; exact h4 k hk
theorem sq_okE (O : sq_ok m n w sK ti T) (hn : n < 10) {p g : Nat} (hp : p = if n = 0 then 0 else T (n - 1)) (hg : g ≤ 5) : sq_ok m (n + 1) w sK (upd ti n (nI (p + g))) (fun i => if i = n then p + g else T i) := by
  obtain ⟨h1, h2, h3, h4, h5, h6⟩ := O
  have hp5 : p ≤ 5 * n := by
    by_cases c : n = 0
    · rw [if_pos c] at hp; omega
    · rw [if_neg c] at hp
      have := (h5 (n - 1) (by omega)).2
      omega
  have hmo : ∀ i, i < n → T i ≤ p := fun i hi => by
    rw [if_neg (by omega)] at hp
    rw [hp]
    exact h6 i (n - 1) (by omega) (by omega)
  refine ⟨h1, by omega, h3, h4, fun i hi => ?_, fun i j hij hj => ?_⟩
  · by_cases c : i = n
    · subst c
      dsimp only
      rw [pk_us, if_pos rfl]
      exact ⟨rfl, by omega⟩
    · dsimp only
      rw [pk_un c, if_neg c]
      exact h5 i (by omega)
  · dsimp only
    by_cases c : j = n
    · rw [if_pos c]
      by_cases d : i = n
      · rw [if_pos d]; exact Nat.le_refl _
      · rw [if_neg d]
        have := hmo i (by omega)
        omega
    · rw [if_neg c, if_neg (by omega)]
      exact h6 i j hij (by omega)
theorem xw_event (O : sq_ok m n w sK ti T) {post : Int32 → SX → Prop} {v1 v2 : Int32} {g p : Nat} (c1 : ¬ v1 < 0) (c2 : ¬ 3 < v1) (c3 : ¬ v2 < 0) (c4 : ¬ 9 < v2) (hg : g ≤ 5) (hn : n < 10) (hp : p = if n = 0 then 0 else T (n - 1))
    (h : ∀ fi' ru' mo', post (nI (sq_sm (fun f => sq_wh (sq_mt sT sB sK (upd ty n v1) (upd va n v2)) (sq_iw (fun i => if i = n then p + g else T i) w) (sq_rp rp) m f n) (n + 1))) (nI m, nI w, nI (n + 1), fi', sT, sB, sK, rp, upd ty n v1, upd va n v2, upd ti n (nI (p + g)), ru', wa, mo')) :
    wpX_event post (nI m, nI w, nI n, fi, sT, sB, sK, rp, ty, va, ti, ru, wa, mo) v1 v2 (nI g) := by
  have iN : vp_in (nI n) 10 := vp_in_nI (by omega) (by decide)
  have cn : (nI n).toNatClampNeg = n := nI_clamp (by omega)
  have L : ∀ z0 : Int32, z0 = nI p → wX_event_92 post (nI g) z0 (nI n) (nI m) (nI w) (nI n) fi sT sB sK rp (upd ty n v1) (upd va n v2) ti ru wa mo := by
    intro z0 hz
    subst hz
    unfold wX_event_92
    rw [cn, nI_add]
    refine ⟨iN, nm_e (nm_r (nI_1 n) ?_)⟩
    exact xw_ending (sq_okE O hn hp hg) n (nI_pred n) (by omega) h
  unfold wpX_event
  dsimp only
  rw [cn]
  refine br_f c1 (br_f c2 (br_f c3 (br_f c4 (br_f (nI_pos (by omega)) (pk_le g 5 (fun _ => pk_eq n 10 (fun z => absurd z (by omega)) (fun _ => ⟨iN, nm_e ⟨iN, nm_e (pk_eq n 0 (fun c => L 0 ?_) (fun c => ?_))⟩⟩)) (fun z => absurd z (by omega)))))))
  · rw [if_pos c] at hp
    rw [hp, nI_0]
  · rw [if_neg c] at hp
    rw [sq_m1 (by omega), nI_clamp (n := n - 1) (by omega)]
    refine ⟨vp_in_nI (by omega) (by decide), L _ ?_⟩
    rw [hp]
    exact (O.2.2.2.2.1 (n - 1) (by omega)).1
theorem yw_event (O : sq_ok m n w sK ti T) {post : Int32 → SY → Prop} {v1 v2 : Int32} {g p : Nat} (c1 : ¬ v1 < 0) (c2 : ¬ 3 < v1) (c3 : ¬ v2 < 0) (c4 : ¬ 9 < v2) (hg : g ≤ 5) (hn : n < 10) (hp : p = if n = 0 then 0 else T (n - 1))
    (h : ∀ wy' bf', post (nI (sq_sm (fun s => if sq_lst s = n then sq_fo (sq_mt sT sB sK (upd ty n v1) (upd va n v2)) (sq_iw (fun i => if i = n then p + g else T i) w) (sq_rp rp) m (n + 1) s else 0) (2 ^ (n + 1)))) (nI (n + 1), nI m, nI w, upd ty n v1, upd va n v2, upd ti n (nI (p + g)), sT, sB, sK, rp, wy', bf')) :
    wpY_event post (nI n, nI m, nI w, ty, va, ti, sT, sB, sK, rp, wy, bf) v1 v2 (nI g) := by
  have iN : vp_in (nI n) 10 := vp_in_nI (by omega) (by decide)
  have cn : (nI n).toNatClampNeg = n := nI_clamp (by omega)
  have L : ∀ z0 : Int32, z0 = nI p → wY_event_92 post (nI g) z0 (nI n) (nI n) (nI m) (nI w) (upd ty n v1) (upd va n v2) ti sT sB sK rp wy bf := by
    intro z0 hz
    subst hz
    unfold wY_event_92
    rw [cn, nI_add]
    refine ⟨iN, nm_e (nm_r (nI_1 n) ?_)⟩
    exact yw_ending (sq_okE O hn hp hg) n (nI_pred n) (by omega) h
  unfold wpY_event
  dsimp only
  rw [cn]
  refine br_f c1 (br_f c2 (br_f c3 (br_f c4 (br_f (nI_pos (by omega)) (pk_le g 5 (fun _ => pk_eq n 10 (fun z => absurd z (by omega)) (fun _ => ⟨iN, nm_e ⟨iN, nm_e (pk_eq n 0 (fun c => L 0 ?_) (fun c => ?_))⟩⟩)) (fun z => absurd z (by omega)))))))
  · rw [if_pos c] at hp
    rw [hp, nI_0]
  · rw [if_neg c] at hp
    rw [sq_m1 (by omega), nI_clamp (n := n - 1) (by omega)]
    refine ⟨vp_in_nI (by omega) (by decide), L _ ?_⟩
    rw [hp]
    exact (O.2.2.2.2.1 (n - 1) (by omega)).1
end
end
section
/-! what is owed -/
/-- the relation at the head of a turn whose first cell is k -/
def i_Rel (k : Nat) (u : SX) (v : SY) : Prop := ∃ (m n w : Nat) (fi : Int32) (sT sB sK rp ty va ti ru wa mo wy bf : Nat → Int32) (T : Nat → Nat), u = (nI m, nI w, nI n, fi, sT, sB, sK, rp, ty, va, ti, ru, wa, mo) ∧ v = (nI n, nI m, nI w, ty, va, ti, sT, sB, sK, rp, wy, bf) ∧ sq_ok m n w sK ti T
theorem i_mk {k m n w : Nat} {fi : Int32} {sT sB sK rp ty va ti ru wa mo wy bf : Nat → Int32} {T : Nat → Nat} (O : sq_ok m n w sK ti T) : i_Rel k (nI m, nI w, nI n, fi, sT, sB, sK, rp, ty, va, ti, ru, wa, mo) (nI n, nI m, nI w, ty, va, ti, sT, sB, sK, rp, wy, bf) :=
  ⟨m, n, w, fi, sT, sB, sK, rp, ty, va, ti, ru, wa, mo, wy, bf, T, rfl, rfl, O⟩
theorem i_up {k : Nat} {u : SX} {v : SY} (h : i_Rel k u v) : i_Rel (k + 4) u v := h
theorem i_vc0 : wpX_init (fun u => wpY_init (fun v => i_Rel 0 u v)) := by
  refine nm_e ?_
  refine nm_e ?_
  show i_Rel 0 (nI 1, nI 10, nI 0, 0, upd (fun _ => 0) 0 4, (fun _ => 0), (fun _ => 0), (fun _ => 0), (fun _ => 0), (fun _ => 0), (fun _ => 0), (fun _ => 0), (fun _ => 0), (fun _ => 0)) (nI 0, nI 1, nI 10, (fun _ => 0), (fun _ => 0), (fun _ => 0), upd (fun _ => 0) 0 4, (fun _ => 0), (fun _ => 0), (fun _ => 0), (fun _ => 0), (fun _ => 0))
  exact i_mk (m := 1) (n := 0) (w := 10) (T := fun _ => 0) ⟨by decide, by decide, by decide, fun k _ => Or.inl rfl, fun i hi => absurd hi (by omega), fun i j _ _ => Nat.le_refl 0⟩
theorem i_vc_begin {k : Nat} {u : SX} {v : SY} (I : i_Rel k u v) (hk : k + 4 ≤ 2048) : wpX_begin (fun u' => wpY_begin (fun v' => i_Rel (k + 4) u' v') v) u := by
  obtain ⟨m, n, w, fi, sT, sB, sK, rp, ty, va, ti, ru, wa, mo, wy, bf, T, rfl, rfl, O⟩ := I
  obtain ⟨h1, h2, h3, h4, h5, h6⟩ := O
  show i_Rel (k + 4) (nI 0, nI w, nI n, fi, sT, sB, sK, rp, ty, va, ti, ru, wa, mo) (nI n, nI 0, nI w, ty, va, ti, sT, sB, sK, rp, wy, bf)
  exact i_mk (m := 0) (n := n) (w := w) (T := T) ⟨by omega, h2, h3, h4, h5, h6⟩
theorem i_vc_step {k : Nat} {u : SX} {v : SY} (I : i_Rel k u v) (hk : k + 4 ≤ 2048) (v1 : Int32) (v2 : Int32) (v3 : Int32) : wpX_step (fun r u' => wpY_step (fun r' v' => r' = r ∧ i_Rel (k + 4) u' v') v v1 v2 v3) u v1 v2 v3 := by
  obtain ⟨m, n, w, fi, sT, sB, sK, rp, ty, va, ti, ru, wa, mo, wy, bf, T, rfl, rfl, O⟩ := I
  have hm : m ≤ 4 := O.1
  unfold wpX_step
  dsimp only
  refine nm_e ?_
  refine br_c (fun c => yw_stepA (fun z0 => yw_s26b (Or.inl c) ⟨rfl, i_mk O⟩)) (fun c1 => ?_)
  refine br_c (fun c => yw_stepA (fun z0 => yw_s26b (Or.inr (Or.inl c)) ⟨rfl, i_mk O⟩)) (fun c2 => ?_)
  refine br_c (fun c => yw_stepA (fun z0 => yw_s26b (Or.inr (Or.inr (Or.inl c))) ⟨rfl, i_mk O⟩)) (fun c3 => ?_)
  refine br_c (fun c4 => ?_) (fun c => yw_stepA (fun z0 => yw_s26b (Or.inr (Or.inr (Or.inr (Or.inl (Int32.not_le.mp c))))) ⟨rfl, i_mk O⟩))
  refine br_c (fun c => yw_stepN c (yw_s26b (Or.inr (Or.inr (Or.inr (Or.inr rfl)))) ⟨rfl, i_mk O⟩)) (fun c5 => ?_)
  obtain ⟨j, hj, rfl⟩ := nI_of c5
  have ex : nI j &&& 7 = nI (j % 8) := pk_andN (by omega) 3 (by decide)
  rw [ex]
  refine pk_lt 15 j (fun c => yw_stepJ j hj (fun _ => yw_s26b (Or.inr (Or.inr (Or.inr (Or.inr rfl)))) ⟨rfl, i_mk O⟩) (fun z => absurd z (by omega))) (fun c6 => ?_) rfl rfl (by decide) hj
  refine pk_le (j % 8) 4 (fun c7 => ?_) (fun c7 => yw_stepJ j hj (fun _ => yw_s26b (Or.inr (Or.inr (Or.inr (Or.inr rfl)))) ⟨rfl, i_mk O⟩) (fun z => absurd z (by omega)))
  have good : j ≤ 4 ∨ 8 ≤ j ∧ j ≤ 12 := by omega
  have c4' : ¬ 9 < v2 := Int32.not_lt.mpr c4
  refine pk_eq m 4 (fun c8 => ?_) (fun c8 => ?_)
  · refine yw_stepJ j hj (fun z => absurd good z) (fun _ => ?_)
    unfold wY_step_26
    exact br_f c1 (br_f c2 (br_f c3 (br_f c4' (br_f (by decide) (br_t (by rw [c8]; rfl) ⟨rfl, i_mk O⟩)))))
  · have im : vp_in (nI m) 4 := vp_in_nI (by omega) (by decide)
    have cm : (nI m).toNatClampNeg = m := nI_clamp (by omega)
    have hne : ¬ nI m = 4 := fun z => c8 ((nI_eq (b := 4) (by omega) (by decide)).mp z)
    rw [cm]
    have E : ∀ z : Int32, wX_step_106 (fun r u' => wpY_step (fun r' v' => r' = r ∧ i_Rel (k + 4) u' v') (nI n, nI m, nI w, ty, va, ti, sT, sB, sK, rp, wy, bf) v1 v2 (nI j)) z (nI m) (nI m) (nI w) (nI n) fi (upd sT m v1) (upd sB m v2) (upd sK m (nI (j % 8))) rp ty va ti ru wa mo ↔
        wpY_step (fun r' v' => r' = nI (m + 1) ∧ i_Rel (k + 4) (nI (m + 1), nI w, nI n, fi, upd sT m v1, upd sB m v2, upd sK m (nI (j % 8)), upd rp m (vp_nar .boolean z), ty, va, ti, ru, wa, mo) v') (nI n, nI m, nI w, ty, va, ti, sT, sB, sK, rp, wy, bf) v1 v2 (nI j) := by
      intro z
      unfold wX_step_106
      rw [cm]
      constructor
      · intro h
        exact h.2 _ rfl _ (nI_1 m).symm
      · intro h
        exact ⟨im, nm_e (nm_r (nI_1 m) h)⟩
    have Y : ∀ z : Int32, (j < 8 → z = 0) → (8 ≤ j → z = 1) → wpY_step (fun r' v' => r' = nI (m + 1) ∧ i_Rel (k + 4) (nI (m + 1), nI w, nI n, fi, upd sT m v1, upd sB m v2, upd sK m (nI (j % 8)), upd rp m (vp_nar .boolean z), ty, va, ti, ru, wa, mo) v') (nI n, nI m, nI w, ty, va, ti, sT, sB, sK, rp, wy, bf) v1 v2 (nI j) := by
      intro z hz0 hz1
      refine yw_stepJ j hj (fun z => absurd good z) (fun _ => ?_)
      have er : nI j - nI j / 8 * 8 = nI (j % 8) := pk_rem (d := 8) hj (by decide) (by decide)
      unfold wY_step_26
      rw [cm, er]
      refine br_f c1 (br_f c2 (br_f c3 (br_f c4' (br_f (by decide) (br_f hne ⟨im, nm_e ⟨im, nm_e ⟨by decide, im, nm_e (pk_le j 7 (fun d => ?_) (fun d => ?_) rfl rfl hj (by decide))⟩⟩⟩)))))
      · unfold wY_step_117
        rw [cm, hz0 (by omega)]
        exact ⟨im, nm_e (nm_r (nI_1 m) ⟨rfl, i_mk (m := m + 1) (sq_okS O (by omega) c7)⟩)⟩
      · unfold wY_step_117
        rw [cm, hz1 (by omega)]
        exact ⟨im, nm_e (nm_r (nI_1 m) ⟨rfl, i_mk (m := m + 1) (sq_okS O (by omega) c7)⟩)⟩
    refine ⟨im, nm_e ⟨im, nm_e ⟨im, nm_e (pk_lt j 8 (fun d => ?_) (fun d => ?_) rfl rfl hj (by decide))⟩⟩⟩
    · exact (E 0).mpr (Y 0 (fun _ => rfl) (fun z => absurd z (by omega)))
    · exact (E 1).mpr (Y 1 (fun z => absurd z (by omega)) (fun _ => rfl))
theorem i_vc_window {k : Nat} {u : SX} {v : SY} (I : i_Rel k u v) (hk : k + 4 ≤ 2048) (v1 : Int32) : wpX_window (fun r u' => wpY_window (fun r' v' => r' = r ∧ i_Rel (k + 4) u' v') v v1) u v1 := by
  obtain ⟨m, n, w, fi, sT, sB, sK, rp, ty, va, ti, ru, wa, mo, wy, bf, T, rfl, rfl, O⟩ := I
  by_cases h0 : v1 < 0
  · exact br_t h0 (br_t h0 ⟨rfl, i_mk O⟩)
  · by_cases h1 : v1 ≤ 40
    · obtain ⟨j, hj, rfl⟩ := nI_of2 (n := 40) (by decide) h0 h1
      obtain ⟨a1, a2, a3, a4, a5, a6⟩ := O
      exact br_f h0 (br_t h1 (br_f h0 (br_t h1 ⟨rfl, i_mk (w := j) (T := T) ⟨a1, a2, hj, a4, a5, a6⟩⟩)))
    · exact br_f h0 (br_f h1 (br_f h0 (br_f h1 ⟨rfl, i_mk O⟩)))
theorem i_vc_restart {k : Nat} {u : SX} {v : SY} (I : i_Rel k u v) (hk : k + 4 ≤ 2048) : wpX_restart (fun u' => wpY_restart (fun v' => i_Rel (k + 4) u' v') v) u := by
  obtain ⟨m, n, w, fi, sT, sB, sK, rp, ty, va, ti, ru, wa, mo, wy, bf, T, rfl, rfl, O⟩ := I
  obtain ⟨h1, h2, h3, h4, h5, h6⟩ := O
  show i_Rel (k + 4) (nI m, nI w, nI 0, fi, sT, sB, sK, rp, ty, va, ti, ru, wa, mo) (nI 0, nI m, nI w, ty, va, ti, sT, sB, sK, rp, wy, bf)
  exact i_mk (m := m) (n := 0) (w := w) (T := T) ⟨h1, by omega, h3, h4, fun i hi => absurd hi (by omega), fun i j _ hj => absurd hj (by omega)⟩
theorem i_vc_events {k : Nat} {u : SX} {v : SY} (I : i_Rel k u v) (hk : k + 4 ≤ 2048) : wpX_events (fun r => wpY_events (fun r' => r' = r ∧ i_Rel (k + 4) u v) v) u := by
  obtain ⟨m, n, w, fi, sT, sB, sK, rp, ty, va, ti, ru, wa, mo, wy, bf, T, rfl, rfl, O⟩ := I
  exact ⟨rfl, i_mk O⟩
theorem i_ending {k m n w : Nat} {fi : Int32} {sT sB sK rp ty va ti ru wa mo wy bf : Nat → Int32} {T : Nat → Nat} (O : sq_ok m n w sK ti T) {p0 q0 : Int32} (e : Nat) (e0 : p0 = nI e) (e1 : q0 = nI e) (he : e < n) :
    wpX_endingAt (fun r u' => wpY_endingAt (fun r' v' => r' = r ∧ i_Rel (k + 4) u' v') (nI n, nI m, nI w, ty, va, ti, sT, sB, sK, rp, wy, bf) q0) (nI m, nI w, nI n, fi, sT, sB, sK, rp, ty, va, ti, ru, wa, mo) p0 := by
  refine xw_ending O e e0 he (fun fi' ru' mo' => ?_)
  refine yw_ending O e e1 he (fun wy' bf' => ⟨?_, i_mk O⟩)
  rw [sq_Lend O.2.1 he]
theorem i_vc_event {k : Nat} {u : SX} {v : SY} (I : i_Rel k u v) (hk : k + 4 ≤ 2048) (v1 : Int32) (v2 : Int32) (v3 : Int32) : wpX_event (fun r u' => wpY_event (fun r' v' => r' = r ∧ i_Rel (k + 4) u' v') v v1 v2 v3) u v1 v2 v3 := by
  obtain ⟨m, n, w, fi, sT, sB, sK, rp, ty, va, ti, ru, wa, mo, wy, bf, T, rfl, rfl, O⟩ := I
  have hn : n ≤ 10 := O.2.1
  by_cases c1 : v1 < 0
  · exact br_t c1 (br_t c1 ⟨rfl, i_mk O⟩)
  by_cases c2 : 3 < v1
  · exact br_f c1 (br_t c2 (br_f c1 (br_t c2 ⟨rfl, i_mk O⟩)))
  by_cases c3 : v2 < 0
  · exact br_f c1 (br_f c2 (br_t c3 (br_f c1 (br_f c2 (br_t c3 ⟨rfl, i_mk O⟩)))))
  by_cases c4 : 9 < v2
  · exact br_f c1 (br_f c2 (br_f c3 (br_t c4 (br_f c1 (br_f c2 (br_f c3 (br_t c4 ⟨rfl, i_mk O⟩)))))))
  by_cases c5 : v3 < 0
  · exact br_f c1 (br_f c2 (br_f c3 (br_f c4 (br_t c5 (br_f c1 (br_f c2 (br_f c3 (br_f c4 (br_t c5 ⟨rfl, i_mk O⟩)))))))))
  by_cases c6 : v3 ≤ 5
  · obtain ⟨g, hg, rfl⟩ := nI_of2 (n := 5) (by decide) c5 c6
    by_cases c7 : n = 10
    · have c7' : nI n = 10 := by rw [c7]; rfl
      exact br_f c1 (br_f c2 (br_f c3 (br_f c4 (br_f c5 (br_t c6 (br_t c7' (br_f c1 (br_f c2 (br_f c3 (br_f c4 (br_f c5 (br_t c6 (br_t c7' ⟨rfl, i_mk O⟩)))))))))))))
    · refine xw_event O c1 c2 c3 c4 hg (by omega) rfl (fun fi' ru' mo' => ?_)
      refine yw_event O c1 c2 c3 c4 hg (by omega) rfl (fun wy' bf' => ⟨?_, i_mk (sq_okE O (by omega) rfl hg)⟩)
      rw [sq_Lend (n := n + 1) (by omega) (by omega)]
  · exact br_f c1 (br_f c2 (br_f c3 (br_f c4 (br_f c5 (br_f c6 (br_f c1 (br_f c2 (br_f c3 (br_f c4 (br_f c5 (br_f c6 ⟨rfl, i_mk O⟩)))))))))))
theorem i_vc_finds {k : Nat} {u : SX} {v : SY} (I : i_Rel k u v) (hk : k + 4 ≤ 2048) : wpX_finds (fun r u' => wpY_finds (fun r' v' => r' = r ∧ i_Rel (k + 4) u' v') v) u := by
  obtain ⟨m, n, w, fi, sT, sB, sK, rp, ty, va, ti, ru, wa, mo, wy, bf, T, rfl, rfl, O⟩ := I
  refine xw_finds O (fun fi' ru' mo' => yw_finds O (fun wy' bf' => ⟨?_, i_mk O⟩))
  rw [sq_Lfin O.2.1]
theorem i_vc_endingAt {k : Nat} {u : SX} {v : SY} (I : i_Rel k u v) (hk : k + 4 ≤ 2048) (v1 : Int32) : wpX_endingAt (fun r u' => wpY_endingAt (fun r' v' => r' = r ∧ i_Rel (k + 4) u' v') v v1) u v1 := by
  obtain ⟨m, n, w, fi, sT, sB, sK, rp, ty, va, ti, ru, wa, mo, wy, bf, T, rfl, rfl, O⟩ := I
  have hn : n ≤ 10 := O.2.1
  rcases pk_ix v1 (n := n) (by omega) with hb | hb | ⟨e, he, rfl⟩
  · unfold wpX_endingAt wpY_endingAt
    exact xw_noE1 (Or.inl hb) (br_f (by decide) (yw_isE0 (Or.inl hb) (br_t rfl ⟨rfl, i_mk O⟩)))
  · unfold wpX_endingAt wpY_endingAt
    exact xw_noE1 (Or.inr hb) (br_f (by decide) (yw_isE0 (Or.inr hb) (br_t rfl ⟨rfl, i_mk O⟩)))
  · exact i_ending O e rfl rfl he
theorem i_vc_beginningAt {k : Nat} {u : SX} {v : SY} (I : i_Rel k u v) (hk : k + 4 ≤ 2048) (v1 : Int32) : wpX_beginningAt (fun r u' => wpY_beginningAt (fun r' v' => r' = r ∧ i_Rel (k + 4) u' v') v v1) u v1 := by
  obtain ⟨m, n, w, fi, sT, sB, sK, rp, ty, va, ti, ru, wa, mo, wy, bf, T, rfl, rfl, O⟩ := I
  have hn : n ≤ 10 := O.2.1
  rcases pk_ix v1 (n := n) (by omega) with hb | hb | ⟨e, he, rfl⟩
  · unfold wpX_beginningAt wpY_beginningAt
    exact xw_noE1 (Or.inl hb) (br_f (by decide) (yw_isE0 (Or.inl hb) (br_t rfl ⟨rfl, i_mk O⟩)))
  · unfold wpX_beginningAt wpY_beginningAt
    exact xw_noE1 (Or.inr hb) (br_f (by decide) (yw_isE0 (Or.inr hb) (br_t rfl ⟨rfl, i_mk O⟩)))
  · refine xw_begin O e rfl he (fun fi' ru' mo' => yw_begin O e rfl he (fun wy' bf' => ⟨?_, i_mk O⟩))
    rw [sq_Lbeg hn e]
theorem i_vc_using {k : Nat} {u : SX} {v : SY} (I : i_Rel k u v) (hk : k + 4 ≤ 2048) (v1 : Int32) : wpX_using (fun r u' => wpY_using (fun r' v' => r' = r ∧ i_Rel (k + 4) u' v') v v1) u v1 := by
  obtain ⟨m, n, w, fi, sT, sB, sK, rp, ty, va, ti, ru, wa, mo, wy, bf, T, rfl, rfl, O⟩ := I
  have hn : n ≤ 10 := O.2.1
  rcases pk_ix v1 (n := n) (by omega) with hb | hb | ⟨e, he, rfl⟩
  · unfold wpX_using wpY_using
    exact xw_noE1 (Or.inl hb) (br_f (by decide) (yw_isE0 (Or.inl hb) (br_t rfl ⟨rfl, i_mk O⟩)))
  · unfold wpX_using wpY_using
    exact xw_noE1 (Or.inr hb) (br_f (by decide) (yw_isE0 (Or.inr hb) (br_t rfl ⟨rfl, i_mk O⟩)))
  · refine xw_using O e rfl he (fun fi' ru' wa' mo' => yw_using O e rfl he (fun wy' bf' => ⟨?_, i_mk O⟩))
    rw [sq_Luse hn e]
theorem i_vc_longest {k : Nat} {u : SX} {v : SY} (I : i_Rel k u v) (hk : k + 4 ≤ 2048) : wpX_longest (fun r u' => wpY_longest (fun r' v' => r' = r ∧ i_Rel (k + 4) u' v') v) u := by
  obtain ⟨m, n, w, fi, sT, sB, sK, rp, ty, va, ti, ru, wa, mo, wy, bf, T, rfl, rfl, O⟩ := I
  have hn : n ≤ 10 := O.2.1
  refine xw_longest O (fun o fi' ru' mo' hX => yw_longest O (fun o' wy' bf' hY => ⟨congrArg sq_on ?_, i_mk O⟩))
  exact sq_isM_eq hX hY (fun z hz => ⟨z, sq_PQ1 hn hz, Nat.le_refl z⟩) (fun z hz => ⟨z, sq_PQ2 hn hz, Nat.le_refl z⟩)
theorem i_vc_tightest {k : Nat} {u : SX} {v : SY} (I : i_Rel k u v) (hk : k + 4 ≤ 2048) : wpX_tightest (fun r u' => wpY_tightest (fun r' v' => r' = r ∧ i_Rel (k + 4) u' v') v) u := by
  obtain ⟨m, n, w, fi, sT, sB, sK, rp, ty, va, ti, ru, wa, mo, wy, bf, T, rfl, rfl, O⟩ := I
  have hn : n ≤ 10 := O.2.1
  refine xw_tightest O (fun o fi' ru' mo' hX => yw_tightest O (fun o' wy' bf' hY => ⟨congrArg sq_on ?_, i_mk O⟩))
  exact sq_isL_eq hX hY (fun z hz => sq_PT1 hn hz) (fun z hz => sq_PT2 hn hz)
theorem i_vc_lastValues {k : Nat} {u : SX} {v : SY} (I : i_Rel k u v) (hk : k + 4 ≤ 2048) : wpX_lastValues (fun r u' => wpY_lastValues (fun r' v' => r' = r ∧ i_Rel (k + 4) u' v') v) u := by
  obtain ⟨m, n, w, fi, sT, sB, sK, rp, ty, va, ti, ru, wa, mo, wy, bf, T, rfl, rfl, O⟩ := I
  have hv : ∀ i, va i = nI ((va i).toBitVec.toNat) := fun i => by
    apply Int32.toBitVec_inj.mp
    apply BitVec.eq_of_toNat_eq
    rw [pk_tn (va i).toBitVec.isLt]
  refine xw_lastv O (fun i => (va i).toBitVec.toNat) hv (fun fi' ru' mo' => yw_lastv O (fun i => (va i).toBitVec.toNat) hv (fun wy' bf' => ⟨?_, i_mk O⟩))
  rw [sq_Llv O.2.1 (fun i => (va i).toBitVec.toNat)]
theorem i_vc_without {k : Nat} {u : SX} {v : SY} (I : i_Rel k u v) (hk : k + 4 ≤ 2048) (v1 : Int32) : wpX_without (fun r u' => wpY_without (fun r' v' => r' = r ∧ i_Rel (k + 4) u' v') v v1) u v1 := by
  obtain ⟨m, n, w, fi, sT, sB, sK, rp, ty, va, ti, ru, wa, mo, wy, bf, T, rfl, rfl, O⟩ := I
  have hn : n ≤ 10 := O.2.1
  rcases pk_ix v1 (n := n) (by omega) with hb | hb | ⟨e, he, rfl⟩
  · unfold wpX_without wpY_without
    exact xw_noE1 (Or.inl hb) (br_f (by decide) (yw_isE0 (Or.inl hb) (br_t rfl ⟨rfl, i_mk O⟩)))
  · unfold wpX_without wpY_without
    exact xw_noE1 (Or.inr hb) (br_f (by decide) (yw_isE0 (Or.inr hb) (br_t rfl ⟨rfl, i_mk O⟩)))
  · refine xw_without O e rfl he (fun fi' ru' wa' mo' => yw_without O e rfl he (fun wy' bf' => ⟨?_, i_mk O⟩))
    rw [sq_Lfin hn, sq_Luse hn e, sq_Lwo e, Nat.add_comm, ← nI_add, Int32.add_sub_cancel]
end
