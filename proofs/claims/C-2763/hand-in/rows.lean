section
theorem pk_us {f : Nat → Int32} {k : Nat} {x : Int32} : upd f k x k = x := if_pos rfl
theorem pk_un {f : Nat → Int32} {k j : Nat} {x : Int32} (h : j ≠ k) : upd f k x j = f j := if_neg h
theorem pk_sub {a b : Nat} (h : b ≤ a) : nI a - nI b = nI (a - b) := by
  obtain ⟨c, rfl⟩ : ∃ c, a = c + b := ⟨a - b, by omega⟩
  rw [← nI_add, Int32.add_sub_cancel, Nat.add_sub_cancel]
theorem pk_m1 (n : Nat) : nI (n + 1) + (-1) = nI n := by
  rw [← nI_1, Int32.add_assoc, show (1 : Int32) + (-1) = 0 from rfl, Int32.add_zero]
theorem pk_mul (a b : Nat) : nI a * nI b = nI (a * b) := (Int32.ofNat_mul a b).symm
theorem pk_sub_toInt {a b : Nat} (ha : a < 2 ^ 30) (hb : b < 2 ^ 30) : (nI a - nI b).toInt = (a : Int) - b := by
  rw [Int32.toInt_sub, nI_toInt (by omega), nI_toInt (by omega)]
  exact Int.bmod_eq_of_le (by omega) (by omega)
theorem pk_sneg {a b : Nat} (hb : b < 2 ^ 30) (h : a < b) : nI a - nI b < 0 := by
  rw [Int32.lt_iff_toInt_lt, pk_sub_toInt (by omega) hb, show (0 : Int32).toInt = 0 from by decide]
  omega
theorem pk_ix (x : Int32) {n : Nat} (hn : n < 2 ^ 31) : x < 0 ∨ nI n ≤ x ∨ ∃ j : Nat, j < n ∧ x = nI j := by
  by_cases h : x < 0
  · exact Or.inl h
  · obtain ⟨j, hj, rfl⟩ := nI_of h
    by_cases h2 : j < n
    · exact Or.inr (Or.inr ⟨j, h2, rfl⟩)
    · exact Or.inr (Or.inl (nI_le (by omega) hj))
theorem pk_le {x y : Int32} {A B : Prop} (a b : Nat) (f : a ≤ b → A) (g : b < a → B) (hx : x = nI a := by rfl) (hy : y = nI b := by rfl) (ha : a < 2 ^ 31 := by omega) (hb : b < 2 ^ 31 := by omega) : (x ≤ y → A) ∧ (¬ x ≤ y → B) := by
  subst hx hy
  rw [nI_leI ha hb]
  exact ⟨f, fun z => g (by omega)⟩
theorem pk_lt {x y : Int32} {A B : Prop} (a b : Nat) (f : a < b → A) (g : b ≤ a → B) (hx : x = nI a := by rfl) (hy : y = nI b := by rfl) (ha : a < 2 ^ 31 := by omega) (hb : b < 2 ^ 31 := by omega) : (x < y → A) ∧ (¬ x < y → B) := by
  subst hx hy
  rw [nI_ltI ha hb]
  exact ⟨f, fun z => g (by omega)⟩
theorem pk_eq {x y : Int32} {A B : Prop} (a b : Nat) (f : a = b → A) (g : a ≠ b → B) (hx : x = nI a := by rfl) (hy : y = nI b := by rfl) (ha : a < 2 ^ 31 := by omega) (hb : b < 2 ^ 31 := by omega) : (x = y → A) ∧ (¬ x = y → B) := by
  subst hx hy
  rw [nI_eq ha hb]
  exact ⟨f, g⟩
theorem pk_in {x : Int32} (n N : Nat) (h : n < N) (hx : x = nI n := by rfl) (hN : N < 2 ^ 31 := by omega) : vp_in x N := by
  subst hx
  exact vp_in_nI h hN
theorem pk_cl {x : Int32} (n : Nat) (hx : x = nI n := by rfl) (h : n < 2 ^ 31 := by omega) : x.toNatClampNeg = n := by
  subst hx
  exact nI_clamp h
theorem pk_tn {n : Nat} (h : n < 2 ^ 32) : (nI n).toBitVec.toNat = n := Nat.mod_eq_of_lt h
theorem pk_and (x : Int32) {m : Int32} (k : Nat) (hm : m.toBitVec.toNat = 2 ^ k - 1) : x &&& m = nI (x.toBitVec.toNat % 2 ^ k) := by
  apply Int32.toBitVec_inj.mp
  apply BitVec.eq_of_toNat_eq
  rw [Int32.toBitVec_and, BitVec.toNat_and, hm, Nat.and_two_pow_sub_one_eq_mod]
  show _ = (BitVec.ofNat 32 _).toNat
  rw [BitVec.toNat_ofNat]
  exact (Nat.mod_eq_of_lt (Nat.lt_of_le_of_lt (Nat.mod_le _ _) x.toBitVec.isLt)).symm
theorem pk_andN {n : Nat} (h : n < 2 ^ 32) {m : Int32} (k : Nat) (hm : m.toBitVec.toNat = 2 ^ k - 1) : nI n &&& m = nI (n % 2 ^ k) := by
  rw [pk_and _ k hm, pk_tn h]
theorem pk_shl (a s : Int32) (k : Nat) (hs : (s.toBitVec.smod 32).toNat = k) : (a <<< s).toBitVec.toNat = a.toBitVec.toNat * 2 ^ k % 2 ^ 32 := by
  show (a.toBitVec <<< (s.toBitVec.smod 32).toNat).toNat = _
  rw [hs, BitVec.toNat_shiftLeft, Nat.shiftLeft_eq]
theorem pk_shlN {n : Nat} (s : Int32) (k : Nat) (hs : (s.toBitVec.smod 32).toNat = k) (h : n * 2 ^ k < 2 ^ 32) : nI n <<< s = nI (n * 2 ^ k) := by
  apply Int32.toBitVec_inj.mp
  apply BitVec.eq_of_toNat_eq
  have hn : n < 2 ^ 32 := Nat.lt_of_le_of_lt (Nat.le_mul_of_pos_right n (Nat.two_pow_pos k)) h
  rw [pk_shl _ _ k hs, pk_tn hn, pk_tn h, Nat.mod_eq_of_lt h]
theorem pk_shr (a s : Int32) (k : Nat) (hs : (s.toBitVec.smod 32).toNat = k) : (a >>> s).toInt = a.toInt >>> k := by
  show (a.toBitVec.sshiftRight (s.toBitVec.smod 32).toNat).toInt = _
  rw [hs, BitVec.toInt_sshiftRight]
  rfl
theorem pk_shrN {n : Nat} (h : n < 2 ^ 31) (s : Int32) (k : Nat) (hs : (s.toBitVec.smod 32).toNat = k) : nI n >>> s = nI (n / 2 ^ k) := by
  apply Int32.toInt_inj.mp
  have h2 : n / 2 ^ k ≤ n := Nat.div_le_self _ _
  rw [pk_shr _ _ k hs, nI_toInt h, nI_toInt (by omega), Int.shiftRight_eq_div_pow]
  rfl
theorem pk_loop {σ : Type} (W : Nat → Nat → σ → Prop) (I : Nat → σ → Prop) (e i0 : Nat) (s : σ) (hi : i0 ≤ e) (h0 : I i0 s) (hx : ∀ n s, I e s → W (n + 1) e s)
    (hs : ∀ n i s, i < e → I i s → (∀ s', I (i + 1) s' → W n (i + 1) s') → W (n + 1) i s) : ∃ n, W n i0 s :=
  ⟨e + 1, loop_i W I e hx hs (e + 1) i0 s hi (by omega) h0⟩
theorem pk_loopD {σ : Type} (W : Nat → Nat → σ → Prop) (I : Nat → σ → Prop) (hx : ∀ n s, I 0 s → W (n + 1) 0 s)
    (hs : ∀ n i s, I (i + 1) s → (∀ s', I i s' → W n i s') → W (n + 1) (i + 1) s) : ∀ (e : Nat) (s : σ), I e s → W (e + 1) e s := by
  intro e
  induction e with
  | zero => exact fun s h => hx 0 s h
  | succ e ih => exact fun s h => hs (e + 1) e s h (fun s' h' => ih s' h')
theorem pk_least (P : Nat → Prop) (h : ∃ k, P k) : ∃ k, P k ∧ ∀ j, j < k → ¬ P j := by
  obtain ⟨k, hk⟩ := h
  induction k using Nat.strongRecOn with
  | ind k ih =>
    by_cases e : ∃ j, j < k ∧ P j
    · obtain ⟨j, hj, pj⟩ := e
      exact ih j hj pj
    · exact ⟨k, hk, fun j hj pj => e ⟨j, hj, pj⟩⟩
theorem ek_if {c d A B : Prop} (e : c ↔ d) (f : d → A) (g : ¬ d → B) : (c → A) ∧ (¬ c → B) :=
  ⟨fun z => f (e.mp z), fun z => g (fun y => z (e.mpr y))⟩
theorem s_l : ∀ n, n < 32 → ((nI n &&& 31).toBitVec.smod 32).toNat = n := by decide +kernel
theorem nx_and (a b : Nat) : nI a &&& nI b = nI (a &&& b) := by
  apply Int32.toBitVec_inj.1
  show BitVec.ofNat 32 a &&& BitVec.ofNat 32 b = BitVec.ofNat 32 (a &&& b)
  apply BitVec.eq_of_getLsbD_eq
  intro i hi
  simp [hi]
theorem nx_xor (a b : Nat) : nI a ^^^ nI b = nI (a ^^^ b) := by
  apply Int32.toBitVec_inj.1
  show BitVec.ofNat 32 a ^^^ BitVec.ofNat 32 b = BitVec.ofNat 32 (a ^^^ b)
  apply BitVec.eq_of_getLsbD_eq
  intro i hi
  simp [hi]
end
section
/-! sums over i < n, masks, and the bits of nI -/
def dg_S (f : Nat → Nat) : Nat → Nat
  | 0 => 0
  | n + 1 => dg_S f n + f n
theorem dg_S_s (f : Nat → Nat) (n : Nat) : dg_S f (n + 1) = dg_S f n + f n := rfl
theorem dg_S_congr {f g : Nat → Nat} {n : Nat} (h : ∀ i, i < n → f i = g i) : dg_S f n = dg_S g n := by
  induction n with
  | zero => rfl
  | succ n ih => rw [dg_S_s, dg_S_s, ih (fun i hi => h i (by omega)), h n (by omega)]
theorem dg_S_le {f g : Nat → Nat} {n : Nat} (h : ∀ i, i < n → f i ≤ g i) : dg_S f n ≤ dg_S g n := by
  induction n with
  | zero => exact Nat.le_refl _
  | succ n ih => exact Nat.add_le_add (ih (fun i hi => h i (by omega))) (h n (by omega))
theorem dg_S_add (f g : Nat → Nat) (n : Nat) : dg_S (fun i => f i + g i) n = dg_S f n + dg_S g n := by
  induction n with
  | zero => rfl
  | succ n ih => rw [dg_S_s, dg_S_s, dg_S_s, ih]; omega
theorem dg_S_zero {f : Nat → Nat} {n : Nat} (h : ∀ i, i < n → f i = 0) : dg_S f n = 0 := by
  induction n with
  | zero => rfl
  | succ n ih => rw [dg_S_s, ih (fun i hi => h i (by omega)), h n (by omega)]
theorem dg_S_le1 {f : Nat → Nat} {n i : Nat} (hi : i < n) : f i ≤ dg_S f n := by
  induction n with
  | zero => omega
  | succ n ih =>
    rw [dg_S_s]
    rcases Nat.lt_or_ge i n with h | h
    · have := ih h; omega
    · have e : i = n := by omega
      subst e; omega
theorem dg_S_up {f g : Nat → Nat} {n k : Nat} (hk : k < n) (he : ∀ i, i < n → i ≠ k → g i = f i) : dg_S g n + f k = dg_S f n + g k := by
  induction n with
  | zero => omega
  | succ n ih =>
    rw [dg_S_s, dg_S_s]
    rcases Nat.lt_or_ge k n with h | h
    · have h1 := ih h (fun i hi hne => he i (by omega) hne)
      have h2 := he n (by omega) (by omega)
      omega
    · have e : k = n := by omega
      subst e
      have h1 : dg_S g k = dg_S f k := dg_S_congr (fun i hi => he i (by omega) (by omega))
      omega
theorem dg_S_comm (f : Nat → Nat → Nat) (n m : Nat) : dg_S (fun i => dg_S (fun j => f i j) m) n = dg_S (fun j => dg_S (fun i => f i j) n) m := by
  induction n with
  | zero => exact (dg_S_zero (fun i _ => rfl)).symm
  | succ n ih =>
    rw [dg_S_s, ih, ← dg_S_add]
    rfl
theorem dg_S_ub {f : Nat → Nat} {n b : Nat} (h : ∀ i, i < n → f i ≤ b) : dg_S f n ≤ n * b := by
  induction n with
  | zero => exact Nat.zero_le _
  | succ n ih =>
    have h1 := ih (fun i hi => h i (by omega))
    have h2 := h n (by omega)
    rw [dg_S_s, Nat.succ_mul]; omega
/-- two entries of a sum -/
theorem dg_S_two {f : Nat → Nat} {n i j : Nat} (hi : i < n) (hj : j < n) (hn : i ≠ j) : f i + f j ≤ dg_S f n := by
  have h := dg_S_up (f := f) (g := fun k => if k = i then 0 else f k) hi (fun k _ hk => if_neg hk)
  have h2 := dg_S_le1 (f := fun k => if k = i then 0 else f k) hj
  have h3 : (if j = i then 0 else f j) = f j := if_neg (fun e => hn e.symm)
  have h4 : (if i = i then 0 else f i) = 0 := if_pos rfl
  rw [h3] at h2
  rw [h4] at h
  omega
/-- masks out of predicates -/
def dg_mk (p : Nat → Bool) : Nat → Nat
  | 0 => 0
  | n + 1 => dg_mk p n ||| (if p n = true then 2 ^ n else 0)
theorem dg_mk_tb (p : Nat → Bool) (n i : Nat) : (dg_mk p n).testBit i = (decide (i < n) && p i) := by
  induction n with
  | zero => simp [dg_mk]
  | succ n ih =>
    rw [dg_mk, Nat.testBit_or, ih]
    by_cases hp : p n = true
    · rw [if_pos hp, Nat.testBit_two_pow]
      by_cases e : n = i
      · subst e; simp [hp]
      · have : decide (i < n + 1) = decide (i < n) := by
          apply decide_eq_decide.mpr; omega
        rw [this]; simp [e]
    · rw [if_neg hp, Nat.zero_testBit, Bool.or_false]
      by_cases e : n = i
      · subst e; simp [hp]
      · have : decide (i < n + 1) = decide (i < n) := by
          apply decide_eq_decide.mpr; omega
        rw [this]
theorem dg_mk_lt (p : Nat → Bool) (n : Nat) : dg_mk p n < 2 ^ n := by
  apply Nat.lt_pow_two_of_testBit
  intro i hi
  rw [dg_mk_tb, decide_eq_false (by omega), Bool.false_and]
theorem dg_tb_lt {x i : Nat} (hx : x < 1024) (h : x.testBit i = true) : i < 10 := by
  rcases Nat.lt_or_ge i 10 with h1 | h1
  · exact h1
  · have h2 : x < 2 ^ i := Nat.lt_of_lt_of_le hx (Nat.pow_le_pow_right (by decide) h1 : 2 ^ 10 ≤ 2 ^ i)
    rw [Nat.testBit_lt_two_pow h2] at h
    exact absurd h (by decide)
theorem dg_tb_hi {x i : Nat} (hx : x < 1024) (h : 10 ≤ i) : x.testBit i = false := by
  cases e : x.testBit i with
  | false => rfl
  | true => have := dg_tb_lt hx e; omega
theorem dg_ext {x y : Nat} (hx : x < 1024) (hy : y < 1024) (h : ∀ i, i < 10 → x.testBit i = y.testBit i) : x = y := by
  apply Nat.eq_of_testBit_eq
  intro i
  rcases Nat.lt_or_ge i 10 with h1 | h1
  · exact h i h1
  · rw [dg_tb_hi hx h1, dg_tb_hi hy h1]
/-- a without the bits of b -/
def dg_an (a b : Nat) : Nat := a &&& (1023 ^^^ b)
theorem dg_an_tb {a b : Nat} (ha : a < 1024) (i : Nat) : (dg_an a b).testBit i = (a.testBit i && !b.testBit i) := by
  rw [dg_an, Nat.testBit_and, Nat.testBit_xor, show (1023 : Nat) = 2 ^ 10 - 1 from rfl, Nat.testBit_two_pow_sub_one]
  rcases Nat.lt_or_ge i 10 with h1 | h1
  · rw [decide_eq_true h1]; cases a.testBit i <;> cases b.testBit i <;> rfl
  · rw [dg_tb_hi ha h1]; rfl
theorem dg_an_le (a b : Nat) : dg_an a b ≤ a := Nat.and_le_left
theorem dg_an_lt {a b : Nat} (ha : a < 1024) : dg_an a b < 1024 := Nat.lt_of_le_of_lt (dg_an_le a b) ha
/-- numeric order by the highest different bit -/
theorem dg_lt_tb {a b v : Nat} (ha : a.testBit v = false) (hb : b.testBit v = true) (h : ∀ j, v < j → a.testBit j = b.testBit j) : a < b := by
  have e : a / 2 ^ v / 2 = b / 2 ^ v / 2 := by
    apply Nat.eq_of_testBit_eq
    intro i
    rw [Nat.testBit_div_two, Nat.testBit_div_two, Nat.testBit_div_two_pow, Nat.testBit_div_two_pow]
    exact h _ (by omega)
  rw [Nat.testBit_eq_decide_div_mod_eq] at ha hb
  have ha' := of_decide_eq_false ha
  have hb' := of_decide_eq_true hb
  rcases Nat.lt_or_ge a b with h1 | h1
  · exact h1
  · have h2 : b / 2 ^ v ≤ a / 2 ^ v := Nat.div_le_div_right h1
    omega
/-- weight of a mask -/
def dg_w (c : Nat → Nat) (T : Nat) : Nat := dg_S (fun v => if T.testBit v = true then c v else 0) 10
theorem dg_w_0 (c : Nat → Nat) : dg_w c 0 = 0 := dg_S_zero (fun i _ => by rw [Nat.zero_testBit]; rfl)
theorem dg_w_le {c : Nat → Nat} {T S : Nat} (h : ∀ v, v < 10 → T.testBit v = true → S.testBit v = true) : dg_w c T ≤ dg_w c S := by
  apply dg_S_le
  intro i hi
  by_cases h1 : T.testBit i = true
  · rw [if_pos h1, if_pos (h i hi h1)]; exact Nat.le_refl _
  · rw [if_neg h1]; exact Nat.zero_le _
theorem dg_w_an (c : Nat → Nat) {s p : Nat} (hs : s < 1024) (h : ∀ v, v < 10 → p.testBit v = true → s.testBit v = true) : dg_w c s = dg_w c p + dg_w c (dg_an s p) := by
  rw [dg_w, dg_w, dg_w, ← dg_S_add]
  apply dg_S_congr
  intro i hi
  rw [dg_an_tb hs]
  have := h i hi
  cases e1 : s.testBit i <;> cases e2 : p.testBit i <;> simp_all
theorem dg_w_ub {c : Nat → Nat} {T b : Nat} (h : ∀ v, v < 10 → c v ≤ b) : dg_w c T ≤ 10 * b := by
  apply dg_S_ub
  intro i hi
  by_cases h1 : T.testBit i = true
  · rw [if_pos h1]; exact h i hi
  · rw [if_neg h1]; exact Nat.zero_le _
/-! ===== the bits of nI ===== -/
theorem dg_or (a b : Nat) : nI a ||| nI b = nI (a ||| b) := by
  apply Int32.toBitVec_inj.1
  show BitVec.ofNat 32 a ||| BitVec.ofNat 32 b = BitVec.ofNat 32 (a ||| b)
  apply BitVec.eq_of_getLsbD_eq
  intro i hi
  simp [hi]
theorem dg_bv {x v : Nat} (hx : x < 1024) (hv : v < 32) : (nI x >>> (nI v &&& 31)) &&& 1 = nI (x / 2 ^ v % 2) := by
  have h1 : x / 2 ^ v ≤ x := Nat.div_le_self _ _
  rw [pk_shrN (by omega) _ v (s_l v hv), pk_andN (by omega) 1 (by decide)]
theorem dg_bv' {x v : Nat} (hx : x < 1024) (hv : v < 32) : (nI x >>> (nI v &&& 31)) &&& 1 = nI (if x.testBit v = true then 1 else 0) := by
  rw [dg_bv hx hv, Nat.testBit_eq_decide_div_mod_eq]
  by_cases h : x / 2 ^ v % 2 = 1
  · rw [if_pos (decide_eq_true h), h]
  · rw [if_neg (by rw [decide_eq_false h]; decide)]
    exact congrArg nI (by omega)
theorem dg_b1 {x v : Nat} (hx : x < 1024) (hv : v < 32) : ((nI x >>> (nI v &&& 31)) &&& 1) = 1 ↔ x.testBit v = true := by
  rw [dg_bv' hx hv]
  by_cases h : x.testBit v = true
  · rw [if_pos h]; exact ⟨fun _ => h, fun _ => rfl⟩
  · rw [if_neg h]; exact ⟨fun z => absurd z (by decide), fun z => absurd z h⟩
theorem dg_b0 {x v : Nat} (hx : x < 1024) (hv : v < 32) : ((nI x >>> (nI v &&& 31)) &&& 1) = 0 ↔ x.testBit v = false := by
  rw [dg_bv' hx hv]
  by_cases h : x.testBit v = true
  · rw [if_pos h, h]; exact ⟨fun z => absurd z (by decide), fun z => absurd z (by decide)⟩
  · rw [if_neg h]; exact ⟨fun _ => by simpa using h, fun _ => rfl⟩
theorem dg_sh {v : Nat} (hv : v < 10) : (1 : Int32) <<< (nI v &&& 31) = nI (2 ^ v) := by
  have h : 2 ^ v < 2 ^ 10 := Nat.pow_lt_pow_right (by decide) hv
  have e := pk_shlN (n := 1) (nI v &&& 31) v (s_l v (by omega)) (by omega)
  rw [Nat.one_mul] at e
  exact e
theorem dg_anI {a b : Nat} (ha : a < 1024) : nI a &&& (nI b ^^^ (-1)) = nI (dg_an a b) := by
  rw [show (-1 : Int32) = nI 4294967295 from by decide, nx_xor, nx_and]
  congr 1
  apply Nat.eq_of_testBit_eq
  intro i
  rw [dg_an_tb ha, Nat.testBit_and, Nat.testBit_xor, show (4294967295 : Nat) = 2 ^ 32 - 1 from rfl, Nat.testBit_two_pow_sub_one]
  rcases Nat.lt_or_ge i 10 with h1 | h1
  · rw [decide_eq_true (by omega : i < 32), Bool.xor_true]
  · rw [dg_tb_hi ha h1]; rfl
theorem dg_2 {v : Nat} (hv : v < 10) : 2 ^ v < 1024 := (Nat.pow_lt_pow_right (by decide) hv : 2 ^ v < 2 ^ 10)
theorem dg_or_lt {a b : Nat} (ha : a < 1024) (hb : b < 1024) : a ||| b < 1024 := Nat.or_lt_two_pow (n := 10) ha hb
theorem dg_and_lt {a b : Nat} (ha : a < 1024) : a &&& b < 1024 := Nat.lt_of_le_of_lt Nat.and_le_left ha
theorem dg_xor_lt {a b : Nat} (ha : a < 1024) (hb : b < 1024) : a ^^^ b < 1024 := Nat.xor_lt_two_pow (n := 10) ha hb
end
section
/-! the order above the edges, as both sides reckon it -/
/-- x with h w for every bit w of e among the k from a on -/
def dg_fo (h : Nat → Nat) (e x a : Nat) : Nat → Nat
  | 0 => x
  | k + 1 => if e.testBit (a + k) = true then dg_fo h e x a k ||| h (a + k) else dg_fo h e x a k
theorem dg_fo_congr {h h' : Nat → Nat} {e x a k : Nat} (H : ∀ w, a ≤ w → w < a + k → h w = h' w) : dg_fo h e x a k = dg_fo h' e x a k := by
  induction k with
  | zero => rfl
  | succ k ih => rw [dg_fo, dg_fo, ih (fun w h1 h2 => H w h1 (by omega)), H (a + k) (by omega) (by omega)]
theorem dg_fo_tb (h : Nat → Nat) (e x a k i : Nat) : (dg_fo h e x a k).testBit i = true ↔ (x.testBit i = true ∨ ∃ w, a ≤ w ∧ w < a + k ∧ e.testBit w = true ∧ (h w).testBit i = true) := by
  induction k with
  | zero =>
    rw [dg_fo]
    constructor
    · exact fun z => Or.inl z
    · rintro (z | ⟨w, h1, h2, _⟩)
      · exact z
      · omega
  | succ k ih =>
    rw [dg_fo]
    by_cases he : e.testBit (a + k) = true
    · rw [if_pos he, Nat.testBit_or, Bool.or_eq_true, ih]
      constructor
      · rintro ((z | ⟨w, h1, h2, h3, h4⟩) | z)
        · exact Or.inl z
        · exact Or.inr ⟨w, h1, by omega, h3, h4⟩
        · exact Or.inr ⟨a + k, by omega, by omega, he, z⟩
      · rintro (z | ⟨w, h1, h2, h3, h4⟩)
        · exact Or.inl (Or.inl z)
        · by_cases e1 : w = a + k
          · subst e1; exact Or.inr h4
          · exact Or.inl (Or.inr ⟨w, h1, by omega, h3, h4⟩)
    · rw [if_neg he, ih]
      constructor
      · rintro (z | ⟨w, h1, h2, h3, h4⟩)
        · exact Or.inl z
        · exact Or.inr ⟨w, h1, by omega, h3, h4⟩
      · rintro (z | ⟨w, h1, h2, h3, h4⟩)
        · exact Or.inl z
        · by_cases e1 : w = a + k
          · subst e1; exact absurd h3 he
          · exact Or.inr ⟨w, h1, by omega, h3, h4⟩
theorem dg_fo_lt {h : Nat → Nat} {e x a k : Nat} (hx : x < 1024) (hh : ∀ w, a ≤ w → w < a + k → h w < 1024) : dg_fo h e x a k < 1024 := by
  induction k with
  | zero => exact hx
  | succ k ih =>
    rw [dg_fo]
    by_cases he : e.testBit (a + k) = true
    · rw [if_pos he]; exact dg_or_lt (ih (fun w h1 h2 => hh w h1 (by omega))) (hh (a + k) (by omega) (by omega))
    · rw [if_neg he]; exact ih (fun w h1 h2 => hh w h1 (by omega))
def dg_Hf (E : Nat → Nat) : Nat → Nat → Nat
  | 0, _ => 0
  | k + 1, v => dg_fo (dg_Hf E k) (E v) (E v) (v + 1) (9 - v)
theorem dg_Hf_any (E : Nat → Nat) : ∀ k k' v, v < 10 → 10 ≤ v + k → 10 ≤ v + k' → dg_Hf E k v = dg_Hf E k' v := by
  intro k
  induction k with
  | zero => intro k' v h1 h2; omega
  | succ k ih =>
    intro k' v h1 h2 h3
    cases k' with
    | zero => omega
    | succ k' =>
      rw [dg_Hf, dg_Hf]
      exact dg_fo_congr (fun w h4 h5 => ih k' w (by omega) (by omega) (by omega))
def dg_H (E : Nat → Nat) (v : Nat) : Nat := dg_Hf E 10 v
theorem dg_H_eq (E : Nat → Nat) {v : Nat} (hv : v < 10) : dg_H E v = dg_fo (dg_H E) (E v) (E v) (v + 1) (9 - v) := by
  rw [dg_H, dg_Hf]
  exact dg_fo_congr (fun w h4 h5 => dg_Hf_any E 9 10 w (by omega) (by omega) (by omega))
/-- edges go to greater numbers -/
def dg_E (E : Nat → Nat) : Prop := ∀ v, v < 10 → E v < 1024 ∧ ∀ w, (E v).testBit w = true → v < w
theorem dg_H_all {E : Nat → Nat} (hE : dg_E E) : ∀ k v, v < 10 → 10 ≤ v + k → dg_H E v < 1024 ∧ ∀ w, (dg_H E v).testBit w = true → v < w := by
  intro k
  induction k with
  | zero => intro v h1 h2; omega
  | succ k ih =>
    intro v h1 h2
    rw [dg_H_eq E h1]
    refine ⟨dg_fo_lt (hE v h1).1 (fun w h3 h4 => (ih w (by omega) (by omega)).1), ?_⟩
    intro w hw
    rw [dg_fo_tb] at hw
    rcases hw with z | ⟨x, h3, h4, h5, h6⟩
    · exact (hE v h1).2 w z
    · have := (ih x (by omega) (by omega)).2 w h6
      omega
theorem dg_H_lt {E : Nat → Nat} (hE : dg_E E) {v : Nat} (hv : v < 10) : dg_H E v < 1024 := (dg_H_all hE 10 v hv (by omega)).1
theorem dg_H_up {E : Nat → Nat} (hE : dg_E E) {v w : Nat} (hv : v < 10) (h : (dg_H E v).testBit w = true) : v < w ∧ w < 10 := ⟨(dg_H_all hE 10 v hv (by omega)).2 w h, dg_tb_lt (dg_H_lt hE hv) h⟩
theorem dg_H_trA {E : Nat → Nat} (hE : dg_E E) : ∀ k v, v < 10 → 10 ≤ v + k → ∀ w i, (dg_H E v).testBit w = true → (dg_H E w).testBit i = true → (dg_H E v).testBit i = true := by
  intro k
  induction k with
  | zero => intro v h1 h2; omega
  | succ k ih =>
    intro v h1 h2 w i hw hi
    have hw2 := dg_H_up hE h1 hw
    rw [dg_H_eq E h1, dg_fo_tb] at hw
    rw [dg_H_eq E h1, dg_fo_tb]
    rcases hw with z | ⟨x, h3, h4, h5, h6⟩
    · exact Or.inr ⟨w, by omega, by omega, z, hi⟩
    · exact Or.inr ⟨x, h3, h4, h5, ih x (by omega) (by omega) w i h6 hi⟩
theorem dg_H_tr {E : Nat → Nat} (hE : dg_E E) {v w i : Nat} (hv : v < 10) (h1 : (dg_H E v).testBit w = true) (h2 : (dg_H E w).testBit i = true) : (dg_H E v).testBit i = true := dg_H_trA hE 10 v hv (by omega) w i h1 h2
end
section
/-! flows between earlier and later copies: value against covers; antichains -/
def dg_Flow (R : Nat → Nat → Prop) (c : Nat → Nat) (f : Nat → Nat → Nat) (ro ri : Nat → Nat) : Prop :=
  (∀ v, v < 10 → ro v + dg_S (fun w => f v w) 10 = c v) ∧ (∀ w, w < 10 → ri w + dg_S (fun v => f v w) 10 = c w) ∧ (∀ v w, v < 10 → w < 10 → 0 < f v w → R v w)
def dg_bs (p : Nat → Bool) (c : Nat → Nat) : Nat := dg_S (fun v => if p v = true then c v else 0) 10
def dg_Cut (R : Nat → Nat → Prop) (f : Nat → Nat → Nat) (ro ri : Nat → Nat) (A B : Nat → Bool) : Prop :=
  (∀ v, v < 10 → 0 < ro v → A v = true) ∧ (∀ v w, v < 10 → w < 10 → A v = true → R v w → B w = true) ∧ (∀ w, w < 10 → B w = true → ri w = 0) ∧ (∀ v w, v < 10 → w < 10 → B w = true → 0 < f v w → A v = true)
/-- M is the value of a flow that a cut stops -/
def dg_MF (R : Nat → Nat → Prop) (c : Nat → Nat) (M : Nat) : Prop :=
  ∃ (f : Nat → Nat → Nat) (ro ri : Nat → Nat) (A B : Nat → Bool), dg_Flow R c f ro ri ∧ M + dg_S ro 10 = dg_S c 10 ∧ dg_Cut R f ro ri A B
theorem dg_val {R : Nat → Nat → Prop} {c : Nat → Nat} {f : Nat → Nat → Nat} {ro ri : Nat → Nat} {M : Nat} (hF : dg_Flow R c f ro ri) (hM : M + dg_S ro 10 = dg_S c 10) : M = dg_S (fun v => dg_S (fun w => f v w) 10) 10 := by
  have e : dg_S c 10 = dg_S ro 10 + dg_S (fun v => dg_S (fun w => f v w) 10) 10 := by
    rw [← dg_S_add]
    exact dg_S_congr (fun i hi => (hF.1 i hi).symm)
  omega
theorem dg_weak {R : Nat → Nat → Prop} {c : Nat → Nat} {f : Nat → Nat → Nat} {ro ri : Nat → Nat} {M : Nat} (hF : dg_Flow R c f ro ri) (hM : M + dg_S ro 10 = dg_S c 10) {CO CI : Nat → Bool} (hC : ∀ v w, v < 10 → w < 10 → R v w → CO v = true ∨ CI w = true) : M ≤ dg_bs CO c + dg_bs CI c := by
  rw [dg_val hF hM]
  have h1 : dg_S (fun v => dg_S (fun w => f v w) 10) 10 ≤ dg_S (fun v => dg_S (fun w => (if CO v = true then f v w else 0) + (if CI w = true then f v w else 0)) 10) 10 := by
    apply dg_S_le
    intro v hv
    apply dg_S_le
    intro w hw
    by_cases h0 : f v w = 0
    · rw [h0]; exact Nat.zero_le _
    · rcases hC v w hv hw (hF.2.2 v w hv hw (by omega)) with z | z
      · rw [if_pos z]; exact Nat.le_add_right _ _
      · rw [if_pos z]; exact Nat.le_add_left _ _
  have h2 : dg_S (fun v => dg_S (fun w => (if CO v = true then f v w else 0) + (if CI w = true then f v w else 0)) 10) 10 = dg_S (fun v => dg_S (fun w => if CO v = true then f v w else 0) 10) 10 + dg_S (fun v => dg_S (fun w => if CI w = true then f v w else 0) 10) 10 := by
    rw [← dg_S_add]
    apply dg_S_congr
    intro v hv
    exact dg_S_add _ _ _
  have h3 : dg_S (fun v => dg_S (fun w => if CO v = true then f v w else 0) 10) 10 ≤ dg_bs CO c := by
    apply dg_S_le
    intro v hv
    by_cases z : CO v = true
    · have e : dg_S (fun w => if CO v = true then f v w else 0) 10 = dg_S (fun w => f v w) 10 := dg_S_congr (fun w _ => if_pos z)
      have := hF.1 v hv
      rw [e, if_pos z]; omega
    · have e : dg_S (fun w => if CO v = true then f v w else 0) 10 = 0 := dg_S_zero (fun w _ => if_neg z)
      rw [e]; exact Nat.zero_le _
  have h4 : dg_S (fun v => dg_S (fun w => if CI w = true then f v w else 0) 10) 10 ≤ dg_bs CI c := by
    rw [dg_S_comm]
    apply dg_S_le
    intro w hw
    by_cases z : CI w = true
    · have e : dg_S (fun v => if CI w = true then f v w else 0) 10 = dg_S (fun v => f v w) 10 := dg_S_congr (fun v _ => if_pos z)
      have := hF.2.1 w hw
      rw [e, if_pos z]; omega
    · have e : dg_S (fun v => if CI w = true then f v w else 0) 10 = 0 := dg_S_zero (fun v _ => if_neg z)
      rw [e]; exact Nat.zero_le _
  omega
theorem dg_strong {R : Nat → Nat → Prop} {c : Nat → Nat} {f : Nat → Nat → Nat} {ro ri : Nat → Nat} {M : Nat} {A B : Nat → Bool} (hF : dg_Flow R c f ro ri) (hM : M + dg_S ro 10 = dg_S c 10) (hC : dg_Cut R f ro ri A B) : dg_bs (fun v => !A v) c + dg_bs B c ≤ M := by
  have h3 : dg_bs (fun v => !A v) c = dg_S (fun v => if A v = true then 0 else dg_S (fun w => f v w) 10) 10 := by
    apply dg_S_congr
    intro v hv
    have h1 := hF.1 v hv
    have h2 := hC.1 v hv
    show (if (!A v) = true then c v else 0) = (if A v = true then 0 else dg_S (fun w => f v w) 10)
    cases e : A v with
    | true => rfl
    | false =>
      rw [e] at h2
      show c v = dg_S (fun w => f v w) 10
      have : ¬ 0 < ro v := fun z => absurd (h2 z) (by decide)
      omega
  have h4 : dg_bs B c = dg_S (fun w => dg_S (fun v => if B w = true then f v w else 0) 10) 10 := by
    apply dg_S_congr
    intro w hw
    by_cases z : B w = true
    · have e : dg_S (fun v => if B w = true then f v w else 0) 10 = dg_S (fun v => f v w) 10 := dg_S_congr (fun v _ => if_pos z)
      have h1 := hF.2.1 w hw
      have h2 := hC.2.2.1 w hw z
      rw [e, if_pos z]; omega
    · have e : dg_S (fun v => if B w = true then f v w else 0) 10 = 0 := dg_S_zero (fun v _ => if_neg z)
      rw [e, if_neg z]
  rw [dg_val hF hM, h3, h4, dg_S_comm, ← dg_S_add]
  apply dg_S_le
  intro v hv
  by_cases z : A v = true
  · rw [if_pos z, Nat.zero_add]
    apply dg_S_le
    intro w hw
    by_cases z2 : B w = true
    · rw [if_pos z2]; exact Nat.le_refl _
    · rw [if_neg z2]; exact Nat.zero_le _
  · have e : dg_S (fun w => if B w = true then f v w else 0) 10 = 0 := by
      apply dg_S_zero
      intro w hw
      by_cases z2 : B w = true
      · rw [if_pos z2]
        rcases Nat.eq_zero_or_pos (f v w) with z3 | z3
        · exact z3
        · exact absurd (hC.2.2.2 v w hv hw z2 z3) z
      · exact if_neg z2
    rw [if_neg z, e]; exact Nat.le_refl _
/-! ===== antichains ===== -/
def dg_R (S : Nat) (T : Nat → Nat) (v w : Nat) : Prop := S.testBit v = true ∧ S.testBit w = true ∧ (T v).testBit w = true
def dg_cap (S : Nat) (W : Nat → Nat) (v : Nat) : Nat := if S.testBit v = true then W v else 0
def dg_sub (p s : Nat) : Prop := ∀ v, p.testBit v = true → s.testBit v = true
def dg_An (H : Nat → Nat) (T : Nat) : Prop := ∀ v w, v < 10 → w < 10 → T.testBit v = true → T.testBit w = true → (H v).testBit w = false
theorem dg_anti_le {E : Nat → Nat} (hE : dg_E E) {S : Nat} {W : Nat → Nat} {M T : Nat} (hM : dg_MF (dg_R S (dg_H E)) (dg_cap S W) M) (hT : dg_sub T S) (hA : dg_An (dg_H E) T) : dg_w W T + M ≤ dg_w W S := by
  obtain ⟨f, ro, ri, _, _, hF, hV, _⟩ := hM
  have hco : ∀ v, decide (dg_H E v &&& T ≠ 0) = true ↔ ∃ t, (dg_H E v).testBit t = true ∧ T.testBit t = true := by
    intro v
    rw [decide_eq_true_iff]
    constructor
    · intro z
      obtain ⟨t, ht⟩ := Nat.exists_testBit_of_ne_zero z
      rw [Nat.testBit_and, Bool.and_eq_true] at ht
      exact ⟨t, ht⟩
    · rintro ⟨t, h1, h2⟩ z
      have : (dg_H E v &&& T).testBit t = true := by rw [Nat.testBit_and, h1, h2]; rfl
      rw [z, Nat.zero_testBit] at this
      exact absurd this (by decide)
  have h := dg_weak (CO := fun v => decide (dg_H E v &&& T ≠ 0)) (CI := fun v => !T.testBit v && !decide (dg_H E v &&& T ≠ 0)) hF hV (by
    intro v w hv hw hR
    by_cases z : decide (dg_H E v &&& T ≠ 0) = true
    · exact Or.inl z
    · refine Or.inr ?_
      have h1 : ¬ T.testBit w = true := fun y => z ((hco v).mpr ⟨w, hR.2.2, y⟩)
      have h2 : ¬ decide (dg_H E w &&& T ≠ 0) = true := by
        intro y
        obtain ⟨t, h3, h4⟩ := (hco w).mp y
        exact z ((hco v).mpr ⟨t, dg_H_tr hE hv hR.2.2 h3, h4⟩)
      show (!T.testBit w && !decide (dg_H E w &&& T ≠ 0)) = true
      rw [Bool.not_eq_true] at h1 h2
      rw [h1, h2]; rfl)
  have h2 : dg_w W T + (dg_bs (fun v => decide (dg_H E v &&& T ≠ 0)) (dg_cap S W) + dg_bs (fun v => !T.testBit v && !decide (dg_H E v &&& T ≠ 0)) (dg_cap S W)) ≤ dg_w W S := by
    rw [dg_w, dg_w, dg_bs, dg_bs, ← dg_S_add, ← dg_S_add]
    apply dg_S_le
    intro v hv
    rw [dg_cap]
    by_cases z : T.testBit v = true
    · have h3 : ¬ decide (dg_H E v &&& T ≠ 0) = true := by
        intro y
        obtain ⟨t, h4, h5⟩ := (hco v).mp y
        have := hA v t hv (dg_H_up hE hv h4).2 z h5
        rw [h4] at this
        exact absurd this (by decide)
      rw [Bool.not_eq_true] at h3
      rw [h3, z, hT v z]
      exact Nat.le_refl _
    · rw [Bool.not_eq_true] at z
      rw [z]
      cases decide (dg_H E v &&& T ≠ 0) <;> cases S.testBit v <;> simp
  omega
theorem dg_anti_ex {E : Nat → Nat} {S : Nat} {W : Nat → Nat} {M : Nat} (hM : dg_MF (dg_R S (dg_H E)) (dg_cap S W) M) : ∃ T, T < 1024 ∧ dg_sub T S ∧ dg_An (dg_H E) T ∧ dg_w W S ≤ dg_w W T + M := by
  obtain ⟨f, ro, ri, A, B, hF, hV, hC⟩ := hM
  have htb : ∀ v, (dg_mk (fun v => S.testBit v && (A v && !B v)) 10).testBit v = (decide (v < 10) && (S.testBit v && (A v && !B v))) := fun v => dg_mk_tb _ _ _
  refine ⟨dg_mk (fun v => S.testBit v && (A v && !B v)) 10, dg_mk_lt _ 10, ?_, ?_, ?_⟩
  · intro v hv
    rw [htb, Bool.and_eq_true, Bool.and_eq_true] at hv
    exact hv.2.1
  · intro v w hv hw h1 h2
    rw [htb, Bool.and_eq_true, Bool.and_eq_true, Bool.and_eq_true] at h1 h2
    cases e : (dg_H E v).testBit w with
    | false => rfl
    | true =>
      have h3 := hC.2.1 v w hv hw h1.2.2.1 ⟨h1.2.1, h2.2.1, e⟩
      have h4 := h2.2.2.2
      rw [h3] at h4
      exact absurd h4 (by decide)
  · have h := dg_strong hF hV hC
    have h2 : dg_w W S ≤ dg_w W (dg_mk (fun v => S.testBit v && (A v && !B v)) 10) + (dg_bs (fun v => !A v) (dg_cap S W) + dg_bs B (dg_cap S W)) := by
      rw [dg_w, dg_w, dg_bs, dg_bs, ← dg_S_add, ← dg_S_add]
      apply dg_S_le
      intro v hv
      rw [htb, dg_cap, decide_eq_true hv]
      cases S.testBit v <;> cases A v <;> cases B v <;> simp
    omega
end
section
/-! fewest rows that cover a set, against flows where each vertex counts once -/
def dg_row (T : Nat → Nat) (p : Nat) : Prop := ∀ u v, u < v → v < 10 → p.testBit u = true → p.testBit v = true → (∀ x, u < x → x < v → p.testBit x = false) → (T u).testBit v = true
def dg_low (s a : Nat) : Prop := s.testBit a = true ∧ ∀ u, u < a → s.testBit u = false
def dg_part (T : Nat → Nat) (s p : Nat) : Prop := dg_sub p s ∧ (∀ a, dg_low s a → p.testBit a = true) ∧ dg_row T p
def dg_Nd (T : Nat → Nat) (N : Nat → Nat) : Prop := N 0 = 0 ∧ ∀ s, 0 < s → s < 1024 →
  (N s = 11 ∨ ∃ p, dg_part T s p ∧ N s = N (dg_an s p) + 1) ∧ (∀ p, dg_part T s p → N s ≤ N (dg_an s p) + 1)
theorem dg_low_ex {s : Nat} (h : 0 < s) : ∃ a, dg_low s a := by
  obtain ⟨i, hi⟩ := Nat.exists_testBit_of_ne_zero (x := s) (by omega)
  obtain ⟨a, h1, h2⟩ := pk_least (fun i => s.testBit i = true) ⟨i, hi⟩
  exact ⟨a, h1, fun u hu => by have := h2 u hu; simpa using this⟩
theorem dg_sub_lt {p s : Nat} (hs : s < 1024) (h : dg_sub p s) : p < 1024 := by
  apply Nat.lt_of_le_of_lt _ hs
  exact Nat.le_of_testBit h
theorem dg_part_lt {T : Nat → Nat} {s p : Nat} (h0 : 0 < s) (hs : s < 1024) (h : dg_part T s p) : dg_an s p < s := by
  obtain ⟨a, ha⟩ := dg_low_ex h0
  rcases Nat.lt_or_ge (dg_an s p) s with z | z
  · exact z
  · have e : dg_an s p = s := Nat.le_antisymm (dg_an_le s p) z
    have h1 := dg_an_tb (b := p) hs a
    rw [e, ha.1, h.2.1 a ha] at h1
    exact absurd h1 (by decide)
def dg_1 : Nat → Nat := fun _ => 1
theorem dg_row_cov {T : Nat → Nat} {p : Nat} {CO CI : Nat → Bool} (hp : dg_row T p) (hC : ∀ v w, v < 10 → w < 10 → p.testBit v = true → p.testBit w = true → (T v).testBit w = true → CO v = true ∨ CI w = true) : ∀ k, k ≤ 10 → (dg_S (dg_cap p dg_1) k = 0 ∧ ∀ v, v < k → p.testBit v = false) ∨ (∃ l, l < k ∧ p.testBit l = true ∧ (∀ x, l < x → x < k → p.testBit x = false) ∧ dg_S (dg_cap p dg_1) k + (if CO l = true then 1 else 0) ≤ 1 + dg_S (fun v => if CO v = true then dg_cap p dg_1 v else 0) k + dg_S (fun v => if CI v = true then dg_cap p dg_1 v else 0) k) := by
  intro k
  induction k with
  | zero => exact fun _ => Or.inl ⟨rfl, fun v hv => by omega⟩
  | succ k ih =>
    intro hk
    rw [dg_S_s, dg_S_s, dg_S_s]
    cases e : p.testBit k with
    | false =>
      have e1 : dg_cap p dg_1 k = 0 := if_neg (by rw [e]; decide)
      rcases ih (by omega) with ⟨h1, h2⟩ | ⟨l, h1, h2, h3, h4⟩
      · refine Or.inl ⟨by omega, fun v hv => ?_⟩
        rcases Nat.lt_or_ge v k with z | z
        · exact h2 v z
        · rw [show v = k by omega]; exact e
      · refine Or.inr ⟨l, by omega, h2, fun x hx hx2 => ?_, ?_⟩
        · rcases Nat.lt_or_ge x k with z | z
          · exact h3 x hx z
          · rw [show x = k by omega]; exact e
        · rw [e1]; omega
    | true =>
      have e1 : dg_cap p dg_1 k = 1 := if_pos e
      refine Or.inr ⟨k, by omega, e, fun x hx hx2 => by omega, ?_⟩
      rw [e1]
      rcases ih (by omega) with ⟨h1, h2⟩ | ⟨l, h1, h2, h3, h4⟩
      · omega
      · have h5 := hC l k (by omega) (by omega) h2 e (hp l k h1 (by omega) h2 e h3)
        rcases h5 with z | z
        · rw [if_pos z] at h4; omega
        · rw [if_pos z]; omega
theorem dg_w_cap (s : Nat) : dg_w dg_1 s = dg_S (dg_cap s dg_1) 10 := rfl
theorem dg_bs_an (C : Nat → Bool) {s p : Nat} (hs : s < 1024) (h : dg_sub p s) : dg_bs C (dg_cap s dg_1) = dg_bs C (dg_cap p dg_1) + dg_bs C (dg_cap (dg_an s p) dg_1) := by
  rw [dg_bs, dg_bs, dg_bs, ← dg_S_add]
  apply dg_S_congr
  intro i hi
  rw [dg_cap, dg_cap, dg_cap, dg_an_tb hs]
  have := h i
  cases e1 : s.testBit i <;> cases e2 : p.testBit i <;> cases C i <;> simp_all
theorem dg_need_lb {T N : Nat → Nat} {S : Nat} (hN : dg_Nd T N) {CO CI : Nat → Bool} (hC : ∀ v w, v < 10 → w < 10 → dg_R S T v w → CO v = true ∨ CI w = true) : ∀ k s, s < k → s < 1024 → dg_sub s S → dg_w dg_1 s ≤ N s + (dg_bs CO (dg_cap s dg_1) + dg_bs CI (dg_cap s dg_1)) := by
  intro k
  induction k with
  | zero => intro s h; omega
  | succ k ih =>
    intro s hk hs hS
    rcases Nat.eq_zero_or_pos s with z | z
    · subst z; rw [dg_w_0]; exact Nat.zero_le _
    · have hn := (hN.2 s z hs).1
      rcases hn with hn | ⟨p, hp, hn⟩
      · have : dg_w dg_1 s ≤ 10 * 1 := dg_w_ub (fun _ _ => Nat.le_refl _)
        omega
      · have hl := dg_part_lt z hs hp
        have h1 := ih (dg_an s p) (by omega) (by omega) (fun v hv => by
          rw [dg_an_tb hs, Bool.and_eq_true] at hv; exact hS v hv.1)
        have h2 := dg_w_an dg_1 hs (fun v _ => hp.1 v)
        have h3 := dg_bs_an CO hs hp.1
        have h4 := dg_bs_an CI hs hp.1
        have h5 := dg_row_cov (CO := CO) (CI := CI) hp.2.2 (fun v w hv hw p1 p2 h => hC v w hv hw ⟨hS v (hp.1 v p1), hS w (hp.1 w p2), h⟩) 10 (Nat.le_refl _)
        have h6 : dg_w dg_1 p ≤ 1 + dg_bs CO (dg_cap p dg_1) + dg_bs CI (dg_cap p dg_1) := by
          rw [dg_w_cap, dg_bs, dg_bs]
          rcases h5 with ⟨h5, _⟩ | ⟨l, _, _, _, h5⟩
          · omega
          · omega
        omega
/-- the last vertex of the chain from a, below k -/
def dg_ch (f : Nat → Nat → Nat) (s a : Nat) : Nat → Nat
  | 0 => a
  | k + 1 => if s.testBit k = true ∧ 0 < f (dg_ch f s a k) k then k else dg_ch f s a k
def dg_chp (f : Nat → Nat → Nat) (s a k : Nat) : Bool := decide (k = a) || (s.testBit k && decide (0 < f (dg_ch f s a k) k))
theorem dg_chp_iff (f : Nat → Nat → Nat) (s a k : Nat) : dg_chp f s a k = true ↔ (k = a ∨ (s.testBit k = true ∧ 0 < f (dg_ch f s a k) k)) := by
  rw [dg_chp, Bool.or_eq_true, Bool.and_eq_true, decide_eq_true_iff, decide_eq_true_iff]
theorem dg_ch_lo {f : Nat → Nat → Nat} {s a : Nat} (hf : ∀ u v, v < 10 → 0 < f u v → u < v) (ha : a < 10) : ∀ k, k ≤ a + 1 → dg_ch f s a k = a := by
  intro k
  induction k with
  | zero => exact fun _ => rfl
  | succ k ih =>
    intro hk
    rw [dg_ch, ih (by omega)]
    apply if_neg
    rintro ⟨_, h⟩
    have := hf a k (by omega) h
    omega
theorem dg_ch_hi {f : Nat → Nat → Nat} {s a : Nat} (hf : ∀ u v, v < 10 → 0 < f u v → u < v) (ha : a < 10) : ∀ k, a < k → k ≤ 10 → a ≤ dg_ch f s a k ∧ dg_ch f s a k < k ∧ dg_chp f s a (dg_ch f s a k) = true ∧ ∀ x, dg_ch f s a k < x → x < k → dg_chp f s a x = false := by
  intro k
  induction k with
  | zero => intro h; omega
  | succ k ih =>
    intro h1 h2
    rcases Nat.lt_or_ge a k with h3 | h3
    · have h4 := ih h3 (by omega)
      rw [dg_ch]
      by_cases hc : s.testBit k = true ∧ 0 < f (dg_ch f s a k) k
      · rw [if_pos hc]
        exact ⟨by omega, by omega, (dg_chp_iff f s a k).mpr (Or.inr hc), fun x _ _ => by omega⟩
      · rw [if_neg hc]
        refine ⟨h4.1, by omega, h4.2.2.1, fun x hx hx2 => ?_⟩
        rcases Nat.lt_or_ge x k with z | z
        · exact h4.2.2.2 x hx z
        · have e : x = k := by omega
          subst e
          cases e2 : dg_chp f s a x with
          | false => rfl
          | true =>
            rcases (dg_chp_iff f s a x).mp e2 with y | y
            · omega
            · exact absurd y hc
    · have e : k = a := by omega
      subst e
      rw [dg_ch_lo hf ha (k + 1) (Nat.le_refl _)]
      exact ⟨Nat.le_refl _, by omega, (dg_chp_iff f s k k).mpr (Or.inl rfl), fun x _ _ => by omega⟩
theorem dg_ch_ge {f : Nat → Nat → Nat} {s a : Nat} (hf : ∀ u v, v < 10 → 0 < f u v → u < v) (ha : a < 10) {k : Nat} (hk : k < 10) (h : dg_chp f s a k = true) : a ≤ k := by
  rcases (dg_chp_iff f s a k).mp h with y | y
  · omega
  · rcases Nat.lt_or_ge k a with z | z
    · rw [dg_ch_lo hf ha k (by omega)] at y
      have := hf a k hk y.2
      omega
    · exact z
theorem dg_ch_next {f : Nat → Nat → Nat} {s a : Nat} (hf : ∀ u v, v < 10 → 0 < f u v → u < v) (ha : a < 10) {v : Nat} (hv : v < 10) (h : dg_chp f s a v = true) : ∀ k, v < k → k ≤ 10 → dg_ch f s a k = v ∨ ∃ x, x < k ∧ 0 < f v x := by
  intro k
  induction k with
  | zero => intro h; omega
  | succ k ih =>
    intro h1 h2
    rw [dg_ch]
    rcases Nat.lt_or_ge v k with h3 | h3
    · rcases ih h3 (by omega) with h4 | ⟨x, h4, h5⟩
      · by_cases hc : s.testBit k = true ∧ 0 < f (dg_ch f s a k) k
        · rw [h4] at hc
          exact Or.inr ⟨k, by omega, hc.2⟩
        · rw [if_neg hc]; exact Or.inl h4
      · exact Or.inr ⟨x, by omega, h5⟩
    · have e : k = v := by omega
      subst e
      left
      rcases (dg_chp_iff f s a k).mp h with y | y
      · subst y
        have := dg_ch_lo (f := f) (s := s) hf ha (k + 1) (Nat.le_refl _)
        rw [dg_ch] at this
        exact this
      · exact if_pos y
def dg_F (f : Nat → Nat → Nat) (s : Nat) : Nat := dg_S (fun w => if s.testBit w = true then dg_S (fun v => if s.testBit v = true then f v w else 0) 10 else 0) 10
theorem dg_need_ub {T N : Nat → Nat} (hN : dg_Nd T N) {f : Nat → Nat → Nat} (hf : ∀ u v, v < 10 → 0 < f u v → u < v) (hT : ∀ u v, u < 10 → v < 10 → 0 < f u v → (T u).testBit v = true) (hr : ∀ v, v < 10 → dg_S (fun w => f v w) 10 ≤ 1) (hc : ∀ w, w < 10 → dg_S (fun v => f v w) 10 ≤ 1) : ∀ k s, s < k → s < 1024 → N s + dg_F f s ≤ dg_w dg_1 s := by
  intro k
  induction k with
  | zero => intro s h; omega
  | succ k ih =>
    intro s hk hs
    rcases Nat.eq_zero_or_pos s with z | z
    · subst z
      rw [hN.1, dg_F, dg_S_zero (fun w _ => by rw [Nat.zero_testBit]; rfl)]
      exact Nat.zero_le _
    · obtain ⟨a, ha⟩ := dg_low_ex z
      have ha10 : a < 10 := dg_tb_lt hs ha.1
      have htb : ∀ v, (dg_mk (dg_chp f s a) 10).testBit v = (decide (v < 10) && dg_chp f s a v) := fun v => dg_mk_tb _ _ _
      have htb2 : ∀ v, v < 10 → (dg_mk (dg_chp f s a) 10).testBit v = dg_chp f s a v := fun v hv => by rw [htb, decide_eq_true hv, Bool.true_and]
      have hsub : dg_sub (dg_mk (dg_chp f s a) 10) s := by
        intro v hv
        rw [htb, Bool.and_eq_true] at hv
        rcases (dg_chp_iff f s a v).mp hv.2 with y | y
        · rw [y]; exact ha.1
        · exact y.1
      have hrow : dg_row T (dg_mk (dg_chp f s a) 10) := by
        intro u v huv hv pu pv hb
        rw [htb2 u (by omega)] at pu
        rw [htb2 v hv] at pv
        have hau := dg_ch_ge hf ha10 (by omega) pu
        rcases (dg_chp_iff f s a v).mp pv with y | y
        · omega
        · have h4 := dg_ch_hi (s := s) hf ha10 v (by omega) (by omega)
          have e : dg_ch f s a v = u := by
            rcases Nat.lt_trichotomy (dg_ch f s a v) u with q | q | q
            · have := h4.2.2.2 u q huv
              rw [pu] at this; exact absurd this (by decide)
            · exact q
            · have := hb _ q h4.2.1
              rw [htb2 _ (by omega), h4.2.2.1] at this
              exact absurd this (by decide)
          rw [e] at y
          exact hT u v (by omega) hv y.2
      have hpart : dg_part T s (dg_mk (dg_chp f s a) 10) := by
        refine ⟨hsub, fun b hb => ?_, hrow⟩
        have e : b = a := by
          rcases Nat.lt_trichotomy b a with q | q | q
          · have := ha.2 b q
            rw [hb.1] at this; exact absurd this (by decide)
          · exact q
          · have := hb.2 a q
            rw [ha.1] at this; exact absurd this (by decide)
        rw [e, htb2 a ha10]
        exact (dg_chp_iff f s a a).mpr (Or.inl rfl)
      have hl := dg_part_lt z hs hpart
      have h1 := ih (dg_an s (dg_mk (dg_chp f s a) 10)) (by omega) (by omega)
      have h2 := dg_w_an dg_1 hs (fun v _ => hsub v)
      have h3 := (hN.2 s z hs).2 _ hpart
      have hout : ∀ v w, v < 10 → w < 10 → dg_chp f s a v = true → s.testBit w = true → dg_chp f s a w = false → f v w = 0 := by
        intro v w hv hw pv sw pw
        rcases Nat.eq_zero_or_pos (f v w) with q | q
        · exact q
        · exfalso
          have hvw := hf v w hw q
          rcases dg_ch_next (s := s) hf ha10 hv pv w hvw (by omega) with y | ⟨x, hx, y⟩
          · have : dg_chp f s a w = true := (dg_chp_iff f s a w).mpr (Or.inr ⟨sw, by rw [y]; exact q⟩)
            rw [pw] at this; exact absurd this (by decide)
          · have h5 := dg_S_two (f := fun w => f v w) (n := 10) (i := x) (j := w) (by omega) hw (by omega)
            have h6 := hr v hv
            omega
      have hF : dg_F f s + 1 ≤ dg_F f (dg_an s (dg_mk (dg_chp f s a) 10)) + dg_w dg_1 (dg_mk (dg_chp f s a) 10) := by
        have h5 : 1 ≤ dg_S (fun w => if w = a then 1 else 0) 10 := by
          have := dg_S_le1 (f := fun w => if w = a then 1 else 0) ha10
          rw [if_pos rfl] at this
          exact this
        have h6 : dg_S (fun w => (if s.testBit w = true then dg_S (fun v => if s.testBit v = true then f v w else 0) 10 else 0) + (if w = a then 1 else 0)) 10 ≤ dg_F f (dg_an s (dg_mk (dg_chp f s a) 10)) + dg_w dg_1 (dg_mk (dg_chp f s a) 10) := by
          rw [dg_F, dg_w, ← dg_S_add]
          apply dg_S_le
          intro w hw
          rw [dg_an_tb hs, htb2 w hw]
          by_cases ea : w = a
          · subst ea
            have e1 : dg_S (fun v => if s.testBit v = true then f v w else 0) 10 = 0 := by
              apply dg_S_zero
              intro v hv
              by_cases sv : s.testBit v = true
              · rw [if_pos sv]
                rcases Nat.eq_zero_or_pos (f v w) with q | q
                · exact q
                · have := ha.2 v (hf v w hw q)
                  rw [sv] at this; exact absurd this (by decide)
              · exact if_neg sv
            rw [e1, (dg_chp_iff f s w w).mpr (Or.inl rfl), ha.1]
            simp [dg_1]
          · rw [if_neg ea]
            cases sw : s.testBit w with
            | false => simp
            | true =>
              cases pw : dg_chp f s a w with
              | true =>
                have h7 : dg_S (fun v => if s.testBit v = true then f v w else 0) 10 ≤ 1 := by
                  refine Nat.le_trans (dg_S_le (fun v _ => ?_)) (hc w hw)
                  by_cases sv : s.testBit v = true
                  · rw [if_pos sv]; exact Nat.le_refl _
                  · rw [if_neg sv]; exact Nat.zero_le _
                simpa [dg_1] using h7
              | false =>
                have h7 : dg_S (fun v => if s.testBit v = true then f v w else 0) 10 ≤ dg_S (fun v => if (dg_an s (dg_mk (dg_chp f s a) 10)).testBit v = true then f v w else 0) 10 := by
                  apply dg_S_le
                  intro v hv
                  rw [dg_an_tb hs, htb2 v hv]
                  cases sv : s.testBit v with
                  | false => simp
                  | true =>
                    cases pv : dg_chp f s a v with
                    | false => simp
                    | true => rw [hout v w hv hw pv sw pw]; simp
                simpa using h7
        rw [dg_S_add] at h6
        have e9 : dg_F f s = dg_S (fun w => if s.testBit w = true then dg_S (fun v => if s.testBit v = true then f v w else 0) 10 else 0) 10 := rfl
        omega
      omega
theorem dg_paths {T N : Nat → Nat} {S M : Nat} (hT : dg_E T) (hS : S < 1024) (hM : dg_MF (dg_R S T) (dg_cap S dg_1) M) (hN : dg_Nd T N) : dg_w dg_1 S = N S + M := by
  obtain ⟨f, ro, ri, A, B, hF, hV, hC⟩ := hM
  have h1 := dg_strong hF hV hC
  have h2 := dg_need_lb (S := S) (CO := fun v => !A v) (CI := B) hN (by
    intro v w hv hw hR
    cases e : A v with
    | false => exact Or.inl rfl
    | true => exact Or.inr (hC.2.1 v w hv hw e hR)) (S + 1) S (by omega) hS (fun _ z => z)
  have hcap : ∀ v, dg_cap S dg_1 v ≤ 1 := by
    intro v
    rw [dg_cap]
    by_cases z : S.testBit v = true
    · rw [if_pos z]; exact Nat.le_refl _
    · rw [if_neg z]; exact Nat.zero_le _
  have h3 := dg_need_ub (f := fun v w => if v < 10 ∧ w < 10 then f v w else 0) hN (by
    intro u v hv h
    by_cases z : u < 10 ∧ v < 10
    · rw [if_pos z] at h
      exact (hT u z.1).2 v (hF.2.2 u v z.1 z.2 h).2.2
    · rw [if_neg z] at h; omega) (by
    intro u v hu hv h
    rw [if_pos ⟨hu, hv⟩] at h
    exact (hF.2.2 u v hu hv h).2.2) (by
    intro v hv
    have e : dg_S (fun w => if v < 10 ∧ w < 10 then f v w else 0) 10 = dg_S (fun w => f v w) 10 := dg_S_congr (fun w hw => if_pos ⟨hv, hw⟩)
    have := hF.1 v hv
    have := hcap v
    rw [e]; omega) (by
    intro w hw
    have e : dg_S (fun v => if v < 10 ∧ w < 10 then f v w else 0) 10 = dg_S (fun v => f v w) 10 := dg_S_congr (fun v hv => if_pos ⟨hv, hw⟩)
    have := hF.2.1 w hw
    have := hcap w
    rw [e]; omega) (S + 1) S (by omega) hS
  have h4 : dg_F (fun v w => if v < 10 ∧ w < 10 then f v w else 0) S = M := by
    rw [dg_val hF hV, dg_S_comm, dg_F]
    apply dg_S_congr
    intro w hw
    by_cases sw : S.testBit w = true
    · rw [if_pos sw]
      apply dg_S_congr
      intro v hv
      by_cases sv : S.testBit v = true
      · rw [if_pos sv, if_pos ⟨hv, hw⟩]
      · rw [if_neg sv]
        rcases Nat.eq_zero_or_pos (f v w) with q | q
        · exact q.symm
        · exact absurd (hF.2.2 v w hv hw q).1 sv
    · rw [if_neg sw]
      symm
      apply dg_S_zero
      intro v hv
      rcases Nat.eq_zero_or_pos (f v w) with q | q
      · exact q
      · exact absurd (hF.2.2 v w hv hw q).2.1 sw
  omega
end
section
/-! submasks in falling order; the greatest value; the least greatest antichain; how many antichains; the best chain -/
theorem dg_sub_and {p s : Nat} (h : dg_sub p s) : p &&& s = p := by
  apply Nat.eq_of_testBit_eq
  intro i
  rw [Nat.testBit_and]
  have := h i
  cases e : p.testBit i with
  | false => rfl
  | true => rw [this e]; rfl
theorem dg_sub_iff {p s : Nat} : dg_sub p s ↔ p &&& s = p := by
  refine ⟨dg_sub_and, fun h v hv => ?_⟩
  rw [← h, Nat.testBit_and, Bool.and_eq_true] at hv
  exact hv.2
theorem dg_submask : ∀ (n part p set : Nat), part ≤ n → dg_sub part set → dg_sub p set → p < part → p ≤ (part - 1) &&& set := by
  intro n
  induction n with
  | zero => intro part p set h1 _ _ h2; omega
  | succ n ih =>
    intro part p set h1 hs hp h2
    rcases Nat.mod_two_eq_zero_or_one part with e | e
    · have hd : ((part - 1) &&& set) / 2 = (part - 1) / 2 &&& set / 2 := Nat.and_div_two
      have hm : ((part - 1) &&& set) % 2 = set % 2 := by
        have h3 := Nat.testBit_and (part - 1) set 0
        rw [Nat.testBit_zero, Nat.testBit_zero, Nat.testBit_zero, decide_eq_true (by omega : (part - 1) % 2 = 1), Bool.true_and, decide_eq_decide] at h3
        omega
      have h3 := ih (part / 2) (p / 2) (set / 2) (by omega) (fun v hv => by
        rw [Nat.testBit_div_two] at hv ⊢; exact hs _ hv) (fun v hv => by
        rw [Nat.testBit_div_two] at hv ⊢; exact hp _ hv) (by omega)
      rw [show part / 2 - 1 = (part - 1) / 2 by omega, ← hd] at h3
      have h4 : p % 2 ≤ set % 2 := by
        have h5 := hp 0
        rw [Nat.testBit_zero, Nat.testBit_zero, decide_eq_true_iff, decide_eq_true_iff] at h5
        omega
      omega
    · have h3 : dg_sub (part - 1) set := by
        intro v hv
        cases v with
        | zero =>
          rw [Nat.testBit_zero, decide_eq_true_iff] at hv
          omega
        | succ v =>
          rw [Nat.testBit_add_one, show (part - 1) / 2 = part / 2 by omega, ← Nat.testBit_add_one] at hv
          exact hs _ hv
      rw [dg_sub_and h3]; omega
/-- k is the greatest of g over the sets with P, or 0 -/
def dg_Mx (P : Nat → Prop) (g : Nat → Nat) (k : Nat) : Prop := (k = 0 ∨ ∃ T, T < 1024 ∧ P T ∧ g T = k) ∧ ∀ T, T < 1024 → P T → g T ≤ k
theorem dg_Mx_eq {P : Nat → Prop} {g : Nat → Nat} {k k' : Nat} (h : dg_Mx P g k) (h' : dg_Mx P g k') : k = k' := by
  have h1 : k ≤ k' := by
    rcases h.1 with z | ⟨T, t1, t2, t3⟩
    · omega
    · have := h'.2 T t1 t2; omega
  have h2 : k' ≤ k := by
    rcases h'.1 with z | ⟨T, t1, t2, t3⟩
    · omega
    · have := h.2 T t1 t2; omega
  omega
/-- antichains within F -/
def dg_AF (E : Nat → Nat) (F T : Nat) : Prop := dg_sub T F ∧ dg_An (dg_H E) T
theorem dg_wid {E : Nat → Nat} (hE : dg_E E) {S : Nat} {W : Nat → Nat} {M : Nat} (hM : dg_MF (dg_R S (dg_H E)) (dg_cap S W) M) : M ≤ dg_w W S ∧ dg_Mx (dg_AF E S) (dg_w W) (dg_w W S - M) := by
  obtain ⟨T, t1, t2, t3, t4⟩ := dg_anti_ex hM
  have h1 := dg_anti_le hE hM t2 t3
  refine ⟨by omega, Or.inr ⟨T, t1, ⟨t2, t3⟩, by omega⟩, fun T' t5 t6 => ?_⟩
  have := dg_anti_le hE hM t6.1 t6.2
  omega
/-! ===== the least greatest antichain ===== -/
def dg_Best (E : Nat → Nat) (on most A : Nat) : Prop := A < 1024 ∧ dg_AF E on A ∧ dg_w dg_1 A = most ∧ ∀ T, T < 1024 → dg_AF E on T → dg_w dg_1 T = most → A ≤ T
def dg_GI (E : Nat → Nat) (on A v tk fr : Nat) : Prop := tk < 1024 ∧ fr < 1024 ∧ (∀ i, tk.testBit i = (A.testBit i && decide (v ≤ i))) ∧ (∀ i, fr.testBit i = true ↔ (i < v ∧ on.testBit i = true ∧ ∀ t, tk.testBit t = true → (dg_H E i).testBit t = false ∧ (dg_H E t).testBit i = false))
theorem dg_G0 {E : Nat → Nat} {on A : Nat} (hon : on < 1024) (hA : A < 1024) : dg_GI E on A 10 0 on := by
  refine ⟨by decide, hon, fun i => ?_, fun i => ?_⟩
  · rw [Nat.zero_testBit]
    rcases Nat.lt_or_ge i 10 with h | h
    · rw [decide_eq_false (by omega), Bool.and_false]
    · rw [dg_tb_hi hA h, Bool.false_and]
  · constructor
    · intro z
      exact ⟨dg_tb_lt hon z, z, fun t ht => by rw [Nat.zero_testBit] at ht; exact absurd ht (by decide)⟩
    · exact fun z => z.2.1
theorem dg_tk_A {A v tk : Nat} (h : ∀ i, tk.testBit i = (A.testBit i && decide (v ≤ i))) {t : Nat} (ht : tk.testBit t = true) : A.testBit t = true ∧ v ≤ t := by
  rw [h t, Bool.and_eq_true, decide_eq_true_iff] at ht
  exact ht
/-- not free: not in the best one -/
theorem dg_G1 {E : Nat → Nat} {on most A v tk fr : Nat} (hA : dg_Best E on most A) (h : dg_GI E on A (v + 1) tk fr) (hv : v < 10) (hf : fr.testBit v = false) : A.testBit v = false := by
  cases e : A.testBit v with
  | false => rfl
  | true =>
    have : fr.testBit v = true := (h.2.2.2 v).mpr ⟨by omega, hA.2.1.1 v e, fun t ht => by
      have h1 := dg_tk_A h.2.2.1 ht
      have h2 : t < 10 := dg_tb_lt h.1 ht
      exact ⟨hA.2.1.2 v t hv h2 e h1.1, hA.2.1.2 t v h2 hv h1.1 e⟩⟩
    rw [hf] at this; exact absurd this (by decide)
theorem dg_fr_tb {fr v : Nat} (hf : fr < 1024) (i : Nat) : (dg_an fr (2 ^ v)).testBit i = (fr.testBit i && !decide (v = i)) := by
  rw [dg_an_tb hf, Nat.testBit_two_pow]
theorem dg_fr_iff {fr v : Nat} (hf : fr < 1024) (i : Nat) : (dg_an fr (2 ^ v)).testBit i = true ↔ (fr.testBit i = true ∧ v ≠ i) := by
  rw [dg_fr_tb hf, Bool.and_eq_true, Bool.not_eq_true', decide_eq_false_iff_not]
theorem dg_w_disj {A B U : Nat} (h : ∀ i, i < 10 → U.testBit i = (A.testBit i || B.testBit i)) (hd : ∀ i, i < 10 → A.testBit i = true → B.testBit i = false) : dg_w dg_1 U = dg_w dg_1 A + dg_w dg_1 B := by
  rw [dg_w, dg_w, dg_w, ← dg_S_add]
  apply dg_S_congr
  intro i hi
  rw [h i hi]
  have := hd i hi
  cases e1 : A.testBit i <;> cases e2 : B.testBit i <;> simp_all
theorem dg_G2 {E : Nat → Nat} {on most A v tk fr k : Nat} (hm : dg_Mx (dg_AF E on) (dg_w dg_1) most) (hA : dg_Best E on most A) (h : dg_GI E on A (v + 1) tk fr) (hv : v < 10) (hk : dg_Mx (dg_AF E (dg_an fr (2 ^ v))) (dg_w dg_1) k) (hl : most ≤ dg_w dg_1 tk + k) : A.testBit v = false := by
  obtain ⟨Q, q1, ⟨q2, q3⟩, q4⟩ : ∃ Q, Q < 1024 ∧ dg_AF E (dg_an fr (2 ^ v)) Q ∧ dg_w dg_1 Q = k := by
    rcases hk.1 with z | z
    · refine ⟨0, by decide, ⟨fun i hi => ?_, fun a b _ _ hi => ?_⟩, ?_⟩
      · rw [Nat.zero_testBit] at hi; exact absurd hi (by decide)
      · rw [Nat.zero_testBit] at hi; exact absurd hi (by decide)
      · rw [dg_w_0, z]
    · exact z
  have hQ : ∀ i, Q.testBit i = true → i < v ∧ on.testBit i = true ∧ ∀ t, tk.testBit t = true → (dg_H E i).testBit t = false ∧ (dg_H E t).testBit i = false := by
    intro i hi
    have h1 := (dg_fr_iff h.2.1 i).mp (q2 i hi)
    have h2 := (h.2.2.2 i).mp h1.1
    exact ⟨by omega, h2.2⟩
  have hU : ∀ i, (tk ||| Q).testBit i = (tk.testBit i || Q.testBit i) := fun i => Nat.testBit_or _ _ _
  have hUlt : tk ||| Q < 1024 := dg_or_lt h.1 q1
  have hUA : dg_AF E on (tk ||| Q) := by
    constructor
    · intro i hi
      rw [hU, Bool.or_eq_true] at hi
      rcases hi with z | z
      · exact hA.2.1.1 i (dg_tk_A h.2.2.1 z).1
      · exact (hQ i z).2.1
    · intro a b ha hb h1 h2
      rw [hU, Bool.or_eq_true] at h1 h2
      rcases h1 with z1 | z1 <;> rcases h2 with z2 | z2
      · exact hA.2.1.2 a b ha hb (dg_tk_A h.2.2.1 z1).1 (dg_tk_A h.2.2.1 z2).1
      · exact ((hQ b z2).2.2 a z1).2
      · exact ((hQ a z1).2.2 b z2).1
      · exact q3 a b ha hb z1 z2
  have hUw : dg_w dg_1 (tk ||| Q) = dg_w dg_1 tk + dg_w dg_1 Q := by
    apply dg_w_disj (fun i _ => hU i)
    intro i _ hi
    cases e : Q.testBit i with
    | false => rfl
    | true =>
      have h1 := (hQ i e).1
      have h2 := (dg_tk_A h.2.2.1 hi).2
      omega
  have hUm := hm.2 _ hUlt hUA
  have hle := hA.2.2.2 _ hUlt hUA (by omega)
  cases e : A.testBit v with
  | false => rfl
  | true =>
    have hlt : tk ||| Q < A := by
      apply dg_lt_tb (v := v) _ e
      · intro j hj
        rw [hU, h.2.2.1 j, decide_eq_true (by omega : v + 1 ≤ j), Bool.and_true]
        cases e2 : Q.testBit j with
        | false => rw [Bool.or_false]
        | true => have := (hQ j e2).1; omega
      · rw [hU, h.2.2.1 v, decide_eq_false (by omega : ¬ v + 1 ≤ v), Bool.and_false, Bool.false_or]
        cases e2 : Q.testBit v with
        | false => rfl
        | true => have := (hQ v e2).1; omega
    omega
theorem dg_G3 {E : Nat → Nat} {on most A v tk fr k : Nat} (hA : dg_Best E on most A) (h : dg_GI E on A (v + 1) tk fr) (hv : v < 10) (hk : dg_Mx (dg_AF E (dg_an fr (2 ^ v))) (dg_w dg_1) k) (hl : dg_w dg_1 tk + k < most) : A.testBit v = true := by
  cases e : A.testBit v with
  | true => rfl
  | false =>
    exfalso
    have htb : ∀ i, (dg_mk (fun i => A.testBit i && decide (i < v)) 10).testBit i = (decide (i < 10) && (A.testBit i && decide (i < v))) := fun i => dg_mk_tb _ _ _
    have hQ : ∀ i, (dg_mk (fun i => A.testBit i && decide (i < v)) 10).testBit i = true → i < 10 ∧ A.testBit i = true ∧ i < v := by
      intro i hi
      rw [htb, Bool.and_eq_true, Bool.and_eq_true, decide_eq_true_iff, decide_eq_true_iff] at hi
      exact hi
    have h1 := hk.2 (dg_mk (fun i => A.testBit i && decide (i < v)) 10) (dg_mk_lt _ 10) (by
      constructor
      · intro i hi
        obtain ⟨i1, i2, i3⟩ := hQ i hi
        rw [dg_fr_iff h.2.1]
        refine ⟨(h.2.2.2 i).mpr ⟨by omega, hA.2.1.1 i i2, fun t ht => ?_⟩, by omega⟩
        have h1 := dg_tk_A h.2.2.1 ht
        have h2 : t < 10 := dg_tb_lt h.1 ht
        exact ⟨hA.2.1.2 i t i1 h2 i2 h1.1, hA.2.1.2 t i h2 i1 h1.1 i2⟩
      · intro a b ha hb p q
        exact hA.2.1.2 a b ha hb (hQ a p).2.1 (hQ b q).2.1)
    have h2 : dg_w dg_1 A = dg_w dg_1 tk + dg_w dg_1 (dg_mk (fun i => A.testBit i && decide (i < v)) 10) := by
      apply dg_w_disj
      · intro i hi
        rw [htb, h.2.2.1 i, decide_eq_true hi, Bool.true_and]
        rcases Nat.lt_trichotomy i v with z | z | z
        · rw [decide_eq_true z, decide_eq_false (by omega : ¬ v + 1 ≤ i)]
          cases A.testBit i <;> rfl
        · rw [z, e]; rfl
        · rw [decide_eq_false (by omega : ¬ i < v), decide_eq_true (by omega : v + 1 ≤ i)]
          cases A.testBit i <;> rfl
      · intro i hi ht
        have := (dg_tk_A h.2.2.1 ht).2
        rw [htb, decide_eq_false (by omega : ¬ i < v), Bool.and_false, Bool.and_false]
    have := hA.2.2.1
    omega
/-- leaving v out -/
theorem dg_G4 {E : Nat → Nat} {on A v tk fr fr' : Nat} (h : dg_GI E on A (v + 1) tk fr) (hAv : A.testBit v = false) (hf : ∀ i, fr'.testBit i = true ↔ (fr.testBit i = true ∧ v ≠ i)) (hl : fr' < 1024) : dg_GI E on A v tk fr' := by
  refine ⟨h.1, hl, fun i => ?_, fun i => ?_⟩
  · rw [h.2.2.1 i]
    by_cases z : i = v
    · rw [z, hAv]; rfl
    · rw [decide_eq_decide.mpr (by omega : v + 1 ≤ i ↔ v ≤ i)]
  · rw [hf i, h.2.2.2 i]
    constructor
    · rintro ⟨⟨h1, h2⟩, h3⟩; exact ⟨by omega, h2⟩
    · rintro ⟨h1, h2⟩; exact ⟨⟨by omega, h2⟩, by omega⟩
/-- taking v -/
theorem dg_G5 {E : Nat → Nat} {on A v tk fr rl : Nat} (h : dg_GI E on A (v + 1) tk fr) (hv : v < 10) (hAv : A.testBit v = true) (hr : ∀ i, i < 10 → (rl.testBit i = true ↔ ((dg_H E v).testBit i = true ∨ (dg_H E i).testBit v = true))) : dg_GI E on A v (tk ||| 2 ^ v) (dg_an (dg_an fr (2 ^ v)) rl) := by
  have htb : ∀ i, (tk ||| 2 ^ v).testBit i = (tk.testBit i || decide (v = i)) := fun i => by rw [Nat.testBit_or, Nat.testBit_two_pow]
  refine ⟨dg_or_lt h.1 (dg_2 hv), dg_an_lt (dg_an_lt h.2.1), fun i => ?_, fun i => ?_⟩
  · rw [htb, h.2.2.1 i]
    by_cases z : v = i
    · subst z; rw [hAv]; simp
    · rw [decide_eq_decide.mpr (by omega : v + 1 ≤ i ↔ v ≤ i), decide_eq_false z, Bool.or_false]
  · rw [dg_an_tb (dg_an_lt h.2.1), Bool.and_eq_true, dg_fr_iff h.2.1, h.2.2.2 i, Bool.not_eq_true']
    constructor
    · rintro ⟨⟨⟨h1, h2, h3⟩, h4⟩, h5⟩
      refine ⟨by omega, h2, fun t ht => ?_⟩
      rw [htb, Bool.or_eq_true, decide_eq_true_iff] at ht
      rcases ht with z | z
      · exact h3 t z
      · subst z
        have h6 := hr i (by omega)
        rw [h5] at h6
        have h7 : ¬ ((dg_H E v).testBit i = true ∨ (dg_H E i).testBit v = true) := fun y => absurd (h6.mpr y) (by decide)
        refine ⟨?_, ?_⟩
        · cases e : (dg_H E i).testBit v with
          | false => rfl
          | true => exact absurd (Or.inr e) h7
        · cases e : (dg_H E v).testBit i with
          | false => rfl
          | true => exact absurd (Or.inl e) h7
    · rintro ⟨h1, h2, h3⟩
      have h6 := h3 v (by rw [htb, decide_eq_true rfl, Bool.or_true])
      refine ⟨⟨⟨by omega, h2, fun t ht => h3 t (by rw [htb, ht, Bool.true_or])⟩, by omega⟩, ?_⟩
      cases e : rl.testBit i with
      | false => rfl
      | true =>
        rcases (hr i (by omega)).mp e with y | y
        · rw [h6.2] at y; exact absurd y (by decide)
        · rw [h6.1] at y; exact absurd y (by decide)
theorem dg_G6 {E : Nat → Nat} {on A tk fr : Nat} (hA : A < 1024) (h : dg_GI E on A 0 tk fr) : tk = A := by
  apply dg_ext h.1 hA
  intro i _
  rw [h.2.2.1 i, decide_eq_true (Nat.zero_le i), Bool.and_true]
end
section
/-! how many antichains; the best chain -/
noncomputable def dg_cnt (P : Nat → Prop) : Nat → Nat
  | 0 => 0
  | n + 1 => dg_cnt P n + (haveI := Classical.propDecidable (P n); if P n then 1 else 0)
theorem dg_cnt_t {P : Nat → Prop} {n : Nat} (h : P n) : dg_cnt P (n + 1) = dg_cnt P n + 1 := by
  rw [dg_cnt, if_pos h]
theorem dg_cnt_f {P : Nat → Prop} {n : Nat} (h : ¬ P n) : dg_cnt P (n + 1) = dg_cnt P n := by
  rw [dg_cnt, if_neg h]; rfl
theorem dg_cnt_congr {P Q : Nat → Prop} {n : Nat} (h : ∀ i, i < n → (P i ↔ Q i)) : dg_cnt P n = dg_cnt Q n := by
  induction n with
  | zero => rfl
  | succ n ih =>
    have h1 := ih (fun i hi => h i (by omega))
    have h2 := h n (by omega)
    by_cases z : P n
    · rw [dg_cnt_t z, dg_cnt_t (h2.mp z), h1]
    · rw [dg_cnt_f z, dg_cnt_f (fun y => z (h2.mpr y)), h1]
theorem dg_cnt_le (P : Nat → Prop) (n : Nat) : dg_cnt P n ≤ n := by
  induction n with
  | zero => exact Nat.le_refl _
  | succ n ih =>
    by_cases z : P n
    · rw [dg_cnt_t z]; omega
    · rw [dg_cnt_f z]; omega
theorem dg_cnt_stop {P : Nat → Prop} {n : Nat} : ∀ k, (∀ i, n ≤ i → i < n + k → ¬ P i) → dg_cnt P (n + k) = dg_cnt P n := by
  intro k
  induction k with
  | zero => exact fun _ => rfl
  | succ k ih =>
    intro h
    rw [← Nat.add_assoc, dg_cnt_f (h (n + k) (by omega) (by omega))]
    exact ih (fun i h1 h2 => h i h1 (by omega))
theorem dg_cnt_split (P : Nat → Prop) (n : Nat) : ∀ k, dg_cnt P (n + k) = dg_cnt P n + dg_cnt (fun i => P (i + n)) k := by
  intro k
  induction k with
  | zero => rfl
  | succ k ih =>
    have e : n + k = k + n := Nat.add_comm _ _
    rw [← Nat.add_assoc]
    by_cases z : P (n + k)
    · rw [dg_cnt_t z, dg_cnt_t (P := fun i => P (i + n)) (by rw [← e]; exact z), ih]; omega
    · rw [dg_cnt_f z, dg_cnt_f (P := fun i => P (i + n)) (by rw [← e]; exact z), ih]
noncomputable def dg_C (E : Nat → Nat) (m : Nat) : Nat := dg_cnt (dg_AF E m) 1024
theorem dg_C_le (E : Nat → Nat) (m : Nat) : dg_C E m ≤ 1024 := dg_cnt_le _ _
theorem dg_C_st {E : Nat → Nat} {m v : Nat} (hv : v ≤ 10) (hm : m < 2 ^ v) : dg_C E m = dg_cnt (dg_AF E m) (2 ^ v) := by
  have h : 2 ^ v ≤ 1024 := (Nat.pow_le_pow_right (by decide) hv : 2 ^ v ≤ 2 ^ 10)
  obtain ⟨k, hk⟩ : ∃ k, 1024 = 2 ^ v + k := ⟨1024 - 2 ^ v, by omega⟩
  rw [dg_C, hk]
  apply dg_cnt_stop
  intro i h1 _ h2
  have : i ≤ m := Nat.le_of_testBit h2.1
  omega
theorem dg_C_0 (E : Nat → Nat) : dg_C E 0 = 1 := by
  rw [dg_C_st (v := 0) (by decide) (by decide)]
  rw [show (2 : Nat) ^ 0 = 0 + 1 from rfl, dg_cnt_t]
  · rfl
  · exact ⟨fun v hv => hv, fun v w _ _ h => by rw [Nat.zero_testBit] at h; exact absurd h (by decide)⟩
theorem dg_C_rec {E : Nat → Nat} (hE : dg_E E) {v r rl : Nat} (hv : v < 10) (hr : r < 2 ^ v) (hl : ∀ i, i < 10 → (rl.testBit i = true ↔ ((dg_H E v).testBit i = true ∨ (dg_H E i).testBit v = true))) : dg_C E (r ||| 2 ^ v) = dg_C E r + dg_C E (dg_an r rl) := by
  have hr10 : r < 1024 := Nat.lt_trans hr (dg_2 hv)
  have h1 : r ||| 2 ^ v < 2 ^ (v + 1) := by
    apply Nat.or_lt_two_pow
    · exact Nat.lt_trans hr (Nat.pow_lt_pow_right (by decide) (by omega))
    · exact Nat.pow_lt_pow_right (by decide) (by omega)
  have hbit : ∀ i, i < 2 ^ v → ∀ j, i.testBit j = true → j < v := by
    intro i hi j hj
    rcases Nat.lt_or_ge j v with z | z
    · exact z
    · have := Nat.ge_two_pow_of_testBit hj
      have : 2 ^ v ≤ 2 ^ j := Nat.pow_le_pow_right (by decide) z
      omega
  rw [dg_C_st (v := v + 1) (by omega) h1, show 2 ^ (v + 1) = 2 ^ v + 2 ^ v by rw [Nat.pow_succ]; omega, dg_cnt_split, dg_C_st (v := v) (by omega) hr, dg_C_st (v := v) (by omega) (Nat.lt_of_le_of_lt (dg_an_le r rl) hr)]
  congr 1
  · apply dg_cnt_congr
    intro i hi
    constructor
    · rintro ⟨h2, h3⟩
      refine ⟨fun j hj => ?_, h3⟩
      have h4 := h2 j hj
      have h5 := hbit i hi j hj
      rw [Nat.testBit_or, Nat.testBit_two_pow, decide_eq_false (by omega), Bool.or_false] at h4
      exact h4
    · rintro ⟨h2, h3⟩
      refine ⟨fun j hj => ?_, h3⟩
      rw [Nat.testBit_or, h2 j hj, Bool.true_or]
  · apply dg_cnt_congr
    intro i hi
    rw [← Nat.or_two_pow_eq_add_of_lt hi]
    have htb : ∀ j, (i ||| 2 ^ v).testBit j = true ↔ (i.testBit j = true ∨ v = j) := fun j => by
      rw [Nat.testBit_or, Nat.testBit_two_pow, Bool.or_eq_true, decide_eq_true_iff]
    constructor
    · rintro ⟨h2, h3⟩
      refine ⟨fun j hj => ?_, fun a b ha hb p q => h3 a b ha hb ((htb a).mpr (Or.inl p)) ((htb b).mpr (Or.inl q))⟩
      have h4 := h2 j ((htb j).mpr (Or.inl hj))
      have h5 := hbit i hi j hj
      rw [Nat.testBit_or, Nat.testBit_two_pow, decide_eq_false (by omega), Bool.or_false] at h4
      rw [dg_an_tb hr10, h4, Bool.true_and, Bool.not_eq_true']
      cases e : rl.testBit j with
      | false => rfl
      | true =>
        rcases (hl j (by omega)).mp e with y | y
        · rw [h3 v j hv (by omega) ((htb v).mpr (Or.inr rfl)) ((htb j).mpr (Or.inl hj))] at y; exact y.symm
        · rw [h3 j v (by omega) hv ((htb j).mpr (Or.inl hj)) ((htb v).mpr (Or.inr rfl))] at y; exact y.symm
    · rintro ⟨h2, h3⟩
      have h4 : ∀ j, i.testBit j = true → r.testBit j = true ∧ ¬ ((dg_H E v).testBit j = true ∨ (dg_H E j).testBit v = true) := by
        intro j hj
        have h5 := h2 j hj
        have h6 := hbit i hi j hj
        rw [dg_an_tb hr10, Bool.and_eq_true, Bool.not_eq_true'] at h5
        refine ⟨h5.1, fun y => ?_⟩
        rw [(hl j (by omega)).mpr y] at h5
        exact absurd h5.2 (by decide)
      refine ⟨fun j hj => ?_, fun a b ha hb p q => ?_⟩
      · rw [Nat.testBit_or, Nat.testBit_two_pow, Bool.or_eq_true, decide_eq_true_iff]
        rcases (htb j).mp hj with y | y
        · exact Or.inl (h4 j y).1
        · exact Or.inr y
      · cases e : (dg_H E a).testBit b with
        | false => rfl
        | true =>
          have hab := (dg_H_up hE ha e).1
          rcases (htb a).mp p with y | y <;> rcases (htb b).mp q with z | z
          · rw [h3 a b ha hb y z] at e; exact e.symm
          · subst z; exact absurd (Or.inr e) (h4 a y).2
          · subst y; exact absurd (Or.inl e) (h4 b z).2
          · omega
/-! ===== the best chain ===== -/
/-- chains that begin at u, the others on -/
def dg_CB (E : Nat → Nat) (on u T : Nat) : Prop := T < 1024 ∧ dg_low T u ∧ dg_row (dg_H E) T ∧ ∀ x, T.testBit x = true → x ≠ u → on.testBit x = true
def dg_Q (E W : Nat → Nat) (on u q : Nat) : Prop := (∃ T, dg_CB E on u T ∧ dg_w W T = q) ∧ ∀ T, dg_CB E on u T → dg_w W T ≤ q
theorem dg_w_2 (W : Nat → Nat) {v : Nat} (hv : v < 10) : dg_w W (2 ^ v) = W v := by
  have h := dg_S_up (f := fun _ => 0) (g := fun i => if (2 ^ v).testBit i = true then W i else 0) (n := 10) hv (fun i _ hne => if_neg (by
    rw [Nat.testBit_two_pow, decide_eq_true_iff]; exact fun e => hne e.symm))
  rw [dg_S_zero (fun _ _ => rfl)] at h
  rw [if_pos (by rw [Nat.testBit_two_pow, decide_eq_true_iff])] at h
  rw [dg_w]; omega
theorem dg_sub_2 {T v : Nat} (h : T.testBit v = true) : ∀ i, i < 10 → (2 ^ v).testBit i = true → T.testBit i = true := by
  intro i _ hi
  rw [Nat.testBit_two_pow, decide_eq_true_iff] at hi
  rw [← hi]; exact h
theorem dg_Q_step {E W : Nat → Nat} {on v b : Nat} {Q : Nat → Nat} (hE : dg_E E) (hv : v < 10) (hQ : ∀ w, v < w → w < 10 → dg_Q E W on w (Q w)) (h1 : b = 0 ∨ ∃ w, (dg_H E v).testBit w = true ∧ on.testBit w = true ∧ Q w = b) (h2 : ∀ w, (dg_H E v).testBit w = true → on.testBit w = true → Q w ≤ b) : dg_Q E W on v (b + W v) := by
  have hup : ∀ T, dg_CB E on v T → dg_w W T ≤ b + W v := by
    intro T hT
    have e := dg_w_an W hT.1 (dg_sub_2 hT.2.1.1)
    rw [dg_w_2 W hv] at e
    rcases Nat.eq_zero_or_pos (dg_an T (2 ^ v)) with z | z
    · rw [z, dg_w_0] at e; omega
    · obtain ⟨w, hw⟩ := dg_low_ex z
      have hw1 := (dg_fr_iff hT.1 w).mp hw.1
      have hw10 : w < 10 := dg_tb_lt hT.1 hw1.1
      have hvw : v < w := by
        rcases Nat.lt_or_ge v w with y | y
        · exact y
        · have := hT.2.1.2 w (by omega)
          rw [hw1.1] at this; exact absurd this (by decide)
      have hb : ∀ x, v < x → x < w → T.testBit x = false := by
        intro x hx1 hx2
        have := hw.2 x hx2
        rw [dg_fr_tb hT.1, decide_eq_false (by omega), Bool.not_false, Bool.and_true] at this
        exact this
      have hH := hT.2.2.1 v w hvw hw10 hT.2.1.1 hw1.1 hb
      have hon := hT.2.2.2 w hw1.1 (by omega)
      have h3 := (hQ w hvw hw10).2 (dg_an T (2 ^ v)) ⟨dg_an_lt hT.1, hw, (by
        intro a c hac hc ha hcc hbt
        have ha1 := (dg_fr_iff hT.1 a).mp ha
        have hc1 := (dg_fr_iff hT.1 c).mp hcc
        refine hT.2.2.1 a c hac hc ha1.1 hc1.1 (fun x hx1 hx2 => ?_)
        have h4 := hbt x hx1 hx2
        have h5 : ¬ v = x := by
          intro y
          have := hT.2.1.2 a (by omega)
          rw [ha1.1] at this; exact absurd this (by decide)
        rw [dg_fr_tb hT.1, decide_eq_false h5, Bool.not_false, Bool.and_true] at h4
        exact h4), (by
        intro x hx hne
        have hx1 := (dg_fr_iff hT.1 x).mp hx
        exact hT.2.2.2 x hx1.1 (fun y => hx1.2 y.symm))⟩
      have h4 := h2 w hH hon
      omega
  refine ⟨?_, hup⟩
  rcases h1 with z | ⟨w, hH, hon, hq⟩
  · have hT : dg_CB E on v (2 ^ v) := by
      refine ⟨dg_2 hv, ⟨Nat.testBit_two_pow_self, fun u hu => Nat.testBit_two_pow_of_ne (by omega)⟩, ?_, ?_⟩
      · intro a c hac _ ha hc _
        rw [Nat.testBit_two_pow, decide_eq_true_iff] at ha hc
        omega
      · intro x hx hne
        rw [Nat.testBit_two_pow, decide_eq_true_iff] at hx
        omega
    exact ⟨2 ^ v, hT, by rw [dg_w_2 W hv]; omega⟩
  · have hvw := dg_H_up hE hv hH
    obtain ⟨⟨T, hT, hTw⟩, _⟩ := hQ w hvw.1 hvw.2
    have hTv : T.testBit v = false := hT.2.1.2 v hvw.1
    have htb : ∀ i, (T ||| 2 ^ v).testBit i = (T.testBit i || decide (v = i)) := fun i => by rw [Nat.testBit_or, Nat.testBit_two_pow]
    have hti : ∀ i, (T ||| 2 ^ v).testBit i = true ↔ (T.testBit i = true ∨ v = i) := fun i => by rw [htb, Bool.or_eq_true, decide_eq_true_iff]
    have hge : ∀ i, T.testBit i = true → w ≤ i := by
      intro i hi
      rcases Nat.lt_or_ge i w with y | y
      · have := hT.2.1.2 i y
        rw [hi] at this; exact absurd this (by decide)
      · exact y
    have hU : T ||| 2 ^ v < 1024 := dg_or_lt hT.1 (dg_2 hv)
    refine ⟨T ||| 2 ^ v, ⟨hU, ⟨(hti v).mpr (Or.inr rfl), fun u hu => ?_⟩, ?_, ?_⟩, ?_⟩
    · cases e : (T ||| 2 ^ v).testBit u with
      | false => rfl
      | true =>
        rcases (hti u).mp e with y | y
        · have := hge u y; omega
        · omega
    · intro a c hac hc ha hcc hbt
      have hcT : T.testBit c = true := by
        rcases (hti c).mp hcc with y | y
        · exact y
        · rcases (hti a).mp ha with z | z
          · have := hge a z; omega
          · omega
      have hbt' : ∀ x, a < x → x < c → T.testBit x = false := by
        intro x hx1 hx2
        have := hbt x hx1 hx2
        rw [htb, Bool.or_eq_false_iff] at this
        exact this.1
      rcases (hti a).mp ha with y | y
      · exact hT.2.2.1 a c hac hc y hcT hbt'
      · subst y
        have hcw := hge c hcT
        rcases Nat.lt_or_ge w c with z | z
        · have := hbt' w hvw.1 z
          rw [hT.2.1.1] at this; exact absurd this (by decide)
        · rw [show c = w by omega]; exact hH
    · intro x hx hne
      rcases (hti x).mp hx with y | y
      · by_cases z : x = w
        · rw [z]; exact hon
        · exact hT.2.2.2 x y z
      · omega
    · have e := dg_w_an W hU (dg_sub_2 ((hti v).mpr (Or.inr rfl)))
      have e2 : dg_an (T ||| 2 ^ v) (2 ^ v) = T := by
        apply dg_ext (dg_an_lt hU) hT.1
        intro i _
        rw [dg_fr_tb hU, htb]
        by_cases z : v = i
        · subst z; rw [hTv]; simp
        · rw [decide_eq_false z]; simp
      rw [e2, dg_w_2 W hv] at e
      omega
/-- chains within the set on -/
def dg_CH (E : Nat → Nat) (on T : Nat) : Prop := dg_sub T on ∧ dg_row (dg_H E) T
theorem dg_best {E W : Nat → Nat} {on b : Nat} {Q : Nat → Nat} (hon : on < 1024) (hQ : ∀ w, w < 10 → dg_Q E W on w (Q w)) (h1 : b = 0 ∨ ∃ w, w < 10 ∧ on.testBit w = true ∧ Q w = b) (h2 : ∀ w, w < 10 → on.testBit w = true → Q w ≤ b) : dg_Mx (dg_CH E on) (dg_w W) b := by
  constructor
  · rcases h1 with z | ⟨w, hw, ho, hq⟩
    · exact Or.inl z
    · obtain ⟨⟨T, hT, hTw⟩, _⟩ := hQ w hw
      refine Or.inr ⟨T, hT.1, ⟨fun x hx => ?_, hT.2.2.1⟩, by omega⟩
      by_cases z : x = w
      · rw [z]; exact ho
      · exact hT.2.2.2 x hx z
  · intro T hT hC
    rcases Nat.eq_zero_or_pos T with z | z
    · rw [z, dg_w_0]; exact Nat.zero_le _
    · obtain ⟨w, hw⟩ := dg_low_ex z
      have hw10 := dg_tb_lt hT hw.1
      have h3 := (hQ w hw10).2 T ⟨hT, hw, hC.2, fun x hx _ => hC.1 x hx⟩
      have h4 := h2 w hw10 (hC.1 w hw.1)
      omega
end
section
/-! X: close, related, bits -/
theorem dg_10 : (10 : Int32) = nI 10 := rfl
theorem dg_ge10 {k : Nat} (h : 10 ≤ k) (h2 : k < 100000) : (10 : Int32) ≤ nI k := nI_le (a := 10) h (by omega)
theorem dg_lt10 {k : Nat} (h : k < 10) : ¬ (10 : Int32) ≤ nI k := nI_ge (b := 10) h (by decide)
theorem dg_i10 {k : Nat} (h : k < 10) : vp_in (nI k) 10 := vp_in_nI h (by decide)
theorem dg_cl {k : Nat} (h : k < 100000) : (nI k).toNatClampNeg = k := nI_clamp (by omega)
theorem dg_xc31 {fo fc fk : Int32} {aw ae ah ai ao an af co ci qu : Nat → Int32} {post : SX → Prop} {J : Int32 → (Nat → Int32) → (Nat → Int32) → (Nat → Int32) → (Nat → Int32) → (Nat → Int32) → (Nat → Int32) → (Nat → Int32) → (Nat → Int32) → (Nat → Int32) → (Nat → Int32) → Prop} {E : Nat → Nat} (hE : dg_E E) (he : ∀ v, v < 10 → ae v = nI (E v)) {v : Nat} (hv : v < 10) (hh : ∀ w, v < w → w < 10 → ah w = nI (dg_H E w)) (hJ : J (nI v + (-1)) aw ae (upd ah v (nI (dg_H E v))) ai ao an af co ci qu) : ∀ d k n, k + d = 9 - v → d < n → wX_close_31 post J (nI v) fo fc fk aw ae ah ai ao an af co ci qu n (nI (dg_fo (dg_H E) (E v) (E v) (v + 1) k)) (nI (v + 1 + k)) := by
  intro d
  induction d with
  | zero =>
    intro k n hk hn
    obtain ⟨n, rfl⟩ : ∃ m, n = m + 1 := ⟨n - 1, by omega⟩
    refine br_t (dg_ge10 (by omega) (by omega)) ⟨dg_i10 hv, fun a ea y ey => ?_⟩
    rw [ea, ey, dg_cl (by omega), show k = 9 - v by omega, ← dg_H_eq E hv]
    exact hJ
  | succ d ih =>
    intro k n hk hn
    obtain ⟨n, rfl⟩ : ∃ m, n = m + 1 := ⟨n - 1, by omega⟩
    have h1 := ih (k + 1) n (by omega) (by omega)
    rw [dg_fo] at h1
    refine br_f (dg_lt10 (by omega)) ⟨dg_i10 hv, ek_if (d := (E v).testBit (v + 1 + k) = true) (by rw [dg_cl (by omega), he v hv]; exact dg_b1 (hE v hv).1 (by omega)) (fun hb => ⟨dg_i10 (by omega), fun y ey z ez => ?_⟩) (fun hb z ez => ?_)⟩
    · rw [if_pos hb] at h1
      rw [ey, ez, dg_cl (by omega), hh _ (by omega) (by omega), dg_or, nI_1]
      exact h1
    · rw [if_neg hb] at h1
      rw [ez, nI_1]
      exact h1
theorem dg_xc16 {fo fc fk : Int32} {aw ae ai ao an af co ci qu : Nat → Int32} {post : SX → Prop} {E : Nat → Nat} (hE : dg_E E) (he : ∀ v, v < 10 → ae v = nI (E v)) (hp : ∀ ah : Nat → Int32, (∀ w, w < 10 → ah w = nI (dg_H E w)) → post (fo, fc, fk, aw, ae, ah, ai, ao, an, af, co, ci, qu)) : ∀ i n (ah : Nat → Int32), i ≤ 10 → i < n → (∀ w, i ≤ w → w < 10 → ah w = nI (dg_H E w)) → wX_close_16 post fo fc fk n (nI i + (-1)) aw ae ah ai ao an af co ci qu := by
  intro i
  induction i with
  | zero =>
    intro n ah h1 h2 hh
    obtain ⟨n, rfl⟩ : ∃ m, n = m + 1 := ⟨n - 1, by omega⟩
    exact br_t (by decide) (hp ah (fun w hw => hh w (by omega) hw))
  | succ i ih =>
    intro n ah h1 h2 hh
    obtain ⟨n, rfl⟩ : ∃ m, n = m + 1 := ⟨n - 1, by omega⟩
    rw [pk_m1]
    refine br_f (nI_pos (by omega)) ⟨dg_i10 (by omega), fun y ey z ez => ⟨10, ?_⟩⟩
    rw [ey, ez, dg_cl (by omega), he i (by omega), nI_1]
    refine dg_xc31 hE he (by omega) (fun w hw hw2 => hh w (by omega) hw2) ?_ (9 - i) 0 10 (by omega) (by omega)
    refine ih n _ (by omega) (by omega) (fun w hw hw2 => ?_)
    by_cases e : w = i
    · rw [e]; exact pk_us
    · rw [pk_un e]; exact hh w (by omega) hw2
theorem dg_xclose {fo fc fk : Int32} {aw ae ah ai ao an af co ci qu : Nat → Int32} {post : SX → Prop} {E : Nat → Nat} (hE : dg_E E) (he : ∀ v, v < 10 → ae v = nI (E v)) (hc : fc ≠ 0 → ∀ w, w < 10 → ah w = nI (dg_H E w)) (hp : ∀ (fc : Int32) (ah : Nat → Int32), fc ≠ 0 → (∀ w, w < 10 → ah w = nI (dg_H E w)) → post (fo, fc, fk, aw, ae, ah, ai, ao, an, af, co, ci, qu)) : wpX_close post (fo, fc, fk, aw, ae, ah, ai, ao, an, af, co, ci, qu) :=
  br_c (fun _ => ⟨11, dg_xc16 hE he (fun ah h => hp 1 ah (by decide) h) 10 11 ah (by omega) (by omega) (fun w h1 h2 => by omega)⟩) (fun z => hp fc ah z (hc z))
/-! related -/
def dg_rl (H : Nat → Nat) (v : Nat) : Nat → Nat
  | 0 => H v
  | k + 1 => if (H k).testBit v = true then dg_rl H v k ||| 2 ^ k else dg_rl H v k
theorem dg_rl_lt {H : Nat → Nat} {v : Nat} (hv : v < 10) (hH : ∀ w, w < 10 → H w < 1024) : ∀ k, k ≤ 10 → dg_rl H v k < 1024 := by
  intro k
  induction k with
  | zero => exact fun _ => hH v hv
  | succ k ih =>
    intro hk
    rw [dg_rl]
    by_cases z : (H k).testBit v = true
    · rw [if_pos z]; exact dg_or_lt (ih (by omega)) (dg_2 (by omega))
    · rw [if_neg z]; exact ih (by omega)
theorem dg_rl_tb (H : Nat → Nat) (v i : Nat) : ∀ k, (dg_rl H v k).testBit i = true ↔ ((H v).testBit i = true ∨ (i < k ∧ (H i).testBit v = true)) := by
  intro k
  induction k with
  | zero =>
    rw [dg_rl]
    exact ⟨fun z => Or.inl z, fun z => z.elim id (fun y => absurd y.1 (by omega))⟩
  | succ k ih =>
    rw [dg_rl]
    by_cases z : (H k).testBit v = true
    · rw [if_pos z, Nat.testBit_or, Bool.or_eq_true, ih, Nat.testBit_two_pow, decide_eq_true_iff]
      constructor
      · rintro ((h | ⟨h1, h2⟩) | h)
        · exact Or.inl h
        · exact Or.inr ⟨by omega, h2⟩
        · subst h; exact Or.inr ⟨by omega, z⟩
      · rintro (h | ⟨h1, h2⟩)
        · exact Or.inl (Or.inl h)
        · by_cases e : k = i
          · exact Or.inr e
          · exact Or.inl (Or.inr ⟨by omega, h2⟩)
    · rw [if_neg z, ih]
      constructor
      · rintro (h | ⟨h1, h2⟩)
        · exact Or.inl h
        · exact Or.inr ⟨by omega, h2⟩
      · rintro (h | ⟨h1, h2⟩)
        · exact Or.inl h
        · by_cases e : k = i
          · subst e; exact absurd h2 z
          · exact Or.inr ⟨by omega, h2⟩
def dg_rel (E : Nat → Nat) (v : Nat) : Nat := dg_rl (dg_H E) v v
theorem dg_rel_lt {E : Nat → Nat} (hE : dg_E E) {v : Nat} (hv : v < 10) : dg_rel E v < 1024 := dg_rl_lt hv (fun _ hw => dg_H_lt hE hw) v (by omega)
theorem dg_rel_tb {E : Nat → Nat} (hE : dg_E E) {v : Nat} (i : Nat) (hi : i < 10) : (dg_rel E v).testBit i = true ↔ ((dg_H E v).testBit i = true ∨ (dg_H E i).testBit v = true) := by
  rw [dg_rel, dg_rl_tb]
  constructor
  · rintro (h | h)
    · exact Or.inl h
    · exact Or.inr h.2
  · rintro (h | h)
    · exact Or.inl h
    · exact Or.inr ⟨(dg_H_up hE hi h).1, h⟩
theorem dg_xr9 {fo fc fk : Int32} {aw ae ah ai ao an af co ci qu : Nat → Int32} {post : Int32 → Prop} {E : Nat → Nat} (hE : dg_E E) (hh : ∀ w, w < 10 → ah w = nI (dg_H E w)) {v : Nat} (hv : v < 10) (hp : post (nI (dg_rel E v))) : ∀ d k n, k + d = v → d < n → wX_related_9 post (nI v) fo fc fk aw ae ah ai ao an af co ci qu n (nI (dg_rl (dg_H E) v k)) (nI k) := by
  intro d
  induction d with
  | zero =>
    intro k n hk hn
    obtain ⟨n, rfl⟩ : ∃ m, n = m + 1 := ⟨n - 1, by omega⟩
    have e : k = v := by omega
    subst e
    exact br_t (nI_le (Nat.le_refl _) (by omega)) hp
  | succ d ih =>
    intro k n hk hn
    obtain ⟨n, rfl⟩ : ∃ m, n = m + 1 := ⟨n - 1, by omega⟩
    have h1 := ih (k + 1) n (by omega) (by omega)
    rw [dg_rl] at h1
    refine br_f (nI_ge (by omega) (by omega)) ⟨dg_i10 (by omega), ek_if (d := (dg_H E k).testBit v = true) (by rw [dg_cl (by omega), hh k (by omega)]; exact dg_b1 (dg_H_lt hE (by omega)) (by omega)) (fun hb y ey z ez => ?_) (fun hb z ez => ?_)⟩
    · rw [if_pos hb] at h1
      rw [ey, ez, dg_sh (by omega), dg_or, nI_1]
      exact h1
    · rw [if_neg hb] at h1
      rw [ez, nI_1]
      exact h1
theorem dg_xrelated {fo fc fk : Int32} {aw ae ah ai ao an af co ci qu : Nat → Int32} {post : Int32 → Prop} {E : Nat → Nat} (hE : dg_E E) (hh : ∀ w, w < 10 → ah w = nI (dg_H E w)) {v : Nat} (hv : v < 10) (hp : post (nI (dg_rel E v))) : wpX_related post (fo, fc, fk, aw, ae, ah, ai, ao, an, af, co, ci, qu) (nI v) := by
  refine And.intro (dg_i10 hv) (fun y ey => ⟨11, ?_⟩)
  rw [ey, dg_cl (by omega), hh v hv]
  exact dg_xr9 hE hh hv hp v 0 11 (by omega) (by omega)
theorem dg_xb4 {post : Int32 → Prop} {s : Nat} (hs : s < 1024) (hp : post (nI (dg_w dg_1 s))) : ∀ d k n, k + d = 10 → d < n → wX_bits_4 post (nI s) n (nI (dg_S (dg_cap s dg_1) k)) (nI k) := by
  intro d
  induction d with
  | zero =>
    intro k n hk hn
    obtain ⟨n, rfl⟩ : ∃ m, n = m + 1 := ⟨n - 1, by omega⟩
    have e : k = 10 := by omega
    subst e
    exact br_t (dg_ge10 (by omega) (by omega)) hp
  | succ d ih =>
    intro k n hk hn
    obtain ⟨n, rfl⟩ : ∃ m, n = m + 1 := ⟨n - 1, by omega⟩
    have h1 := ih (k + 1) n (by omega) (by omega)
    refine br_f (dg_lt10 (by omega)) (fun y ey z ez => ?_)
    rw [ey, ez, dg_bv' hs (by omega), nI_add, nI_1]
    exact h1
theorem dg_xbits {post : Int32 → Prop} {s : Nat} (hs : s < 1024) (hp : post (nI (dg_w dg_1 s))) : wpX_bits post (nI s) := ⟨11, dg_xb4 hs hp 10 0 11 (by omega) (by omega)⟩
end
section
/-! Y: has, close, anti, size, sum, row, chain -/
theorem dg_yhas {A B : Prop} {u : SY} {x w : Nat} (hx : x < 1024) (hw : w < 32) (h0 : ¬ x.testBit w = true → A) (h1 : x.testBit w = true → B) : wpY_has (fun r => (r = 0 → A) ∧ (¬ r = 0 → B)) u (nI x) (nI w) := by
  obtain ⟨go, be, bu, bw, bs, bn⟩ := u
  exact ek_if (dg_b1 hx hw) (fun h => br_f (by decide) (h1 h)) (fun h => br_t rfl (h0 h))
theorem dg_yc23 {go : Int32} {be bw bs bn : Nat → Int32} {post : SY → Prop} {J : Int32 → (Nat → Int32) → (Nat → Int32) → (Nat → Int32) → (Nat → Int32) → (Nat → Int32) → Prop} {E : Nat → Nat} (hE : dg_E E) (he : ∀ v, v < 10 → be v = nI (E v)) {v : Nat} (hv : v < 10) (hJ : ∀ bu : Nat → Int32, (∀ w, v ≤ w → w < 10 → bu w = nI (dg_H E w)) → J (nI v + (-1)) be bu bw bs bn) : ∀ d k n (bu : Nat → Int32), k + d = 9 - v → d < n → (∀ w, v < w → w < 10 → bu w = nI (dg_H E w)) → bu v = nI (dg_fo (dg_H E) (E v) (E v) (v + 1) k) → wY_close_23 post J (nI v) go n (nI (v + 1 + k)) be bu bw bs bn := by
  intro d
  induction d with
  | zero =>
    intro k n bu hk hn h1 h2
    obtain ⟨n, rfl⟩ : ∃ m, n = m + 1 := ⟨n - 1, by omega⟩
    refine br_t (dg_ge10 (by omega) (by omega)) (fun y ey => ?_)
    rw [ey]
    refine hJ bu (fun w hw hw2 => ?_)
    by_cases e : w = v
    · rw [e, h2, show k = 9 - v by omega, ← dg_H_eq E hv]
    · exact h1 w (by omega) hw2
  | succ d ih =>
    intro k n bu hk hn h1 h2
    obtain ⟨n, rfl⟩ : ∃ m, n = m + 1 := ⟨n - 1, by omega⟩
    refine br_f (dg_lt10 (by omega)) ⟨dg_i10 hv, ?_⟩
    rw [dg_cl (by omega), he v hv]
    refine dg_yhas (hE v hv).1 (by omega) (fun hb z ez => ?_) (fun hb => ⟨dg_i10 hv, dg_i10 (by omega), dg_i10 hv, fun a ea z ez => ?_⟩)
    · rw [ez, nI_1]
      refine ih (k + 1) n bu (by omega) (by omega) h1 ?_
      rw [dg_fo, if_neg hb]; exact h2
    · rw [ez, nI_1]
      rw [dg_cl (by omega), h1 (v + 1 + k) (by omega) (by omega), h2, dg_or] at ea
      refine ih (k + 1) n a (by omega) (by omega) (fun w hw hw2 => ?_) ?_
      · rw [ea, pk_un (by omega)]; exact h1 w hw hw2
      · rw [dg_fo, if_pos hb, ea]; exact pk_us
theorem dg_yc3 {go : Int32} {be bw bs bn : Nat → Int32} {post : SY → Prop} {E : Nat → Nat} (hE : dg_E E) (he : ∀ v, v < 10 → be v = nI (E v)) (hp : ∀ bu : Nat → Int32, (∀ w, w < 10 → bu w = nI (dg_H E w)) → post (go, be, bu, bw, bs, bn)) : ∀ i n (bu : Nat → Int32), i ≤ 10 → i < n → (∀ w, i ≤ w → w < 10 → bu w = nI (dg_H E w)) → wY_close_3 post go n (nI i + (-1)) be bu bw bs bn := by
  intro i
  induction i with
  | zero =>
    intro n bu h1 h2 hh
    obtain ⟨n, rfl⟩ : ∃ m, n = m + 1 := ⟨n - 1, by omega⟩
    exact br_t (by decide) (hp bu (fun w hw => hh w (by omega) hw))
  | succ i ih =>
    intro n bu h1 h2 hh
    obtain ⟨n, rfl⟩ : ∃ m, n = m + 1 := ⟨n - 1, by omega⟩
    rw [pk_m1]
    refine br_f (nI_pos (by omega)) ⟨dg_i10 (by omega), dg_i10 (by omega), fun a ea z ez => ⟨10, ?_⟩⟩
    rw [dg_cl (by omega), he i (by omega)] at ea
    rw [ez, nI_1]
    refine dg_yc23 hE he (by omega) (fun bu' hb => ih n bu' (by omega) (by omega) hb) (9 - i) 0 10 a (by omega) (by omega) (fun w hw hw2 => ?_) ?_
    · rw [ea, pk_un (by omega)]; exact hh w (by omega) hw2
    · rw [ea]; exact pk_us
theorem dg_yclose {go : Int32} {be bu bw bs bn : Nat → Int32} {post : SY → Prop} {E : Nat → Nat} (hE : dg_E E) (he : ∀ v, v < 10 → be v = nI (E v)) (hp : ∀ bu : Nat → Int32, (∀ w, w < 10 → bu w = nI (dg_H E w)) → post (go, be, bu, bw, bs, bn)) : wpY_close post (go, be, bu, bw, bs, bn) :=
  ⟨11, dg_yc3 hE he hp 10 11 bu (by omega) (by omega) (fun w h1 h2 => by omega)⟩
/-! anti -/
theorem dg_an0 {T on : Nat} (hT : T < 1024) : dg_an T on = 0 ↔ dg_sub T on := by
  constructor
  · intro h v hv
    have h1 := dg_an_tb (b := on) hT v
    rw [h, Nat.zero_testBit, hv, Bool.true_and] at h1
    cases e : on.testBit v with
    | true => rfl
    | false => rw [e] at h1; exact absurd h1 (by decide)
  · intro h
    apply Nat.eq_of_testBit_eq
    intro i
    rw [dg_an_tb hT, Nat.zero_testBit]
    cases e : T.testBit i with
    | false => rfl
    | true => rw [h i e]; rfl
theorem dg_anI0 {T on : Nat} (hT : T < 1024) : (nI T &&& (nI on ^^^ (-1))) = 0 ↔ dg_sub T on := by
  have := dg_an_lt (b := on) hT
  rw [dg_anI hT, ← nI_0, nI_eq (by omega) (by omega)]
  exact dg_an0 hT
theorem dg_and0 {a b : Nat} : a &&& b = 0 ↔ ∀ i, a.testBit i = true → b.testBit i = false := by
  constructor
  · intro h i hi
    have h1 := Nat.testBit_and a b i
    rw [h, Nat.zero_testBit, hi, Bool.true_and] at h1
    exact h1.symm
  · intro h
    apply Nat.eq_of_testBit_eq
    intro i
    rw [Nat.testBit_and, Nat.zero_testBit]
    cases e : a.testBit i with
    | false => rfl
    | true => rw [h i e]; rfl
theorem dg_ya15 {go : Int32} {be bu bw bs bn : Nat → Int32} {post : Int32 → Prop} {E : Nat → Nat} (hE : dg_E E) (hu : ∀ w, w < 10 → bu w = nI (dg_H E w)) {T : Nat} (hT : T < 1024) (h1 : dg_An (dg_H E) T → post 1) (h0 : ¬ dg_An (dg_H E) T → post 0) : ∀ d k n, k + d = 10 → d < n → (∀ v, v < k → T.testBit v = true → dg_H E v &&& T = 0) → wY_anti_15 post (nI T) go be bu bw bs bn n (nI k) := by
  intro d
  induction d with
  | zero =>
    intro k n hk hn hi
    obtain ⟨n, rfl⟩ : ∃ m, n = m + 1 := ⟨n - 1, by omega⟩
    refine br_t (dg_ge10 (by omega) (by omega)) (h1 (fun v w hv hw tv tw => ?_))
    have h2 := dg_and0.mp (hi v (by omega) tv)
    cases e : (dg_H E v).testBit w with
    | false => rfl
    | true => rw [h2 w e] at tw; exact absurd tw (by decide)
  | succ d ih =>
    intro k n hk hn hi
    obtain ⟨n, rfl⟩ : ∃ m, n = m + 1 := ⟨n - 1, by omega⟩
    refine br_f (dg_lt10 (by omega)) (dg_yhas hT (by omega) (fun hb z ez => ?_) (fun hb => ⟨dg_i10 (by omega), ?_⟩))
    · rw [ez, nI_1]
      refine ih (k + 1) n (by omega) (by omega) (fun v hv tv => ?_)
      by_cases e : v = k
      · rw [e] at tv; exact absurd tv hb
      · exact hi v (by omega) tv
    · have hl : dg_H E k &&& T < 1024 := dg_and_lt (dg_H_lt hE (by omega))
      refine ek_if (d := dg_H E k &&& T = 0) (by rw [dg_cl (by omega), hu k (by omega), nx_and, ← nI_0, nI_eq (by omega) (by omega)]) (fun hz z ez => ?_) (fun hz => h0 (fun hA => hz (dg_and0.mpr (fun i hi2 => ?_))))
      · rw [ez, nI_1]
        refine ih (k + 1) n (by omega) (by omega) (fun v hv tv => ?_)
        by_cases e : v = k
        · rw [e]; exact hz
        · exact hi v (by omega) tv
      · cases e : T.testBit i with
        | false => rfl
        | true =>
          have h3 := hA k i (by omega) (dg_tb_lt hT e) hb e
          rw [hi2] at h3; exact absurd h3 (by decide)
theorem dg_yanti {go : Int32} {be bu bw bs bn : Nat → Int32} {A B : Prop} {E : Nat → Nat} (hE : dg_E E) (hu : ∀ w, w < 10 → bu w = nI (dg_H E w)) {on T : Nat} (hT : T < 1024) (hg : go = nI on) (h0 : ¬ dg_AF E on T → A) (h1 : dg_AF E on T → B) : wpY_anti (fun r => (r = 0 → A) ∧ (¬ r = 0 → B)) (go, be, bu, bw, bs, bn) (nI T) := by
  subst hg
  refine ek_if (d := dg_sub T on) (dg_anI0 hT) (fun hs => ⟨11, dg_ya15 hE hu hT (fun hA => br_f (by decide) (h1 ⟨hs, hA⟩)) (fun hA => br_t rfl (h0 (fun z => hA z.2))) 10 0 11 (by omega) (by omega) (fun v hv => by omega)⟩) (fun hs => br_t rfl (h0 (fun z => hs z.1)))
/-! size, sum -/
theorem dg_ys4 {go : Int32} {be bu bw bs bn : Nat → Int32} {post : Int32 → Prop} {s : Nat} (hs : s < 1024) (hp : post (nI (dg_w dg_1 s))) : ∀ d k n, k + d = 10 → d < n → wY_size_4 post (nI s) go be bu bw bs bn n (nI (dg_S (dg_cap s dg_1) k)) (nI k) := by
  intro d
  induction d with
  | zero =>
    intro k n hk hn
    obtain ⟨n, rfl⟩ : ∃ m, n = m + 1 := ⟨n - 1, by omega⟩
    have e : k = 10 := by omega
    subst e
    exact br_t (dg_ge10 (by omega) (by omega)) hp
  | succ d ih =>
    intro k n hk hn
    obtain ⟨n, rfl⟩ : ∃ m, n = m + 1 := ⟨n - 1, by omega⟩
    have h1 := ih (k + 1) n (by omega) (by omega)
    refine br_f (dg_lt10 (by omega)) (fun y ey z ez => ?_)
    rw [ey, ez, dg_bv' hs (by omega), nI_add, nI_1]
    exact h1
theorem dg_ysize {u : SY} {post : Int32 → Prop} {s : Nat} (hs : s < 1024) (hp : post (nI (dg_w dg_1 s))) : wpY_size post u (nI s) := by
  obtain ⟨go, be, bu, bw, bs, bn⟩ := u
  exact ⟨11, dg_ys4 hs hp 10 0 11 (by omega) (by omega)⟩
theorem dg_yu4 {go : Int32} {be bu bw bs bn : Nat → Int32} {post : Int32 → Prop} {W : Nat → Nat} (hw : ∀ v, v < 10 → bw v = nI (W v)) {s : Nat} (hs : s < 1024) (hp : post (nI (dg_w W s))) : ∀ d k n, k + d = 10 → d < n → wY_sum_4 post (nI s) go be bu bw bs bn n (nI (dg_S (dg_cap s W) k)) (nI k) := by
  intro d
  induction d with
  | zero =>
    intro k n hk hn
    obtain ⟨n, rfl⟩ : ∃ m, n = m + 1 := ⟨n - 1, by omega⟩
    have e : k = 10 := by omega
    subst e
    exact br_t (dg_ge10 (by omega) (by omega)) hp
  | succ d ih =>
    intro k n hk hn
    obtain ⟨n, rfl⟩ : ∃ m, n = m + 1 := ⟨n - 1, by omega⟩
    have h1 := ih (k + 1) n (by omega) (by omega)
    rw [dg_S_s, dg_cap] at h1
    refine br_f (dg_lt10 (by omega)) (dg_yhas hs (by omega) (fun hb z ez => ?_) (fun hb => ⟨dg_i10 (by omega), fun y ey z ez => ?_⟩))
    · rw [if_neg hb] at h1
      rw [ez, nI_1]; exact h1
    · rw [if_pos hb] at h1
      rw [ey, ez, dg_cl (by omega), hw k (by omega), nI_add, nI_1]; exact h1
theorem dg_ysum {go : Int32} {be bu bw bs bn : Nat → Int32} {post : Int32 → Prop} {W : Nat → Nat} (hw : ∀ v, v < 10 → bw v = nI (W v)) {s : Nat} (hs : s < 1024) (hp : post (nI (dg_w W s))) : wpY_sum post (go, be, bu, bw, bs, bn) (nI s) := ⟨11, dg_yu4 hw hs hp 10 0 11 (by omega) (by omega)⟩
/-! row -/
/-- the row so far, below k -/
def dg_rowk (Tm : Nat → Nat) (p k : Nat) : Prop := ∀ u v, u < v → v < k → p.testBit u = true → p.testBit v = true → (∀ x, u < x → x < v → p.testBit x = false) → (Tm u).testBit v = true
def dg_last (p k : Nat) (x : Int32) : Prop := (x = -1 ∧ ∀ v, v < k → p.testBit v = false) ∨ ∃ l, l < k ∧ x = nI l ∧ p.testBit l = true ∧ ∀ y, l < y → y < k → p.testBit y = false
def dg_sel (x : Int32) (be bu : Nat → Int32) (Tm : Nat → Nat) : Prop := (x = 0 ∧ ∀ v, v < 10 → bu v = nI (Tm v)) ∨ (¬ x = 0 ∧ ∀ v, v < 10 → be v = nI (Tm v))
theorem dg_yr46 {go : Int32} {be bu bw bs bn : Nat → Int32} {post : Int32 → Prop} {J : Int32 → Int32 → Prop} {x1 x2 : Int32} {t k : Nat} (ht : t < 1024) (hk : k < 10) (h0 : ¬ t.testBit k = true → post 0) (h1 : t.testBit k = true → J (nI k) (nI (k + 1))) : wY_row_46 post J x1 x2 (nI k) (nI t) go be bu bw bs bn := by
  unfold wY_row_46
  refine dg_yhas ht (by omega) h0 (fun h y ey => ?_)
  rw [ey, nI_1]; exact h1 h
theorem dg_yr5 {go : Int32} {be bu bw bs bn : Nat → Int32} {post : Int32 → Prop} {x2 : Int32} {Tm : Nat → Nat} (hT : ∀ v, v < 10 → Tm v < 1024) (hx : dg_sel x2 be bu Tm) {p : Nat} (hp : p < 1024) (h1 : dg_row Tm p → post 1) (h0 : ¬ dg_row Tm p → post 0) : ∀ d k n (x3 : Int32), k + d = 10 → d < n → dg_rowk Tm p k → dg_last p k x3 → wY_row_5 post (nI p) x2 go be bu bw bs bn n x3 (nI k) := by
  intro d
  induction d with
  | zero =>
    intro k n x3 hk hn hr hl
    obtain ⟨n, rfl⟩ : ∃ m, n = m + 1 := ⟨n - 1, by omega⟩
    refine br_t (dg_ge10 (by omega) (by omega)) (h1 (fun u v h2 h3 => hr u v h2 (by omega)))
  | succ d ih =>
    intro k n x3 hk hn hr hl
    obtain ⟨n, rfl⟩ : ∃ m, n = m + 1 := ⟨n - 1, by omega⟩
    refine br_f (dg_lt10 (by omega)) (dg_yhas hp (by omega) (fun hb z ez => ?_) (fun hb => ?_))
    · rw [ez, nI_1]
      refine ih (k + 1) n x3 (by omega) (by omega) (fun u v h2 h3 pu pv hbt => ?_) ?_
      · by_cases e : v = k
        · rw [e] at pv; exact absurd pv hb
        · exact hr u v h2 (by omega) pu pv hbt
      · rw [Bool.not_eq_true] at hb
        rcases hl with ⟨e, hl⟩ | ⟨l, l1, l2, l3, l4⟩
        · refine Or.inl ⟨e, fun v hv => ?_⟩
          by_cases e2 : v = k
          · rw [e2]; exact hb
          · exact hl v (by omega)
        · refine Or.inr ⟨l, by omega, l2, l3, fun y hy hy2 => ?_⟩
          by_cases e2 : y = k
          · rw [e2]; exact hb
          · exact l4 y hy (by omega)
    · have hnext : dg_last p (k + 1) (nI k) := Or.inr ⟨k, by omega, rfl, hb, fun y hy hy2 => by omega⟩
      rcases hl with ⟨e, hl⟩ | ⟨l, l1, l2, l3, l4⟩
      · subst e
        refine br_t (by decide) (fun z ez => ?_)
        rw [ez, nI_1]
        refine ih (k + 1) n _ (by omega) (by omega) (fun u v h2 h3 pu pv hbt => ?_) hnext
        have := hl u (by omega)
        rw [pu] at this; exact absurd this (by decide)
      · subst l2
        have hgo : (Tm l).testBit k = true → wY_row_5 post (nI p) x2 go be bu bw bs bn n (nI k) (nI (k + 1)) := by
          intro ht
          refine ih (k + 1) n _ (by omega) (by omega) (fun u v h2 h3 pu pv hbt => ?_) hnext
          by_cases e : v = k
          · subst e
            rcases Nat.lt_trichotomy u l with q | q | q
            · have := hbt l q l1
              rw [l3] at this; exact absurd this (by decide)
            · rw [q]; exact ht
            · have := l4 u q h2
              rw [pu] at this; exact absurd this (by decide)
          · exact hr u v h2 (by omega) pu pv hbt
        have hno : ¬ (Tm l).testBit k = true → post 0 := fun ht => h0 (fun hrow => ht (hrow l k l1 (by omega) l3 hb l4))
        refine br_f (nI_pos (by omega)) ?_
        rcases hx with ⟨e, hx⟩ | ⟨e, hx⟩
        · refine br_t e ⟨dg_i10 (by omega), ?_⟩
          rw [dg_cl (by omega), hx l (by omega)]
          exact dg_yr46 (hT l (by omega)) (by omega) hno hgo
        · refine br_f e ⟨dg_i10 (by omega), ?_⟩
          rw [dg_cl (by omega), hx l (by omega)]
          exact dg_yr46 (hT l (by omega)) (by omega) hno hgo
theorem dg_yrow {go : Int32} {be bu bw bs bn : Nat → Int32} {post : Int32 → Prop} {x2 : Int32} {Tm : Nat → Nat} (hT : ∀ v, v < 10 → Tm v < 1024) (hx : dg_sel x2 be bu Tm) {p : Nat} (hp : p < 1024) (h1 : dg_row Tm p → post 1) (h0 : ¬ dg_row Tm p → post 0) : wpY_row post (go, be, bu, bw, bs, bn) (nI p) x2 :=
  ⟨11, dg_yr5 hT hx hp h1 h0 10 0 11 (-1) (by omega) (by omega) (fun u v h2 h3 => by omega) (Or.inl ⟨rfl, fun v hv => by omega⟩)⟩
theorem dg_ychain {go : Int32} {be bu bw bs bn : Nat → Int32} {A B : Prop} {E : Nat → Nat} (hE : dg_E E) (hu : ∀ w, w < 10 → bu w = nI (dg_H E w)) {on T : Nat} (hT : T < 1024) (hg : go = nI on) (h0 : ¬ dg_CH E on T → A) (h1 : dg_CH E on T → B) : wpY_chain (fun r => (r = 0 → A) ∧ (¬ r = 0 → B)) (go, be, bu, bw, bs, bn) (nI T) := by
  subst hg
  refine ek_if (d := dg_sub T on) (dg_anI0 hT) (fun hs => ?_) (fun hs => br_t rfl (h0 (fun z => hs z.1)))
  exact dg_yrow (fun v hv => dg_H_lt hE hv) (Or.inl ⟨rfl, hu⟩) hT (fun hr => br_f (by decide) (br_f (by decide) (h1 ⟨hs, hr⟩))) (fun hr => br_t rfl (br_t rfl (h0 (fun z => hr z.2))))
end
section
/-! Y: fewest -/
theorem dg_lowI : ∀ s, s < 1024 → 0 < s → ∃ a, a < 10 ∧ nI s &&& (-nI s) = nI (2 ^ a) ∧ s.testBit a = true ∧ ∀ u, u < a → s.testBit u = false := by decide +kernel
theorem dg_nx {q s : Nat} (h : 0 < q) : (nI q - 1) &&& nI s = nI ((q - 1) &&& s) := by
  obtain ⟨r, rfl⟩ : ∃ r, q = r + 1 := ⟨q - 1, by omega⟩
  rw [nI_pred, nx_and]; rfl
theorem dg_fst {q a : Nat} (hq : q < 1024) (ha : a < 10) : (nI q &&& nI (2 ^ a)) = 0 ↔ ¬ q.testBit a = true := by
  have h1 : q &&& 2 ^ a < 1024 := dg_and_lt hq
  rw [nx_and, ← nI_0, nI_eq (by omega) (by omega), dg_and0]
  constructor
  · intro h z
    have := h a z
    rw [Nat.testBit_two_pow_self] at this
    exact absurd this (by decide)
  · intro h i hi
    rw [Nat.testBit_two_pow]
    apply decide_eq_false
    intro e
    subst e; exact h hi
theorem dg_low_u {s a b : Nat} (ha : dg_low s a) (hb : dg_low s b) : a = b := by
  rcases Nat.lt_trichotomy a b with q | q | q
  · have := hb.2 a q
    rw [ha.1] at this; exact absurd this (by decide)
  · exact q
  · have := ha.2 b q
    rw [hb.1] at this; exact absurd this (by decide)
def dg_att (Tm N : Nat → Nat) (s L : Nat) : Prop := L = 11 ∨ ∃ p, dg_part Tm s p ∧ L = N (dg_an s p) + 1
theorem dg_yf44 {go : Int32} {be bu bw bs bn : Nat → Int32} {post : Int32 → SY → Prop} {J : Int32 → (Nat → Int32) → (Nat → Int32) → (Nat → Int32) → (Nat → Int32) → (Nat → Int32) → Prop} {x1 : Int32} {Tm N : Nat → Nat} {s a : Nat} (hs0 : 0 < s) (hs : s < 1024) (ha10 : a < 10) (ha : dg_low s a) (hN : ∀ m, m < s → bn m = nI (N m) ∧ N m ≤ 11) (hS : ∀ m, 0 < m → m ≤ s → (bs m = 0 ↔ ¬ dg_row Tm m)) (hJ : ∀ L, L ≤ 11 → dg_att Tm N s L → (∀ p, dg_part Tm s p → L ≤ N (dg_an s p) + 1) → J (nI (s + 1)) be bu bw bs (upd bn s (nI L))) : ∀ n q L, q < n → dg_sub q s → L ≤ 11 → dg_att Tm N s L → (∀ p, dg_part Tm s p → q < p → L ≤ N (dg_an s p) + 1) → wY_fewest_44 post J x1 (nI s) (nI (2 ^ a)) go be bu bw bs bn n (nI L) (nI q) := by
  intro n
  induction n with
  | zero => intro q L h; omega
  | succ n ih =>
    intro q L hq hqs hL hA hB
    have hqle : q ≤ s := Nat.le_of_testBit hqs
    rcases Nat.eq_zero_or_pos q with z | z
    · subst z
      refine br_t (by decide) ⟨vp_in_nI hs (by decide), fun b eb y ey => ?_⟩
      rw [eb, ey, dg_cl (by omega), nI_1]
      refine hJ L hL hA (fun p hp => hB p hp ?_)
      have := hp.2.1 a ha
      rcases Nat.eq_zero_or_pos p with z | z
      · rw [z, Nat.zero_testBit] at this; exact absurd this (by decide)
      · exact z
    · have hnext : ∀ L', L' ≤ 11 → dg_att Tm N s L' → (∀ p, dg_part Tm s p → q ≤ p → L' ≤ N (dg_an s p) + 1) → wY_fewest_44 post J x1 (nI s) (nI (2 ^ a)) go be bu bw bs bn n (nI L') ((nI q - 1) &&& nI s) := by
        intro L' h1 h2 h3
        rw [dg_nx z]
        have h4 : (q - 1) &&& s ≤ q - 1 := Nat.and_le_left
        refine ih _ L' (by omega) (fun v hv => ?_) h1 h2 (fun p hp hlt => ?_)
        · rw [Nat.testBit_and, Bool.and_eq_true] at hv; exact hv.2
        · rcases Nat.lt_or_ge p q with y | y
          · have := dg_submask q q p s (Nat.le_refl _) hqs hp.1 y
            omega
          · exact h3 p hp y
      have hskip : ¬ dg_part Tm s q → wY_fewest_44 post J x1 (nI s) (nI (2 ^ a)) go be bu bw bs bn n (nI L) ((nI q - 1) &&& nI s) := by
        intro hnp
        refine hnext L hL hA (fun p hp hle => ?_)
        rcases Nat.lt_or_ge q p with y | y
        · exact hB p hp y
        · have e : p = q := by omega
          subst e; exact absurd hp hnp
      refine br_f (nI_nle z (by omega)) (ek_if (dg_fst (by omega) ha10) (fun hb y ey => ?_) (fun hb => ⟨vp_in_nI (by omega) (by decide), ?_⟩))
      · rw [ey]; exact hskip (fun hp => hb (hp.2.1 a ha))
      · rw [dg_cl (by omega)]
        refine ek_if (hS q z hqle) (fun hr y ey => ?_) (fun hr => ?_)
        · rw [ey]; exact hskip (fun hp => hr hp.2.2)
        · have hp : dg_part Tm s q := by
            refine ⟨hqs, fun b hb2 => ?_, Classical.byContradiction (fun y => hr y)⟩
            rw [← dg_low_u ha hb2]
            exact Classical.byContradiction (fun y => hb y)
          have hlt := dg_part_lt hs0 hs hp
          have hn := hN _ hlt
          rw [dg_anI hs, dg_cl (by omega), hn.1, nI_1]
          refine ⟨vp_in_nI (by omega) (by decide), ek_if (nI_leI (by omega) (by omega)) (fun hle y ey => ?_) (fun hle => ⟨vp_in_nI (by omega) (by decide), fun b eb y ey => ?_⟩)⟩
          · rw [ey]
            refine hnext L hL hA (fun p hp2 hle2 => ?_)
            rcases Nat.lt_or_ge q p with y | y
            · exact hB p hp2 y
            · rw [show p = q by omega]; exact hle
          · rw [eb, ey]
            refine hnext _ (by omega) (Or.inr ⟨q, hp, rfl⟩) (fun p hp2 hle2 => ?_)
            rcases Nat.lt_or_ge q p with y | y
            · have := hB p hp2 y
              omega
            · rw [show p = q by omega]; exact Nat.le_refl _
def dg_Np (Tm N : Nat → Nat) (k : Nat) : Prop := N 0 = 0 ∧ ∀ s, 0 < s → s < k → dg_att Tm N s (N s) ∧ (∀ p, dg_part Tm s p → N s ≤ N (dg_an s p) + 1)
theorem dg_yf13 {go : Int32} {be bu bw : Nat → Int32} {post : Int32 → SY → Prop} {x1 : Int32} {Tm : Nat → Nat} (hT : ∀ v, v < 10 → Tm v < 1024) (hx : dg_sel x1 be bu Tm) {on : Nat} (hon : on < 1024) (hg : go = nI on) (hp : ∀ (N : Nat → Nat) (bs bn : Nat → Int32), dg_Nd Tm N → post (nI (N on)) (go, be, bu, bw, bs, bn)) : ∀ d s n (bs bn : Nat → Int32) (N : Nat → Nat), s + d = 1024 → 0 < s → d < n → (∀ m, m < s → bn m = nI (N m) ∧ N m ≤ 11) → (∀ m, 0 < m → m < s → (bs m = 0 ↔ ¬ dg_row Tm m)) → dg_Np Tm N s → wY_fewest_13 post x1 go n (nI s) be bu bw bs bn := by
  intro d
  induction d with
  | zero =>
    intro s n bs bn N hd hs0 hn hN hS hP
    obtain ⟨n, rfl⟩ : ∃ m, n = m + 1 := ⟨n - 1, by omega⟩
    refine br_t (nI_le (a := 1024) (by omega) (by omega)) ?_
    rw [hg]
    refine ⟨vp_in_nI hon (by decide), ?_⟩
    rw [dg_cl (by omega), (hN on (by omega)).1, ← hg]
    exact hp N bs bn ⟨hP.1, fun t h1 h2 => hP.2 t h1 (by omega)⟩
  | succ d ih =>
    intro s n bs bn N hd hs0 hn hN hS hP
    obtain ⟨n, rfl⟩ : ∃ m, n = m + 1 := ⟨n - 1, by omega⟩
    obtain ⟨a, ha10, hlow, ha⟩ := dg_lowI s (by omega) hs0
    have key : ∀ r : Int32, (r = 0 ↔ ¬ dg_row Tm s) → vp_nar .boolean r = r → (vp_in (nI s) 1024 ∧ ∀ b : Nat → Int32, b = upd bs (nI s).toNatClampNeg (vp_nar .boolean r) → ∀ x3 : Int32, x3 = nI s &&& (-nI s) → ∃ n44 : Nat, wY_fewest_44 post (wY_fewest_13 post x1 go n) x1 (nI s) x3 go be bu bw b bn n44 11 (nI s)) := by
      intro r hr hnr
      refine ⟨vp_in_nI (by omega) (by decide), fun b eb x3 ex => ⟨s + 1, ?_⟩⟩
      rw [dg_cl (by omega), hnr] at eb
      rw [ex, hlow]
      have hb : ∀ m, 0 < m → m ≤ s → (b m = 0 ↔ ¬ dg_row Tm m) := by
        intro m h1 h2
        by_cases e : m = s
        · rw [e, eb, pk_us]; exact hr
        · rw [eb, pk_un e]; exact hS m h1 (by omega)
      refine dg_yf44 (N := N) hs0 (by omega) ha10 ha hN hb (fun L hL hA hB => ?_) (s + 1) s 11 (by omega) (fun _ z => z) (by omega) (Or.inl rfl) (fun p hp2 hlt => ?_)
      · refine ih (s + 1) n b (upd bn s (nI L)) (fun m => if m = s then L else N m) (by omega) (by omega) (by omega) (fun m hm => ?_) (fun m h1 h2 => hb m h1 (by omega)) ⟨?_, fun t h1 h2 => ?_⟩
        · by_cases e : m = s
          · rw [e, pk_us, if_pos rfl]; exact ⟨rfl, hL⟩
          · rw [pk_un e, if_neg e]; exact hN m (by omega)
        · dsimp only; rw [if_neg (by omega)]; exact hP.1
        · by_cases e : t = s
          · subst e
            dsimp only
            rw [if_pos rfl]
            have hlt : ∀ p, dg_part Tm t p → (if dg_an t p = t then L else N (dg_an t p)) = N (dg_an t p) := by
              intro p hp2
              have := dg_part_lt hs0 (by omega) hp2
              exact if_neg (by omega)
            refine ⟨?_, fun p hp2 => by rw [hlt p hp2]; exact hB p hp2⟩
            rcases hA with y | ⟨p, hp2, y⟩
            · exact Or.inl y
            · exact Or.inr ⟨p, hp2, by dsimp only; rw [hlt p hp2]; exact y⟩
          · dsimp only
            rw [if_neg e]
            have h3 := hP.2 t h1 (by omega)
            have hlt : ∀ p, (if dg_an t p = s then L else N (dg_an t p)) = N (dg_an t p) := by
              intro p
              have := dg_an_le t p
              exact if_neg (by omega)
            refine ⟨?_, fun p hp2 => by rw [hlt p]; exact h3.2 p hp2⟩
            rcases h3.1 with y | ⟨p, hp2, y⟩
            · exact Or.inl y
            · exact Or.inr ⟨p, hp2, by dsimp only; rw [hlt p]; exact y⟩
      · have : p ≤ s := Nat.le_of_testBit hp2.1
        omega
    refine br_f (nI_ge (b := 1024) (by omega) (by decide)) (dg_yrow hT hx (by omega) (fun h => key 1 ⟨fun z => absurd z (by decide), fun z => absurd h z⟩ rfl) (fun h => key 0 ⟨fun _ => h, fun _ => rfl⟩ rfl))
theorem dg_yfewest {go : Int32} {be bu bw bs bn : Nat → Int32} {post : Int32 → SY → Prop} {x1 : Int32} {E Tm : Nat → Nat} (hE : dg_E E) (he : ∀ v, v < 10 → be v = nI (E v)) (hT : ∀ v, v < 10 → Tm v < 1024) (hx : ∀ bu : Nat → Int32, (∀ w, w < 10 → bu w = nI (dg_H E w)) → dg_sel x1 be bu Tm) {on : Nat} (hon : on < 1024) (hg : go = nI on) (hp : ∀ (N : Nat → Nat) (bu bs bn : Nat → Int32), dg_Nd Tm N → post (nI (N on)) (go, be, bu, bw, bs, bn)) : wpY_fewest post (go, be, bu, bw, bs, bn) x1 := by
  refine dg_yclose hE he (fun bu hu a ea => ⟨1024, ?_⟩)
  rw [ea]
  refine dg_yf13 hT (hx bu hu) hon hg (fun N bs bn hN => hp N bu bs bn hN) 1023 1 1024 bs _ (fun _ => 0) (by omega) (by omega) (by omega) (fun m hm => ?_) (fun m h1 h2 => by omega) ⟨rfl, fun t h1 h2 => by omega⟩
  rw [show m = 0 by omega, pk_us]
  exact ⟨rfl, by omega⟩
theorem dg_ychains {go : Int32} {be bu bw bs bn : Nat → Int32} {post : Int32 → SY → Prop} {E : Nat → Nat} (hE : dg_E E) (he : ∀ v, v < 10 → be v = nI (E v)) {on : Nat} (hon : on < 1024) (hg : go = nI on) (hp : ∀ (N : Nat → Nat) (bu bs bn : Nat → Int32), dg_Nd (dg_H E) N → post (nI (N on)) (go, be, bu, bw, bs, bn)) : wpY_chains post (go, be, bu, bw, bs, bn) := by
  unfold wpY_chains
  exact dg_yfewest hE he (fun v hv => dg_H_lt hE hv) (fun bu hu => Or.inl ⟨rfl, hu⟩) hon hg hp
theorem dg_ypaths {go : Int32} {be bu bw bs bn : Nat → Int32} {post : Int32 → SY → Prop} {E : Nat → Nat} (hE : dg_E E) (he : ∀ v, v < 10 → be v = nI (E v)) {on : Nat} (hon : on < 1024) (hg : go = nI on) (hp : ∀ (N : Nat → Nat) (bu bs bn : Nat → Int32), dg_Nd E N → post (nI (N on)) (go, be, bu, bw, bs, bn)) : wpY_paths post (go, be, bu, bw, bs, bn) := by
  unfold wpY_paths
  exact dg_yfewest hE he (fun v hv => (hE v hv).1) (fun bu hu => Or.inr ⟨by decide, he⟩) hon hg hp
end
section
/-! Y: width, heaviest, height, heaviestChain, antichain, antichains, apart -/
def dg_Mk (P : Nat → Prop) (g : Nat → Nat) (n k : Nat) : Prop := (k = 0 ∨ ∃ T, T < n ∧ P T ∧ g T = k) ∧ ∀ T, T < n → P T → g T ≤ k
theorem dg_Mk_0 {P : Nat → Prop} {g : Nat → Nat} : dg_Mk P g 0 0 := ⟨Or.inl rfl, fun T h => by omega⟩
theorem dg_Mk_s {P : Nat → Prop} {g : Nat → Nat} {n k : Nat} (h : dg_Mk P g n k) (hs : P n → g n ≤ k) : dg_Mk P g (n + 1) k := by
  refine ⟨h.1.elim Or.inl (fun ⟨T, h1, h2⟩ => Or.inr ⟨T, by omega, h2⟩), fun T h1 h2 => ?_⟩
  by_cases e : T = n
  · rw [e] at h2 ⊢; exact hs h2
  · exact h.2 T (by omega) h2
theorem dg_Mk_n {P : Nat → Prop} {g : Nat → Nat} {n k : Nat} (h : dg_Mk P g n k) (hp : P n) (hs : k < g n) : dg_Mk P g (n + 1) (g n) := by
  refine ⟨Or.inr ⟨n, by omega, hp, rfl⟩, fun T h1 h2 => ?_⟩
  by_cases e : T = n
  · rw [e]; exact Nat.le_refl _
  · have := h.2 T (by omega) h2
    omega
theorem dg_Mk_b {P : Nat → Prop} {g : Nat → Nat} {n k b : Nat} (h : dg_Mk P g n k) (hb : ∀ T, g T ≤ b) : k ≤ b := by
  rcases h.1 with z | ⟨T, _, _, z⟩
  · omega
  · have := hb T; omega
theorem dg_g1024 {k : Nat} (h : 1024 ≤ k) (h2 : k < 100000) : (1024 : Int32) ≤ nI k := nI_le (a := 1024) h (by omega)
theorem dg_l1024 {k : Nat} (h : k < 1024) : ¬ (1024 : Int32) ≤ nI k := nI_ge (b := 1024) h (by decide)
theorem dg_w1_b (T : Nat) : dg_w dg_1 T ≤ 90 := Nat.le_trans (dg_w_ub (b := 1) (fun _ _ => Nat.le_refl _)) (by decide)
theorem dg_yl_width {go : Int32} {be bu bw bs bn : Nat → Int32} {post : Int32 → SY → Prop} {E W : Nat → Nat} (hE : dg_E E) (hu : ∀ w, w < 10 → bu w = nI (dg_H E w)) (hw : ∀ v, v < 10 → bw v = nI (W v)) (hW : ∀ v, v < 10 → W v ≤ 9) {on : Nat} (hg : go = nI on) (hp : ∀ k, dg_Mx (dg_AF E on) (dg_w dg_1) k → post (nI k) (go, be, bu, bw, bs, bn)) : ∀ d T n k, T + d = 1024 → d < n → dg_Mk (dg_AF E on) (dg_w dg_1) T k → wY_width_8 post go be bu bw bs bn n (nI k) (nI T) := by
  have dg_wW : ∀ T, dg_w W T ≤ 90 := fun T => dg_w_ub (b := 9) hW
  intro d
  induction d with
  | zero =>
    intro T n k hd hn hM
    obtain ⟨n, rfl⟩ : ∃ m, n = m + 1 := ⟨n - 1, by omega⟩
    have e : T = 1024 := by omega
    subst e
    exact br_t (dg_g1024 (by omega) (by omega)) (hp k hM)
  | succ d ih =>
    intro T n k hd hn hM
    obtain ⟨n, rfl⟩ : ∃ m, n = m + 1 := ⟨n - 1, by omega⟩
    have hk := dg_Mk_b hM dg_w1_b
    have hgT := dg_w1_b T
    have hT : T < 1024 := by omega
    refine br_f (dg_l1024 (by omega)) (dg_yanti hE hu hT hg (fun hno z ez => ?_) (fun hP => dg_ysize hT (ek_if (nI_leI (by omega) (by omega)) (fun hle z ez => ?_) (fun hle => dg_ysize hT (fun z ez => ?_)))))
    · rw [ez, nI_1]; exact ih (T + 1) n k (by omega) (by omega) (dg_Mk_s hM (fun h => absurd h hno))
    · rw [ez, nI_1]; exact ih (T + 1) n k (by omega) (by omega) (dg_Mk_s hM (fun _ => hle))
    · rw [ez, nI_1]; exact ih (T + 1) n _ (by omega) (by omega) (dg_Mk_n hM hP (by omega))
theorem dg_y_width {go : Int32} {be bu bw bs bn : Nat → Int32} {post : Int32 → SY → Prop} {E W : Nat → Nat} (hE : dg_E E) (he : ∀ v, v < 10 → be v = nI (E v)) (hw : ∀ v, v < 10 → bw v = nI (W v)) (hW : ∀ v, v < 10 → W v ≤ 9) {on : Nat} (hg : go = nI on) (hp : ∀ (bu : Nat → Int32) k, (∀ w, w < 10 → bu w = nI (dg_H E w)) → dg_Mx (dg_AF E on) (dg_w dg_1) k → post (nI k) (go, be, bu, bw, bs, bn)) : wpY_width post (go, be, bu, bw, bs, bn) :=
  dg_yclose hE he (fun bu hu => ⟨1025, dg_yl_width hE hu hw hW hg (fun k hk => hp bu k hu hk) 1024 0 1025 0 (by omega) (by omega) dg_Mk_0⟩)
theorem dg_yl_heaviest {go : Int32} {be bu bw bs bn : Nat → Int32} {post : Int32 → SY → Prop} {E W : Nat → Nat} (hE : dg_E E) (hu : ∀ w, w < 10 → bu w = nI (dg_H E w)) (hw : ∀ v, v < 10 → bw v = nI (W v)) (hW : ∀ v, v < 10 → W v ≤ 9) {on : Nat} (hg : go = nI on) (hp : ∀ k, dg_Mx (dg_AF E on) (dg_w W) k → post (nI k) (go, be, bu, bw, bs, bn)) : ∀ d T n k, T + d = 1024 → d < n → dg_Mk (dg_AF E on) (dg_w W) T k → wY_heaviest_8 post go be bu bw bs bn n (nI k) (nI T) := by
  have dg_wW : ∀ T, dg_w W T ≤ 90 := fun T => dg_w_ub (b := 9) hW
  intro d
  induction d with
  | zero =>
    intro T n k hd hn hM
    obtain ⟨n, rfl⟩ : ∃ m, n = m + 1 := ⟨n - 1, by omega⟩
    have e : T = 1024 := by omega
    subst e
    exact br_t (dg_g1024 (by omega) (by omega)) (hp k hM)
  | succ d ih =>
    intro T n k hd hn hM
    obtain ⟨n, rfl⟩ : ∃ m, n = m + 1 := ⟨n - 1, by omega⟩
    have hk := dg_Mk_b hM dg_wW
    have hgT := dg_wW T
    have hT : T < 1024 := by omega
    refine br_f (dg_l1024 (by omega)) (dg_yanti hE hu hT hg (fun hno z ez => ?_) (fun hP => dg_ysum hw hT (ek_if (nI_leI (by omega) (by omega)) (fun hle z ez => ?_) (fun hle => dg_ysum hw hT (fun z ez => ?_)))))
    · rw [ez, nI_1]; exact ih (T + 1) n k (by omega) (by omega) (dg_Mk_s hM (fun h => absurd h hno))
    · rw [ez, nI_1]; exact ih (T + 1) n k (by omega) (by omega) (dg_Mk_s hM (fun _ => hle))
    · rw [ez, nI_1]; exact ih (T + 1) n _ (by omega) (by omega) (dg_Mk_n hM hP (by omega))
theorem dg_y_heaviest {go : Int32} {be bu bw bs bn : Nat → Int32} {post : Int32 → SY → Prop} {E W : Nat → Nat} (hE : dg_E E) (he : ∀ v, v < 10 → be v = nI (E v)) (hw : ∀ v, v < 10 → bw v = nI (W v)) (hW : ∀ v, v < 10 → W v ≤ 9) {on : Nat} (hg : go = nI on) (hp : ∀ (bu : Nat → Int32) k, (∀ w, w < 10 → bu w = nI (dg_H E w)) → dg_Mx (dg_AF E on) (dg_w W) k → post (nI k) (go, be, bu, bw, bs, bn)) : wpY_heaviest post (go, be, bu, bw, bs, bn) :=
  dg_yclose hE he (fun bu hu => ⟨1025, dg_yl_heaviest hE hu hw hW hg (fun k hk => hp bu k hu hk) 1024 0 1025 0 (by omega) (by omega) dg_Mk_0⟩)
theorem dg_yl_height {go : Int32} {be bu bw bs bn : Nat → Int32} {post : Int32 → SY → Prop} {E W : Nat → Nat} (hE : dg_E E) (hu : ∀ w, w < 10 → bu w = nI (dg_H E w)) (hw : ∀ v, v < 10 → bw v = nI (W v)) (hW : ∀ v, v < 10 → W v ≤ 9) {on : Nat} (hg : go = nI on) (hp : ∀ k, dg_Mx (dg_CH E on) (dg_w dg_1) k → post (nI k) (go, be, bu, bw, bs, bn)) : ∀ d T n k, T + d = 1024 → d < n → dg_Mk (dg_CH E on) (dg_w dg_1) T k → wY_height_8 post go be bu bw bs bn n (nI k) (nI T) := by
  have dg_wW : ∀ T, dg_w W T ≤ 90 := fun T => dg_w_ub (b := 9) hW
  intro d
  induction d with
  | zero =>
    intro T n k hd hn hM
    obtain ⟨n, rfl⟩ : ∃ m, n = m + 1 := ⟨n - 1, by omega⟩
    have e : T = 1024 := by omega
    subst e
    exact br_t (dg_g1024 (by omega) (by omega)) (hp k hM)
  | succ d ih =>
    intro T n k hd hn hM
    obtain ⟨n, rfl⟩ : ∃ m, n = m + 1 := ⟨n - 1, by omega⟩
    have hk := dg_Mk_b hM dg_w1_b
    have hgT := dg_w1_b T
    have hT : T < 1024 := by omega
    refine br_f (dg_l1024 (by omega)) (dg_ychain hE hu hT hg (fun hno z ez => ?_) (fun hP => dg_ysize hT (ek_if (nI_leI (by omega) (by omega)) (fun hle z ez => ?_) (fun hle => dg_ysize hT (fun z ez => ?_)))))
    · rw [ez, nI_1]; exact ih (T + 1) n k (by omega) (by omega) (dg_Mk_s hM (fun h => absurd h hno))
    · rw [ez, nI_1]; exact ih (T + 1) n k (by omega) (by omega) (dg_Mk_s hM (fun _ => hle))
    · rw [ez, nI_1]; exact ih (T + 1) n _ (by omega) (by omega) (dg_Mk_n hM hP (by omega))
theorem dg_y_height {go : Int32} {be bu bw bs bn : Nat → Int32} {post : Int32 → SY → Prop} {E W : Nat → Nat} (hE : dg_E E) (he : ∀ v, v < 10 → be v = nI (E v)) (hw : ∀ v, v < 10 → bw v = nI (W v)) (hW : ∀ v, v < 10 → W v ≤ 9) {on : Nat} (hg : go = nI on) (hp : ∀ (bu : Nat → Int32) k, (∀ w, w < 10 → bu w = nI (dg_H E w)) → dg_Mx (dg_CH E on) (dg_w dg_1) k → post (nI k) (go, be, bu, bw, bs, bn)) : wpY_height post (go, be, bu, bw, bs, bn) :=
  dg_yclose hE he (fun bu hu => ⟨1025, dg_yl_height hE hu hw hW hg (fun k hk => hp bu k hu hk) 1024 0 1025 0 (by omega) (by omega) dg_Mk_0⟩)
theorem dg_yl_heaviestChain {go : Int32} {be bu bw bs bn : Nat → Int32} {post : Int32 → SY → Prop} {E W : Nat → Nat} (hE : dg_E E) (hu : ∀ w, w < 10 → bu w = nI (dg_H E w)) (hw : ∀ v, v < 10 → bw v = nI (W v)) (hW : ∀ v, v < 10 → W v ≤ 9) {on : Nat} (hg : go = nI on) (hp : ∀ k, dg_Mx (dg_CH E on) (dg_w W) k → post (nI k) (go, be, bu, bw, bs, bn)) : ∀ d T n k, T + d = 1024 → d < n → dg_Mk (dg_CH E on) (dg_w W) T k → wY_heaviestChain_8 post go be bu bw bs bn n (nI k) (nI T) := by
  have dg_wW : ∀ T, dg_w W T ≤ 90 := fun T => dg_w_ub (b := 9) hW
  intro d
  induction d with
  | zero =>
    intro T n k hd hn hM
    obtain ⟨n, rfl⟩ : ∃ m, n = m + 1 := ⟨n - 1, by omega⟩
    have e : T = 1024 := by omega
    subst e
    exact br_t (dg_g1024 (by omega) (by omega)) (hp k hM)
  | succ d ih =>
    intro T n k hd hn hM
    obtain ⟨n, rfl⟩ : ∃ m, n = m + 1 := ⟨n - 1, by omega⟩
    have hk := dg_Mk_b hM dg_wW
    have hgT := dg_wW T
    have hT : T < 1024 := by omega
    refine br_f (dg_l1024 (by omega)) (dg_ychain hE hu hT hg (fun hno z ez => ?_) (fun hP => dg_ysum hw hT (ek_if (nI_leI (by omega) (by omega)) (fun hle z ez => ?_) (fun hle => dg_ysum hw hT (fun z ez => ?_)))))
    · rw [ez, nI_1]; exact ih (T + 1) n k (by omega) (by omega) (dg_Mk_s hM (fun h => absurd h hno))
    · rw [ez, nI_1]; exact ih (T + 1) n k (by omega) (by omega) (dg_Mk_s hM (fun _ => hle))
    · rw [ez, nI_1]; exact ih (T + 1) n _ (by omega) (by omega) (dg_Mk_n hM hP (by omega))
theorem dg_y_heaviestChain {go : Int32} {be bu bw bs bn : Nat → Int32} {post : Int32 → SY → Prop} {E W : Nat → Nat} (hE : dg_E E) (he : ∀ v, v < 10 → be v = nI (E v)) (hw : ∀ v, v < 10 → bw v = nI (W v)) (hW : ∀ v, v < 10 → W v ≤ 9) {on : Nat} (hg : go = nI on) (hp : ∀ (bu : Nat → Int32) k, (∀ w, w < 10 → bu w = nI (dg_H E w)) → dg_Mx (dg_CH E on) (dg_w W) k → post (nI k) (go, be, bu, bw, bs, bn)) : wpY_heaviestChain post (go, be, bu, bw, bs, bn) :=
  dg_yclose hE he (fun bu hu => ⟨1025, dg_yl_heaviestChain hE hu hw hW hg (fun k hk => hp bu k hu hk) 1024 0 1025 0 (by omega) (by omega) dg_Mk_0⟩)
theorem dg_yan7 {go : Int32} {be bu bw bs bn : Nat → Int32} {post : Int32 → SY → Prop} {E : Nat → Nat} (hE : dg_E E) (hu : ∀ w, w < 10 → bu w = nI (dg_H E w)) {on most : Nat} (hg : go = nI on) (hm : dg_Mx (dg_AF E on) (dg_w dg_1) most) (hp : ∀ A, dg_Best E on most A → post (nI A) (go, be, bu, bw, bs, bn)) : ∀ d T n, T + d = 1024 → d < n → (∀ U, U < T → dg_AF E on U → dg_w dg_1 U ≠ most) → wY_antichain_7 post (nI most) go be bu bw bs bn n (nI T) := by
  have hmb := dg_Mk_b hm dg_w1_b
  have hex : ∃ T, T < 1024 ∧ dg_AF E on T ∧ dg_w dg_1 T = most := by
    rcases hm.1 with z | z
    · refine ⟨0, by decide, ⟨fun v hv => ?_, fun a b _ _ hv => ?_⟩, by rw [dg_w_0, z]⟩
      · rw [Nat.zero_testBit] at hv; exact absurd hv (by decide)
      · rw [Nat.zero_testBit] at hv; exact absurd hv (by decide)
    · exact z
  intro d
  induction d with
  | zero =>
    intro T n hd hn hno
    obtain ⟨U, h1, h2, h3⟩ := hex
    exact absurd h3 (hno U (by omega) h2)
  | succ d ih =>
    intro T n hd hn hno
    obtain ⟨n, rfl⟩ : ∃ m, n = m + 1 := ⟨n - 1, by omega⟩
    have hT : T < 1024 := by omega
    have hgT := dg_w1_b T
    refine br_f (dg_l1024 (by omega)) (dg_yanti hE hu hT hg (fun hn2 z ez => ?_) (fun hP => dg_ysize hT (ek_if (nI_eq (by omega) (by omega)) (fun heq => ?_) (fun hne z ez => ?_))))
    · rw [ez, nI_1]
      refine ih (T + 1) n (by omega) (by omega) (fun U hU hA => ?_)
      by_cases e : U = T
      · rw [e] at hA; exact absurd hA hn2
      · exact hno U (by omega) hA
    · refine hp T ⟨hT, hP, heq, fun U hU hA hw => ?_⟩
      rcases Nat.lt_or_ge U T with y | y
      · exact absurd hw (hno U y hA)
      · exact y
    · rw [ez, nI_1]
      refine ih (T + 1) n (by omega) (by omega) (fun U hU hA => ?_)
      by_cases e : U = T
      · rw [e]; exact hne
      · exact hno U (by omega) hA
theorem dg_y_antichain {go : Int32} {be bu bw bs bn : Nat → Int32} {post : Int32 → SY → Prop} {E W : Nat → Nat} (hE : dg_E E) (he : ∀ v, v < 10 → be v = nI (E v)) (hw : ∀ v, v < 10 → bw v = nI (W v)) (hW : ∀ v, v < 10 → W v ≤ 9) {on : Nat} (hg : go = nI on) (hp : ∀ (bu : Nat → Int32) most A, dg_Mx (dg_AF E on) (dg_w dg_1) most → dg_Best E on most A → post (nI A) (go, be, bu, bw, bs, bn)) : wpY_antichain post (go, be, bu, bw, bs, bn) := by
  unfold wpY_antichain
  refine dg_y_width hE he hw hW hg (fun bu k hu hk => ⟨1025, ?_⟩)
  exact dg_yan7 hE hu hg hk (fun A hA => hp bu k A hk hA) 1024 0 1025 (by omega) (by omega) (fun U hU => by omega)
theorem dg_yacs {go : Int32} {be bu bw bs bn : Nat → Int32} {post : Int32 → SY → Prop} {E : Nat → Nat} (hE : dg_E E) (hu : ∀ w, w < 10 → bu w = nI (dg_H E w)) {on : Nat} (hg : go = nI on) (hp : post (nI (dg_C E on)) (go, be, bu, bw, bs, bn)) : ∀ d T n, T + d = 1024 → d < n → wY_antichains_8 post go be bu bw bs bn n (nI (dg_cnt (dg_AF E on) T)) (nI T) := by
  intro d
  induction d with
  | zero =>
    intro T n hd hn
    obtain ⟨n, rfl⟩ : ∃ m, n = m + 1 := ⟨n - 1, by omega⟩
    have e : T = 1024 := by omega
    subst e
    exact br_t (dg_g1024 (by omega) (by omega)) hp
  | succ d ih =>
    intro T n hd hn
    obtain ⟨n, rfl⟩ : ∃ m, n = m + 1 := ⟨n - 1, by omega⟩
    have hT : T < 1024 := by omega
    have h1 := ih (T + 1) n (by omega) (by omega)
    refine br_f (dg_l1024 (by omega)) (dg_yanti hE hu hT hg (fun hno z ez => ?_) (fun hP y ey z ez => ?_))
    · rw [dg_cnt_f hno] at h1
      rw [ez, nI_1]; exact h1
    · rw [dg_cnt_t hP] at h1
      rw [ey, ez, nI_1, nI_1]; exact h1
theorem dg_y_antichains {go : Int32} {be bu bw bs bn : Nat → Int32} {post : Int32 → SY → Prop} {E : Nat → Nat} (hE : dg_E E) (he : ∀ v, v < 10 → be v = nI (E v)) {on : Nat} (hg : go = nI on) (hp : ∀ bu : Nat → Int32, post (nI (dg_C E on)) (go, be, bu, bw, bs, bn)) : wpY_antichains post (go, be, bu, bw, bs, bn) :=
  dg_yclose hE he (fun bu hu => ⟨1025, dg_yacs hE hu hg (hp bu) 1024 0 1025 (by omega) (by omega)⟩)
/-! apart -/
def dg_pr (E : Nat → Nat) (on a b : Nat) : Nat := if on.testBit a = true ∧ on.testBit b = true ∧ ¬ (dg_H E a).testBit b = true then 1 else 0
def dg_pr1 (E : Nat → Nat) (on a k : Nat) : Nat := dg_S (fun j => dg_pr E on a (a + 1 + j)) k
def dg_ap (E : Nat → Nat) (on k : Nat) : Nat := dg_S (fun a => dg_pr1 E on a (9 - a)) k
theorem dg_pr1_s (E : Nat → Nat) (on a k : Nat) : dg_pr1 E on a (k + 1) = dg_pr1 E on a k + dg_pr E on a (a + 1 + k) := rfl
theorem dg_yap18 {go : Int32} {be bu bw bs bn : Nat → Int32} {post : Int32 → SY → Prop} {J : Int32 → Int32 → Prop} {E : Nat → Nat} (hE : dg_E E) (hu : ∀ w, w < 10 → bu w = nI (dg_H E w)) {on : Nat} (hon : on < 1024) (hg : go = nI on) {a c : Nat} (ha : a < 10) (hJ : J (nI (c + dg_pr1 E on a (9 - a))) (nI (a + 1))) : ∀ d k n, k + d = 9 - a → d < n → wY_apart_18 post J (nI a) go be bu bw bs bn n (nI (c + dg_pr1 E on a k)) (nI (a + 1 + k)) := by
  subst hg
  intro d
  induction d with
  | zero =>
    intro k n hk hn
    obtain ⟨n, rfl⟩ : ∃ m, n = m + 1 := ⟨n - 1, by omega⟩
    refine br_t (dg_ge10 (by omega) (by omega)) (fun y ey => ?_)
    rw [ey, nI_1, show k = 9 - a by omega]
    exact hJ
  | succ d ih =>
    intro k n hk hn
    obtain ⟨n, rfl⟩ : ∃ m, n = m + 1 := ⟨n - 1, by omega⟩
    have h1 := ih (k + 1) n (by omega) (by omega)
    rw [dg_pr1_s, dg_pr] at h1
    refine br_f (dg_lt10 (by omega)) (dg_yhas hon (by omega) (fun hb z ez => ?_) (fun hb => dg_yhas hon (by omega) (fun hb2 z ez => ?_) (fun hb2 => ⟨dg_i10 ha, ?_⟩)))
    · rw [if_neg (fun h => hb h.1)] at h1
      rw [ez, nI_1]; exact h1
    · rw [if_neg (fun h => hb2 h.2.1)] at h1
      rw [ez, nI_1]; exact h1
    · rw [dg_cl (by omega), hu a ha]
      refine dg_yhas (dg_H_lt hE ha) (by omega) (fun hb3 y ey z ez => ?_) (fun hb3 z ez => ?_)
      · rw [if_pos ⟨hb, hb2, hb3⟩] at h1
        rw [ey, ez, nI_1, nI_1]; exact h1
      · rw [if_neg (fun h => h.2.2 hb3)] at h1
        rw [ez, nI_1]; exact h1
theorem dg_yap8 {go : Int32} {be bu bw bs bn : Nat → Int32} {post : Int32 → SY → Prop} {E : Nat → Nat} (hE : dg_E E) (hu : ∀ w, w < 10 → bu w = nI (dg_H E w)) {on : Nat} (hon : on < 1024) (hg : go = nI on) (hp : post (nI (dg_ap E on 10)) (go, be, bu, bw, bs, bn)) : ∀ d a n, a + d = 10 → d < n → wY_apart_8 post go be bu bw bs bn n (nI (dg_ap E on a)) (nI a) := by
  intro d
  induction d with
  | zero =>
    intro a n hd hn
    obtain ⟨n, rfl⟩ : ∃ m, n = m + 1 := ⟨n - 1, by omega⟩
    have e : a = 10 := by omega
    subst e
    exact br_t (dg_ge10 (by omega) (by omega)) hp
  | succ d ih =>
    intro a n hd hn
    obtain ⟨n, rfl⟩ : ∃ m, n = m + 1 := ⟨n - 1, by omega⟩
    have h1 := ih (a + 1) n (by omega) (by omega)
    refine br_f (dg_lt10 (by omega)) (fun z ez => ⟨10, ?_⟩)
    rw [ez, nI_1]
    exact dg_yap18 (c := dg_ap E on a) hE hu hon hg (by omega) h1 (9 - a) 0 10 (by omega) (by omega)
theorem dg_y_apart {go : Int32} {be bu bw bs bn : Nat → Int32} {post : Int32 → SY → Prop} {E : Nat → Nat} (hE : dg_E E) (he : ∀ v, v < 10 → be v = nI (E v)) {on : Nat} (hon : on < 1024) (hg : go = nI on) (hp : ∀ bu : Nat → Int32, post (nI (dg_ap E on 10)) (go, be, bu, bw, bs, bn)) : wpY_apart post (go, be, bu, bw, bs, bn) :=
  dg_yclose hE he (fun bu hu => ⟨11, dg_yap8 hE hu hon hg (hp bu) 10 0 11 (by omega) (by omega)⟩)
end
section
/-! X: apart, heaviest's sum, bestChain, countWith, antichains -/
theorem dg_xap53 {fo fc fk : Int32} {aw ae ah ai ao an af co ci qu : Nat → Int32} {post : Int32 → SX → Prop} {J8 J : Int32 → Int32 → Prop} {E : Nat → Nat} (hE : dg_E E) (hh : ∀ w, w < 10 → ah w = nI (dg_H E w)) {a b c : Nat} (ha : a < 10) (hb : b < 10) (h0 : (dg_H E a).testBit b = true → J (nI c) (nI (b + 1))) (h1 : ¬ (dg_H E a).testBit b = true → J (nI (c + 1)) (nI (b + 1))) : wX_apart_53 post J8 J (nI c) (nI a) (nI b) 1 fo fc fk aw ae ah ai ao an af co ci qu := by
  refine br_f (by decide) ⟨dg_i10 ha, ?_⟩
  rw [dg_cl (by omega), hh a ha]
  refine ek_if (dg_b0 (dg_H_lt hE ha) (by omega)) (fun h y ey z ez => ?_) (fun h z ez => ?_)
  · rw [ey, ez, nI_1, nI_1]; exact h1 (by rw [h]; decide)
  · rw [ez, nI_1]; exact h0 (by simpa using h)
theorem dg_xap52 {fo fc fk : Int32} {aw ae ah ai ao an af co ci qu : Nat → Int32} {post : Int32 → SX → Prop} {J8 J : Int32 → Int32 → Prop} {a b c : Nat} (h0 : J (nI c) (nI (b + 1))) : wX_apart_52 post J8 J (nI c) (nI a) (nI b) fo fc fk aw ae ah ai ao an af co ci qu := by
  unfold wX_apart_52
  refine br_t rfl (fun z ez => ?_)
  rw [ez, nI_1]; exact h0
theorem dg_xap18 {fo fc fk : Int32} {aw ae ah ai ao an af co ci qu : Nat → Int32} {post : Int32 → SX → Prop} {J : Int32 → Int32 → Prop} {E : Nat → Nat} (hE : dg_E E) (hh : ∀ w, w < 10 → ah w = nI (dg_H E w)) {on : Nat} (hon : on < 1024) (hg : fo = nI on) {a c : Nat} (ha : a < 10) (hJ : J (nI (c + dg_pr1 E on a (9 - a))) (nI (a + 1))) : ∀ d k n, k + d = 9 - a → d < n → wX_apart_18 post J (nI a) fo fc fk aw ae ah ai ao an af co ci qu n (nI (c + dg_pr1 E on a k)) (nI (a + 1 + k)) := by
  subst hg
  intro d
  induction d with
  | zero =>
    intro k n hk hn
    obtain ⟨n, rfl⟩ : ∃ m, n = m + 1 := ⟨n - 1, by omega⟩
    refine br_t (dg_ge10 (by omega) (by omega)) (fun y ey => ?_)
    rw [ey, nI_1, show k = 9 - a by omega]
    exact hJ
  | succ d ih =>
    intro k n hk hn
    obtain ⟨n, rfl⟩ : ∃ m, n = m + 1 := ⟨n - 1, by omega⟩
    have h1 := ih (k + 1) n (by omega) (by omega)
    rw [dg_pr1_s, dg_pr] at h1
    refine br_f (dg_lt10 (by omega)) (ek_if (dg_b1 hon (by omega)) (fun hb => ek_if (dg_b1 hon (by omega)) (fun hb2 => ?_) (fun hb2 => ?_)) (fun hb => ?_))
    · refine dg_xap53 hE hh ha (by omega) (fun h => ?_) (fun h => ?_)
      · rw [if_neg (fun z => z.2.2 h)] at h1; exact h1
      · rw [if_pos ⟨hb, hb2, h⟩] at h1; exact h1
    · rw [if_neg (fun z => hb2 z.2.1)] at h1
      exact dg_xap52 h1
    · rw [if_neg (fun z => hb z.1)] at h1
      exact dg_xap52 h1
theorem dg_xap8 {fo fc fk : Int32} {aw ae ah ai ao an af co ci qu : Nat → Int32} {post : Int32 → SX → Prop} {E : Nat → Nat} (hE : dg_E E) (hh : ∀ w, w < 10 → ah w = nI (dg_H E w)) {on : Nat} (hon : on < 1024) (hg : fo = nI on) (hp : post (nI (dg_ap E on 10)) (fo, fc, fk, aw, ae, ah, ai, ao, an, af, co, ci, qu)) : ∀ d a n, a + d = 10 → d < n → wX_apart_8 post fo fc fk aw ae ah ai ao an af co ci qu n (nI (dg_ap E on a)) (nI a) := by
  intro d
  induction d with
  | zero =>
    intro a n hd hn
    obtain ⟨n, rfl⟩ : ∃ m, n = m + 1 := ⟨n - 1, by omega⟩
    have e : a = 10 := by omega
    subst e
    exact br_t (dg_ge10 (by omega) (by omega)) hp
  | succ d ih =>
    intro a n hd hn
    obtain ⟨n, rfl⟩ : ∃ m, n = m + 1 := ⟨n - 1, by omega⟩
    have h1 := ih (a + 1) n (by omega) (by omega)
    refine br_f (dg_lt10 (by omega)) (fun z ez => ⟨10, ?_⟩)
    rw [ez, nI_1]
    exact dg_xap18 (c := dg_ap E on a) hE hh hon hg (by omega) h1 (9 - a) 0 10 (by omega) (by omega)
theorem dg_x_apart {fo fc fk : Int32} {aw ae ah ai ao an af co ci qu : Nat → Int32} {post : Int32 → SX → Prop} {E : Nat → Nat} (hE : dg_E E) (he : ∀ v, v < 10 → ae v = nI (E v)) (hc : fc ≠ 0 → ∀ w, w < 10 → ah w = nI (dg_H E w)) {on : Nat} (hon : on < 1024) (hg : fo = nI on) (hp : ∀ (fc : Int32) (ah : Nat → Int32), fc ≠ 0 → (∀ w, w < 10 → ah w = nI (dg_H E w)) → post (nI (dg_ap E on 10)) (fo, fc, fk, aw, ae, ah, ai, ao, an, af, co, ci, qu)) : wpX_apart post (fo, fc, fk, aw, ae, ah, ai, ao, an, af, co, ci, qu) :=
  dg_xclose hE he hc (fun fc ah h1 h2 => ⟨11, dg_xap8 hE h2 hon hg (hp fc ah h1 h2) 10 0 11 (by omega) (by omega)⟩)
/-! heaviest's sum -/
theorem dg_xhv15 {fo fc fk : Int32} {aw ae ah ai ao an af co ci qu : Nat → Int32} {post : Int32 → SX → Prop} {x1 : Int32} {W : Nat → Nat} (hw : ∀ v, v < 10 → aw v = nI (W v)) {on : Nat} (hon : on < 1024) (hg : fo = nI on) (hp : post (nI (dg_w W on) - x1) (fo, fc, fk, aw, ae, ah, ai, ao, an, af, co, ci, qu)) : ∀ d k n, k + d = 10 → d < n → wX_heaviest_15 post x1 fo fc fk aw ae ah ai ao an af co ci qu n (nI (dg_S (dg_cap on W) k)) (nI k) := by
  subst hg
  intro d
  induction d with
  | zero =>
    intro k n hk hn
    obtain ⟨n, rfl⟩ : ∃ m, n = m + 1 := ⟨n - 1, by omega⟩
    have e : k = 10 := by omega
    subst e
    exact br_t (dg_ge10 (by omega) (by omega)) hp
  | succ d ih =>
    intro k n hk hn
    obtain ⟨n, rfl⟩ : ∃ m, n = m + 1 := ⟨n - 1, by omega⟩
    have h1 := ih (k + 1) n (by omega) (by omega)
    rw [dg_S_s, dg_cap] at h1
    refine br_f (dg_lt10 (by omega)) (ek_if (dg_b1 hon (by omega)) (fun hb => ⟨dg_i10 (by omega), fun y ey z ez => ?_⟩) (fun hb z ez => ?_))
    · rw [if_pos hb] at h1
      rw [ey, ez, dg_cl (by omega), hw k (by omega), nI_add, nI_1]; exact h1
    · rw [if_neg hb] at h1
      rw [ez, nI_1]; exact h1
/-! bestChain -/
def dg_Bk (E : Nat → Nat) (on : Nat) (Q : Nat → Nat) (v n b : Nat) : Prop := (b = 0 ∨ ∃ w, w < n ∧ (dg_H E v).testBit w = true ∧ on.testBit w = true ∧ Q w = b) ∧ ∀ w, w < n → (dg_H E v).testBit w = true → on.testBit w = true → Q w ≤ b
def dg_Qs (E G : Nat → Nat) (on : Nat) (qu : Nat → Int32) (Q : Nat → Nat) (i : Nat) : Prop := ∀ w, i ≤ w → w < 10 → qu w = nI (Q w) ∧ dg_Q E G on w (Q w)
def dg_bst (on : Nat) (Q : Nat → Nat) (i b : Nat) : Prop := (b = 0 ∨ ∃ w, i ≤ w ∧ w < 10 ∧ on.testBit w = true ∧ Q w = b) ∧ ∀ w, i ≤ w → w < 10 → on.testBit w = true → Q w ≤ b
theorem dg_Q_b {E G : Nat → Nat} (hG : ∀ v, v < 10 → G v ≤ 9) {on u q : Nat} (h : dg_Q E G on u q) : q ≤ 90 := by
  obtain ⟨⟨T, _, h1⟩, _⟩ := h
  have := dg_w_ub (T := T) hG
  omega
theorem dg_i20 {k : Nat} (h : k < 20) : vp_in (nI k) 20 := vp_in_nI h (by decide)
theorem dg_xbc100 {fo fc fk : Int32} {aw ae ah ai ao an af co ci qu : Nat → Int32} {post : Int32 → SX → Prop} {J : Int32 → Int32 → (Nat → Int32) → (Nat → Int32) → (Nat → Int32) → (Nat → Int32) → (Nat → Int32) → (Nat → Int32) → (Nat → Int32) → (Nat → Int32) → (Nat → Int32) → (Nat → Int32) → Prop} {x1 : Int32} {E G : Nat → Nat} (hE : dg_E E) (hG : ∀ v, v < 10 → G v ≤ 9) {on : Nat} (hon : on < 1024) (hg : fo = nI on) {v b best : Nat} {Q : Nat → Nat} (hv : v < 10) (hQ : dg_Qs E G on qu Q (v + 1)) (hb : dg_Bk E on Q v 10 b) (hbest : dg_bst on Q (v + 1) best) (hJ : ∀ (qu : Nat → Int32) (Q : Nat → Nat) (best : Nat), dg_Qs E G on qu Q v → dg_bst on Q v best → J (nI best) (nI v + (-1)) aw ae ah ai ao an af co ci qu) : wX_bestChain_100 post J x1 (nI best) (nI v) (nI (G v)) (nI b) (nI v) fo fc fk aw ae ah ai ao an af co ci qu := by
  subst hg
  have hq : dg_Q E G on v (b + G v) := dg_Q_step hE hv (fun w h1 h2 => (hQ w h1 h2).2) (hb.1.elim Or.inl (fun ⟨w, _, h⟩ => Or.inr ⟨w, h⟩)) (fun w h1 h2 => hb.2 w (dg_H_up hE hv h1).2 h1 h2)
  have hqb := dg_Q_b hG hq
  have hbb : best ≤ 90 := by
    rcases hbest.1 with z | ⟨w, h1, h2, _, h3⟩
    · omega
    · have := dg_Q_b hG (hQ w h1 h2).2
      omega
  refine ⟨dg_i20 (by omega), fun q eq => ?_⟩
  rw [dg_cl (by omega), nI_add] at eq
  have hqv : q v = nI (b + G v) := by rw [eq]; exact pk_us
  have hQ' : dg_Qs E G on q (fun w => if w = v then b + G v else Q w) v := by
    intro w h1 h2
    by_cases e : w = v
    · rw [e, hqv]; dsimp only; rw [if_pos rfl]; exact ⟨rfl, hq⟩
    · rw [eq, pk_un e]; dsimp only; rw [if_neg e]; exact hQ w (by omega) h2
  have hup : ∀ w, v + 1 ≤ w → (if w = v then b + G v else Q w) = Q w := fun w h => if_neg (by omega)
  refine ek_if (dg_b1 hon (by omega)) (fun ho => ⟨dg_i20 (by omega), ?_⟩) (fun ho y ey => ?_)
  · rw [dg_cl (by omega), hqv]
    refine ek_if (nI_leI (by omega) (by omega)) (fun hle y ey => ?_) (fun hle => ⟨dg_i20 (by omega), fun x ex y ey => ?_⟩)
    · rw [ey]
      refine hJ q _ best hQ' ⟨hbest.1.elim Or.inl (fun ⟨w, h1, h2, h3, h4⟩ => Or.inr ⟨w, by omega, h2, h3, (hup w h1).trans h4⟩), fun w h1 h2 h3 => ?_⟩
      by_cases e : w = v
      · dsimp only; rw [if_pos e]; exact hle
      · dsimp only; rw [if_neg e]; exact hbest.2 w (by omega) h2 h3
    · rw [ex, ey]
      refine hJ q _ (b + G v) hQ' ⟨Or.inr ⟨v, Nat.le_refl _, hv, ho, if_pos rfl⟩, fun w h1 h2 h3 => ?_⟩
      by_cases e : w = v
      · dsimp only; rw [if_pos e]; exact Nat.le_refl _
      · dsimp only; rw [if_neg e]
        have := hbest.2 w (by omega) h2 h3
        omega
  · rw [ey]
    refine hJ q _ best hQ' ⟨hbest.1.elim Or.inl (fun ⟨w, h1, h2, h3, h4⟩ => Or.inr ⟨w, by omega, h2, h3, (hup w h1).trans h4⟩), fun w h1 h2 h3 => ?_⟩
    by_cases e : w = v
    · rw [e] at h3; exact absurd h3 ho
    · dsimp only; rw [if_neg e]; exact hbest.2 w (by omega) h2 h3
def dg_gw (x1 : Int32) (aw : Nat → Int32) (G : Nat → Nat) : Prop := (x1 = 0 ∧ G = dg_1) ∨ (¬ x1 = 0 ∧ ∀ v, v < 10 → aw v = nI (G v))
theorem dg_xbc34 {fo fc fk : Int32} {aw ae ah ai ao an af co ci qu : Nat → Int32} {post : Int32 → SX → Prop} {J : Int32 → Int32 → (Nat → Int32) → (Nat → Int32) → (Nat → Int32) → (Nat → Int32) → (Nat → Int32) → (Nat → Int32) → (Nat → Int32) → (Nat → Int32) → (Nat → Int32) → (Nat → Int32) → Prop} {x1 : Int32} {E G : Nat → Nat} (hE : dg_E E) (hG : ∀ v, v < 10 → G v ≤ 9) (hx : dg_gw x1 aw G) {on : Nat} (hon : on < 1024) (hg : fo = nI on) {v best : Nat} {Q : Nat → Nat} (hv : v < 10) (hQ : dg_Qs E G on qu Q (v + 1)) (hbest : dg_bst on Q (v + 1) best) (hJ : ∀ (qu : Nat → Int32) (Q : Nat → Nat) (best : Nat), dg_Qs E G on qu Q v → dg_bst on Q v best → J (nI best) (nI v + (-1)) aw ae ah ai ao an af co ci qu) : ∀ d k n b, k + d = 9 - v → d < n → dg_Bk E on Q v (v + 1 + k) b → wX_bestChain_34 post J x1 (nI best) (nI v) (nI (dg_H E v &&& on)) fo fc fk aw ae ah ai ao an af co ci qu n (nI b) (nI (v + 1 + k)) := by
  have hopen : dg_H E v &&& on < 1024 := dg_and_lt (dg_H_lt hE hv)
  intro d
  induction d with
  | zero =>
    intro k n b hk hn hb
    obtain ⟨n, rfl⟩ : ∃ m, n = m + 1 := ⟨n - 1, by omega⟩
    rw [show v + 1 + k = 10 by omega] at hb ⊢
    have h := dg_xbc100 (fc := fc) (fk := fk) (post := post) (x1 := x1) hE hG hon hg hv hQ hb hbest hJ
    refine br_t (dg_ge10 (by omega) (by omega)) ?_
    rcases hx with ⟨e, eG⟩ | ⟨e, hx⟩
    · refine br_t e ?_
      rw [eG] at h; exact h
    · refine br_f e ⟨dg_i10 hv, ?_⟩
      rw [dg_cl (by omega), hx v hv]; exact h
  | succ d ih =>
    intro k n b hk hn hb
    obtain ⟨n, rfl⟩ : ∃ m, n = m + 1 := ⟨n - 1, by omega⟩
    have hqw := hQ (v + 1 + k) (by omega) (by omega)
    have hqb := dg_Q_b hG hqw.2
    have hbb : b ≤ 90 := by
      rcases hb.1 with z | ⟨w, h1, h2, h3, h4⟩
      · omega
      · have h5 := dg_H_up hE hv h2
        have := dg_Q_b hG (hQ w (by omega) h5.2).2
        omega
    have hkeep : ((dg_H E v).testBit (v + 1 + k) = true → on.testBit (v + 1 + k) = true → Q (v + 1 + k) ≤ b) → dg_Bk E on Q v (v + 1 + (k + 1)) b := by
      intro h
      refine ⟨hb.1.elim Or.inl (fun ⟨w, h1, h2⟩ => Or.inr ⟨w, by omega, h2⟩), fun w h1 h2 h3 => ?_⟩
      by_cases e : w = v + 1 + k
      · rw [e] at h2 h3 ⊢; exact h h2 h3
      · exact hb.2 w (by omega) h2 h3
    refine br_f (dg_lt10 (by omega)) (ek_if (dg_b1 hopen (by omega)) (fun ho => ⟨dg_i20 (by omega), ?_⟩) (fun ho z ez => ?_))
    · rw [Nat.testBit_and, Bool.and_eq_true] at ho
      rw [dg_cl (by omega), hqw.1]
      refine ek_if (nI_leI (by omega) (by omega)) (fun hle z ez => ?_) (fun hle => ⟨dg_i20 (by omega), fun y ey z ez => ?_⟩)
      · rw [ez, nI_1]
        exact ih (k + 1) n b (by omega) (by omega) (hkeep (fun _ _ => hle))
      · rw [ey, ez, nI_1]
        refine ih (k + 1) n _ (by omega) (by omega) ⟨Or.inr ⟨v + 1 + k, by omega, ho.1, ho.2, rfl⟩, fun w h1 h2 h3 => ?_⟩
        by_cases e : w = v + 1 + k
        · rw [e]; exact Nat.le_refl _
        · have := hb.2 w (by omega) h2 h3
          omega
    · rw [Nat.testBit_and, Bool.and_eq_true] at ho
      rw [ez, nI_1]
      exact ih (k + 1) n b (by omega) (by omega) (hkeep (fun h1 h2 => absurd ⟨h1, h2⟩ ho))
theorem dg_xbc9 {fo fc fk : Int32} {aw ae ah ai ao an af co ci : Nat → Int32} {post : Int32 → SX → Prop} {x1 : Int32} {E G : Nat → Nat} (hE : dg_E E) (hh : ∀ w, w < 10 → ah w = nI (dg_H E w)) (hG : ∀ v, v < 10 → G v ≤ 9) (hx : dg_gw x1 aw G) {on : Nat} (hon : on < 1024) (hg : fo = nI on) (hp : ∀ (qu : Nat → Int32) b, dg_Mx (dg_CH E on) (dg_w G) b → post (nI b) (fo, fc, fk, aw, ae, ah, ai, ao, an, af, co, ci, qu)) : ∀ i n (qu : Nat → Int32) (Q : Nat → Nat) best, i ≤ 10 → i < n → dg_Qs E G on qu Q i → dg_bst on Q i best → wX_bestChain_9 post x1 fo fc fk n (nI best) (nI i + (-1)) aw ae ah ai ao an af co ci qu := by
  intro i
  induction i with
  | zero =>
    intro n qu Q best h1 h2 hQ hb
    obtain ⟨n, rfl⟩ : ∃ m, n = m + 1 := ⟨n - 1, by omega⟩
    refine br_t (by decide) (hp qu best (dg_best hon (fun w hw => (hQ w (by omega) hw).2) (hb.1.elim Or.inl (fun ⟨w, _, h⟩ => Or.inr ⟨w, h⟩)) (fun w hw => hb.2 w (by omega) hw)))
  | succ i ih =>
    intro n qu Q best h1 h2 hQ hb
    obtain ⟨n, rfl⟩ : ∃ m, n = m + 1 := ⟨n - 1, by omega⟩
    rw [pk_m1]
    refine br_f (nI_pos (by omega)) ⟨dg_i10 (by omega), fun y ey z ez => ⟨10, ?_⟩⟩
    rw [ey, ez, dg_cl (by omega), hh i (by omega), hg, nx_and, nI_1]
    refine dg_xbc34 hE hG hx hon rfl (by omega) hQ hb (fun qu Q best h3 h4 => ?_) (9 - i) 0 10 0 (by omega) (by omega) ⟨Or.inl rfl, fun w h3 h4 => ?_⟩
    · rw [← hg]
      exact ih n qu Q best (by omega) (by omega) h3 h4
    · have := dg_H_up hE (by omega) h4
      omega
theorem dg_xbest {fo fc fk : Int32} {aw ae ah ai ao an af co ci qu : Nat → Int32} {post : Int32 → SX → Prop} {x1 : Int32} {E G : Nat → Nat} (hE : dg_E E) (he : ∀ v, v < 10 → ae v = nI (E v)) (hc : fc ≠ 0 → ∀ w, w < 10 → ah w = nI (dg_H E w)) (hG : ∀ v, v < 10 → G v ≤ 9) (hx : dg_gw x1 aw G) {on : Nat} (hon : on < 1024) (hg : fo = nI on) (hp : ∀ (fc : Int32) (ah qu : Nat → Int32) b, fc ≠ 0 → (∀ w, w < 10 → ah w = nI (dg_H E w)) → dg_Mx (dg_CH E on) (dg_w G) b → post (nI b) (fo, fc, fk, aw, ae, ah, ai, ao, an, af, co, ci, qu)) : wpX_bestChain post (fo, fc, fk, aw, ae, ah, ai, ao, an, af, co, ci, qu) x1 :=
  dg_xclose hE he hc (fun fc ah h1 h2 => ⟨11, dg_xbc9 hE h2 hG hx hon hg (fun qu b hb => hp fc ah qu b h1 h2 hb) 10 11 qu (fun _ => 0) 0 (by omega) (by omega) (fun w h3 h4 => by omega) ⟨Or.inl rfl, fun w h3 h4 => by omega⟩⟩)
/-! countWith, antichains -/
theorem dg_i1024 {k : Nat} (h : k < 1024) : vp_in (nI k) 1024 := vp_in_nI h (by decide)
theorem dg_xcw10 {fo fc fk : Int32} {aw ae ah ao an af co ci qu : Nat → Int32} {post : SX → Prop} {E : Nat → Nat} (hE : dg_E E) {v : Nat} (hv : v < 10) (hp : ∀ ai : Nat → Int32, (∀ m, m < 2 ^ (v + 1) → ai m = nI (dg_C E m)) → post (fo, fc, fk, aw, ae, ah, ai, ao, an, af, co, ci, qu)) : ∀ d r n (ai : Nat → Int32), r + d = 2 ^ v → d < n → (∀ m, m < r + 2 ^ v → ai m = nI (dg_C E m)) → wX_countWith_10 post (nI v) (nI (dg_rel E v) ^^^ (-1)) fo fc fk n (nI r) aw ae ah ai ao an af co ci qu := by
  have h2v := dg_2 hv
  intro d
  induction d with
  | zero =>
    intro r n ai hd hn hi
    obtain ⟨n, rfl⟩ : ∃ m, n = m + 1 := ⟨n - 1, by omega⟩
    refine br_t (by rw [dg_sh hv]; exact nI_le (by omega) (by omega)) (hp ai (fun m hm => hi m ?_))
    rw [Nat.pow_succ] at hm
    omega
  | succ d ih =>
    intro r n ai hd hn hi
    obtain ⟨n, rfl⟩ : ∃ m, n = m + 1 := ⟨n - 1, by omega⟩
    have hr : r < 2 ^ v := by omega
    have hor : r ||| 2 ^ v = r + 2 ^ v := Nat.or_two_pow_eq_add_of_lt hr
    have hlt : r ||| 2 ^ v < 1024 := dg_or_lt (by omega) h2v
    have han := dg_an_le r (dg_rel E v)
    refine br_f (by rw [dg_sh hv]; exact nI_ge (by omega) (by omega)) ⟨dg_i1024 (by omega), ?_, ?_, fun b eb y ey => ?_⟩
    · rw [dg_anI (by omega)]; exact dg_i1024 (by omega)
    · rw [dg_sh hv, dg_or]; exact dg_i1024 hlt
    · rw [dg_sh hv, dg_or, dg_anI (by omega), dg_cl (by omega), dg_cl (by omega), dg_cl (by omega), hi r (by omega), hi (dg_an r (dg_rel E v)) (by omega), nI_add, ← dg_C_rec hE hv hr (fun i hi2 => dg_rel_tb hE i hi2)] at eb
      rw [ey, nI_1]
      refine ih (r + 1) n b (by omega) (by omega) (fun m hm => ?_)
      by_cases e : m = r ||| 2 ^ v
      · rw [e, eb]; exact pk_us
      · rw [eb, pk_un e]; exact hi m (by omega)
theorem dg_xcw {fo fc fk : Int32} {aw ae ah ai ao an af co ci qu : Nat → Int32} {post : SX → Prop} {E : Nat → Nat} (hE : dg_E E) (hh : ∀ w, w < 10 → ah w = nI (dg_H E w)) {v : Nat} (hv : v < 10) (hi : ∀ m, m < 2 ^ v → ai m = nI (dg_C E m)) (hp : ∀ ai : Nat → Int32, (∀ m, m < 2 ^ (v + 1) → ai m = nI (dg_C E m)) → post (fo, fc, fk, aw, ae, ah, ai, ao, an, af, co, ci, qu)) : wpX_countWith post (fo, fc, fk, aw, ae, ah, ai, ao, an, af, co, ci, qu) (nI v) := by
  unfold wpX_countWith
  refine dg_xrelated hE hh hv (fun y ey => ⟨2 ^ v + 1, ?_⟩)
  rw [ey]
  exact dg_xcw10 hE hv hp (2 ^ v) 0 (2 ^ v + 1) ai (by omega) (by omega) (fun m hm => hi m (by omega))
theorem dg_xacs {fo fc fk : Int32} {aw ae ah ao an af co ci qu : Nat → Int32} {post : Int32 → SX → Prop} {E : Nat → Nat} (hE : dg_E E) (hh : ∀ w, w < 10 → ah w = nI (dg_H E w)) {on : Nat} (hon : on < 1024) (hg : fo = nI on) (hp : ∀ ai : Nat → Int32, (∀ m, m < 1024 → ai m = nI (dg_C E m)) → post (nI (dg_C E on)) (fo, fc, 1, aw, ae, ah, ai, ao, an, af, co, ci, qu)) : ∀ d v n (ai : Nat → Int32), v + d = 10 → d < n → (∀ m, m < 2 ^ v → ai m = nI (dg_C E m)) → wX_antichains_20 post n (nI v) fo fc fk aw ae ah ai ao an af co ci qu := by
  intro d
  induction d with
  | zero =>
    intro v n ai hd hn hi
    obtain ⟨n, rfl⟩ : ∃ m, n = m + 1 := ⟨n - 1, by omega⟩
    have e : v = 10 := by omega
    subst e
    refine br_t (dg_ge10 (by omega) (by omega)) ?_
    rw [hg]
    refine ⟨dg_i1024 hon, ?_⟩
    rw [dg_cl (by omega), hi on hon, ← hg]
    exact hp ai hi
  | succ d ih =>
    intro v n ai hd hn hi
    obtain ⟨n, rfl⟩ : ∃ m, n = m + 1 := ⟨n - 1, by omega⟩
    refine br_f (dg_lt10 (by omega)) (dg_xcw hE hh (by omega) hi (fun ai hi2 y ey => ?_))
    rw [ey, nI_1]
    exact ih (v + 1) n ai (by omega) (by omega) hi2
theorem dg_x_antichains {fo fc fk : Int32} {aw ae ah ai ao an af co ci qu : Nat → Int32} {post : Int32 → SX → Prop} {E : Nat → Nat} (hE : dg_E E) (he : ∀ v, v < 10 → ae v = nI (E v)) (hc : fc ≠ 0 → ∀ w, w < 10 → ah w = nI (dg_H E w)) (hk : fk ≠ 0 → ∀ m, m < 1024 → ai m = nI (dg_C E m)) {on : Nat} (hon : on < 1024) (hg : fo = nI on) (hp : ∀ (fc fk : Int32) (ah ai : Nat → Int32), fc ≠ 0 → (∀ w, w < 10 → ah w = nI (dg_H E w)) → (∀ m, m < 1024 → ai m = nI (dg_C E m)) → post (nI (dg_C E on)) (fo, fc, fk, aw, ae, ah, ai, ao, an, af, co, ci, qu)) : wpX_antichains post (fo, fc, fk, aw, ae, ah, ai, ao, an, af, co, ci, qu) := by
  refine dg_xclose hE he hc (fun fc ah h1 h2 => br_c (fun z a ea => ⟨11, ?_⟩) (fun z => ?_))
  · refine dg_xacs hE h2 hon hg (fun ai hi => hp fc 1 ah ai h1 h2 hi) 10 0 11 a (by omega) (by omega) (fun m hm => ?_)
    have e : m = 0 := by
      have : (2 : Nat) ^ 0 = 1 := rfl
      omega
    rw [e, ea, dg_C_0]; exact pk_us
  · rw [hg]
    refine ⟨dg_i1024 hon, ?_⟩
    rw [dg_cl (by omega), hk z on hon, ← hg]
    exact hp fc fk ah ai h1 h2 (hk z)
end
section
/-! X: goBack -/
theorem dg_m1 {k : Nat} (h : k < 100000) : ¬ nI k = -1 := by
  intro e
  have := nI_pos (n := k) (by omega)
  rw [e] at this
  exact this (by decide)
theorem dg_0le {k : Nat} (h : k < 100000) : (0 : Int32) ≤ nI k := nI_pos' (by omega)
theorem dg_ix (x w : Nat) : nI x * 10 + nI w = nI (x * 10 + w) := by
  rw [show (10 : Int32) = nI 10 from rfl, pk_mul, nI_add]
theorem dg_i100 {x w : Nat} (hx : x < 10) (hw : w < 10) : vp_in (nI x * 10 + nI w) 100 := by
  rw [dg_ix]; exact vp_in_nI (by omega) (by decide)
def dg_St (ao an af : Nat → Int32) (ro ri : Nat → Nat) (f : Nat → Nat → Nat) : Prop := (∀ v, v < 10 → ao v = nI (ro v)) ∧ (∀ v, v < 10 → an v = nI (ri v)) ∧ ∀ v w, v < 10 → w < 10 → af (v * 10 + w) = nI (f v w)
/-- how the earlier and later copies were reached -/
def dg_PA (R : Nat → Nat → Prop) (S : Nat) (ro : Nat → Nat) (f : Nat → Nat → Nat) (co ci : Nat → Int32) (rk : Nat → Nat) (e : Nat) : Prop :=
  (∀ v, v < 10 → co v = -1 ∨ (rk v < e ∧ S.testBit v = true ∧ ((co v = nI v ∧ 0 < ro v) ∨ ∃ w x, w < 10 ∧ x < 10 ∧ co v = nI (w + 10) ∧ 0 < f v w ∧ ci w = nI x ∧ rk x < rk v ∧ ¬ co x = -1))) ∧
  (∀ w, w < 10 → ci w = -1 ∨ ∃ x, x < 10 ∧ ci w = nI x ∧ R x w ∧ ¬ co x = -1)
def dg_QU (co qu : Nat → Int32) (e k : Nat) : Prop := (∀ j, j < e → ∃ v, v < k ∧ qu j = nI v ∧ ¬ co v = -1) ∧ (∀ v, v < k → ¬ co v = -1 → ∃ j, j < e ∧ qu j = nI v) ∧ dg_S (fun v => if co v = -1 then 0 else 1) k = e
def dg_Gr (co0 qu0 : Nat → Int32) (e0 : Nat) (co qu : Nat → Int32) (e : Nat) : Prop := e0 ≤ e ∧ (∀ v, v < 10 → ¬ co0 v = -1 → ¬ co v = -1) ∧ ∀ j, j < e0 → qu j = qu0 j
theorem dg_PA_co {R : Nat → Nat → Prop} {S : Nat} {ro : Nat → Nat} {f : Nat → Nat → Nat} {co ci : Nat → Int32} {rk : Nat → Nat} {e : Nat} (h : dg_PA R S ro f co ci rk e) {v : Nat} (hv : v < 10) : 0 ≤ co v ↔ ¬ co v = -1 := by
  rcases h.1 v hv with z | ⟨_, _, ⟨z, _⟩ | ⟨w, x, h1, h2, z, _⟩⟩
  · rw [z]; exact ⟨fun y => absurd y (by decide), fun y => absurd rfl y⟩
  · rw [z]; exact ⟨fun _ => dg_m1 (by omega), fun _ => dg_0le (by omega)⟩
  · rw [z]; exact ⟨fun _ => dg_m1 (by omega), fun _ => dg_0le (by omega)⟩
theorem dg_PA_ci {R : Nat → Nat → Prop} {S : Nat} {ro : Nat → Nat} {f : Nat → Nat → Nat} {co ci : Nat → Int32} {rk : Nat → Nat} {e : Nat} (h : dg_PA R S ro f co ci rk e) {w : Nat} (hw : w < 10) : 0 ≤ ci w ↔ ¬ ci w = -1 := by
  rcases h.2 w hw with z | ⟨x, h1, z, _⟩
  · rw [z]; exact ⟨fun y => absurd y (by decide), fun y => absurd rfl y⟩
  · rw [z]; exact ⟨fun _ => dg_m1 (by omega), fun _ => dg_0le (by omega)⟩
theorem dg_QU_le {co qu : Nat → Int32} {e k : Nat} (h : dg_QU co qu e k) : e ≤ k := by
  rw [← h.2.2]
  have := dg_S_ub (f := fun v => if co v = -1 then 0 else 1) (n := k) (b := 1) (fun v _ => by
    by_cases z : co v = -1
    · rw [if_pos z]; exact Nat.zero_le _
    · rw [if_neg z]; exact Nat.le_refl _)
  omega
theorem dg_QU_push {co qu : Nat → Int32} {e k u : Nat} {y : Int32} (h : dg_QU co qu e k) (hu : u < k) (hc : co u = -1) (hy : ¬ y = -1) : dg_QU (upd co u y) (upd qu e (nI u)) (e + 1) k := by
  refine ⟨fun j hj => ?_, fun v hv hn => ?_, ?_⟩
  · by_cases z : j = e
    · refine ⟨u, hu, ?_, ?_⟩
      · rw [z]; exact pk_us
      · rw [pk_us]; exact hy
    · obtain ⟨v, h1, h2, h3⟩ := h.1 j (by omega)
      refine ⟨v, h1, ?_, ?_⟩
      · rw [pk_un z]; exact h2
      · rw [pk_un (fun q => h3 (by rw [q]; exact hc))]; exact h3
  · by_cases z : v = u
    · exact ⟨e, by omega, by rw [z]; exact pk_us⟩
    · rw [pk_un z] at hn
      obtain ⟨j, h1, h2⟩ := h.2.1 v hv hn
      exact ⟨j, by omega, by rw [pk_un (by omega)]; exact h2⟩
  · have h1 := dg_S_up (f := fun v => if co v = -1 then 0 else 1) (g := fun v => if upd co u y v = -1 then 0 else 1) hu (fun i _ hi => by rw [pk_un hi])
    have h2 : (if upd co u y u = -1 then 0 else 1) = 1 := if_neg (by rw [pk_us]; exact hy)
    have h3 : (if co u = -1 then 0 else 1) = 0 := if_pos hc
    have h4 := h.2.2
    rw [h2, h3] at h1
    omega
theorem dg_PA_push {R : Nat → Nat → Prop} {S : Nat} {ro : Nat → Nat} {f : Nat → Nat → Nat} {co ci : Nat → Int32} {rk : Nat → Nat} {e u w x : Nat} (h : dg_PA R S ro f co ci rk e) (hu : u < 10) (hw : w < 10) (hx : x < 10) (hc : co u = -1) (hf : 0 < f u w) (hS : S.testBit u = true) (hci : ci w = nI x) (hcx : ¬ co x = -1) : dg_PA R S ro f (upd co u (nI (w + 10))) ci (fun v => if v = u then e else rk v) (e + 1) := by
  have hxu : x ≠ u := fun z => hcx (by rw [z]; exact hc)
  have hkeep : ∀ v, ¬ co v = -1 → ¬ upd co u (nI (w + 10)) v = -1 := by
    intro v hv
    rw [pk_un (fun z => hv (by rw [z]; exact hc))]; exact hv
  have hrx : rk x < e := by
    rcases h.1 x hx with z | z
    · exact absurd z hcx
    · exact z.1
  refine ⟨fun v hv => ?_, fun w1 hw1 => ?_⟩
  · by_cases z : v = u
    · subst z
      refine Or.inr ⟨?_, hS, Or.inr ⟨w, x, hw, hx, pk_us, hf, hci, ?_, hkeep x hcx⟩⟩
      · dsimp only; rw [if_pos rfl]; omega
      · dsimp only; rw [if_neg hxu, if_pos rfl]; exact hrx
    · rw [pk_un z]; dsimp only; rw [if_neg z]
      rcases h.1 v hv with y | ⟨h1, h2, h3⟩
      · exact Or.inl y
      · refine Or.inr ⟨by omega, h2, ?_⟩
        rcases h3 with y | ⟨w1, x1, h4, h5, h6, h7, h8, h9, h10⟩
        · exact Or.inl y
        · refine Or.inr ⟨w1, x1, h4, h5, h6, h7, h8, ?_, hkeep x1 h10⟩
          rw [if_neg (fun q => h10 (by rw [q]; exact hc))]; exact h9
  · rcases h.2 w1 hw1 with y | ⟨x1, h1, h2, h3, h4⟩
    · exact Or.inl y
    · exact Or.inr ⟨x1, h1, h2, h3, hkeep x1 h4⟩
theorem dg_Gr_push {co0 qu0 co qu : Nat → Int32} {e0 e u : Nat} {y z : Int32} (h : dg_Gr co0 qu0 e0 co qu e) (hy : ¬ y = -1) : dg_Gr co0 qu0 e0 (upd co u y) (upd qu e z) (e + 1) := by
  refine ⟨by have := h.1; omega, fun v hv hn => ?_, fun j hj => ?_⟩
  · by_cases q : v = u
    · rw [q, pk_us]; exact hy
    · rw [pk_un q]; exact h.2.1 v hv hn
  · have := h.1
    rw [pk_un (by omega)]; exact h.2.2 j hj
theorem dg_Gr_refl {co qu : Nat → Int32} {e : Nat} : dg_Gr co qu e co qu e := ⟨Nat.le_refl _, fun _ _ h => h, fun _ _ => rfl⟩
theorem dg_xgb5 {fo fc fk : Int32} {aw ae ah ai ao an af ci co0 qu0 : Nat → Int32} {post : Int32 → SX → Prop} {R : Nat → Nat → Prop} {S : Nat} {ro ri : Nat → Nat} {f : Nat → Nat → Nat} (hs : dg_St ao an af ro ri f) (hfR : ∀ v w, v < 10 → w < 10 → 0 < f v w → R v w) (hfb : ∀ v w, v < 10 → w < 10 → f v w ≤ 9) (hRS : ∀ v w, R v w → S.testBit v = true) {w x e0 : Nat} (hw : w < 10) (hx : x < 10) (hci : ci w = nI x) (hp : ∀ (co qu : Nat → Int32) (rk : Nat → Nat) e, dg_PA R S ro f co ci rk e → dg_QU co qu e 10 → (∀ u, u < 10 → 0 < f u w → ¬ co u = -1) → dg_Gr co0 qu0 e0 co qu e → post (nI e) (fo, fc, fk, aw, ae, ah, ai, ao, an, af, co, ci, qu)) : ∀ d u n (co qu : Nat → Int32) (rk : Nat → Nat) e, u + d = 10 → d < n → dg_PA R S ro f co ci rk e → dg_QU co qu e 10 → (∀ u', u' < u → 0 < f u' w → ¬ co u' = -1) → ¬ co x = -1 → dg_Gr co0 qu0 e0 co qu e → wX_goBack_5 post (nI w) fo fc fk n (nI e) (nI u) aw ae ah ai ao an af co ci qu := by
  intro d
  induction d with
  | zero =>
    intro u n co qu rk e hd hn hA hQ hu hcx hG
    obtain ⟨n, rfl⟩ : ∃ m, n = m + 1 := ⟨n - 1, by omega⟩
    exact br_t (dg_ge10 (by omega) (by omega)) (hp co qu rk e hA hQ (fun u' h => hu u' (by omega)) hG)
  | succ d ih =>
    intro u n co qu rk e hd hn hA hQ hu hcx hG
    obtain ⟨n, rfl⟩ : ∃ m, n = m + 1 := ⟨n - 1, by omega⟩
    have hu10 : u < 10 := by omega
    have he := dg_QU_le hQ
    have hfb1 := hfb u w hu10 hw
    have hskip : (0 < f u w → ¬ co u = -1) → wX_goBack_5 post (nI w) fo fc fk n (nI e) (nI u + 1) aw ae ah ai ao an af co ci qu := by
      intro h
      rw [nI_1]
      refine ih (u + 1) n co qu rk e (by omega) (by omega) hA hQ (fun u' h1 h2 => ?_) hcx hG
      by_cases z : u' = u
      · rw [z] at h2 ⊢; exact h h2
      · exact hu u' (by omega) h2
    refine br_f (dg_lt10 hu10) ⟨dg_i100 hu10 hw, ?_⟩
    rw [dg_ix, dg_cl (by omega), dg_cl (by omega), hs.2.2 u w hu10 hw]
    refine ek_if (d := f u w = 0) ?_ (fun hz y ey => ?_) (fun hz => ⟨dg_i10 hu10, ek_if (dg_PA_co hA hu10) (fun hc y ey => ?_) (fun hc => ⟨dg_i10 hu10, fun c ec => ⟨vp_in_nI (by omega) (by decide), fun q eq y ey z ez => ?_⟩⟩)⟩)
    · rw [show (0 : Int32) = nI 0 from rfl, nI_leI (by omega) (by omega)]; omega
    · rw [ey]; exact hskip (fun h => by omega)
    · rw [ey]; exact hskip (fun _ => hc)
    · have hcu : co u = -1 := Classical.byContradiction (fun q => hc q)
      rw [dg_cl (by omega)] at eq
      rw [show (10 : Int32) = nI 10 from rfl, nI_add] at ec
      rw [ey, ez, nI_1, nI_1, ec, eq]
      refine ih (u + 1) n _ _ _ (e + 1) (by omega) (by omega) (dg_PA_push hA hu10 hw hx hcu (by omega) (hRS u w (hfR u w hu10 hw (by omega))) hci hcx) (dg_QU_push hQ hu10 hcu (dg_m1 (by omega))) (fun u' h1 h2 => ?_) ?_ (dg_Gr_push hG (dg_m1 (by omega)))
      · by_cases z : u' = u
        · rw [z, pk_us]; exact dg_m1 (by omega)
        · rw [pk_un z]; exact hu u' (by omega) h2
      · rw [pk_un (fun q => hcx (by rw [q]; exact hcu))]; exact hcx
theorem dg_xgb {fo fc fk : Int32} {aw ae ah ai ao an af co ci qu : Nat → Int32} {post : Int32 → SX → Prop} {R : Nat → Nat → Prop} {S : Nat} {ro ri : Nat → Nat} {f : Nat → Nat → Nat} (hs : dg_St ao an af ro ri f) (hfR : ∀ v w, v < 10 → w < 10 → 0 < f v w → R v w) (hfb : ∀ v w, v < 10 → w < 10 → f v w ≤ 9) (hRS : ∀ v w, R v w → S.testBit v = true) {w x e : Nat} {rk : Nat → Nat} (hw : w < 10) (hx : x < 10) (hci : ci w = nI x) (hA : dg_PA R S ro f co ci rk e) (hQ : dg_QU co qu e 10) (hcx : ¬ co x = -1) (hp : ∀ (co' qu' : Nat → Int32) (rk : Nat → Nat) e', dg_PA R S ro f co' ci rk e' → dg_QU co' qu' e' 10 → (∀ u, u < 10 → 0 < f u w → ¬ co' u = -1) → dg_Gr co qu e co' qu' e' → post (nI e') (fo, fc, fk, aw, ae, ah, ai, ao, an, af, co', ci, qu')) : wpX_goBack post (fo, fc, fk, aw, ae, ah, ai, ao, an, af, co, ci, qu) (nI w) (nI e) :=
  ⟨11, dg_xgb5 hs hfR hfb hRS hw hx hci hp 10 0 11 co qu rk e (by omega) (by omega) hA hQ (fun u' h => by omega) hcx dg_Gr_refl⟩
end
section
/-! X: findWay -/
def dg_FI (R : Nat → Nat → Prop) (S : Nat) (ro ri : Nat → Nat) (f : Nat → Nat → Nat) (co ci qu : Nat → Int32) (rk : Nat → Nat) (e i : Nat) : Prop :=
  dg_PA R S ro f co ci rk e ∧ dg_QU co qu e 10 ∧ (∀ v, v < 10 → 0 < ro v → ¬ co v = -1) ∧ (∀ w, w < 10 → ¬ ci w = -1 → ri w = 0 ∧ ∀ u, u < 10 → 0 < f u w → ¬ co u = -1) ∧ (∀ j, j < i → j < e → ∀ v, v < 10 → qu j = nI v → ∀ w, w < 10 → R v w → ¬ ci w = -1)
theorem dg_PA_mono {R : Nat → Nat → Prop} {S : Nat} {ro : Nat → Nat} {f : Nat → Nat → Nat} {co ci : Nat → Int32} {rk : Nat → Nat} {e e' : Nat} (h : dg_PA R S ro f co ci rk e) (he : e ≤ e') : dg_PA R S ro f co ci rk e' := by
  refine ⟨fun v hv => ?_, h.2⟩
  rcases h.1 v hv with z | ⟨h1, h2⟩
  · exact Or.inl z
  · exact Or.inr ⟨by omega, h2⟩
theorem dg_PA_set {R : Nat → Nat → Prop} {S : Nat} {ro : Nat → Nat} {f : Nat → Nat → Nat} {co ci : Nat → Int32} {rk : Nat → Nat} {e v w : Nat} (h : dg_PA R S ro f co ci rk e) (hv : v < 10) (hc : ci w = -1) (hR : R v w) (hcv : ¬ co v = -1) : dg_PA R S ro f co (upd ci w (nI v)) rk e := by
  refine ⟨fun u hu => ?_, fun w1 hw1 => ?_⟩
  · rcases h.1 u hu with z | ⟨h1, h2, z | ⟨w1, x1, h3, h4, h5, h6, h7, h8, h9⟩⟩
    · exact Or.inl z
    · exact Or.inr ⟨h1, h2, Or.inl z⟩
    · refine Or.inr ⟨h1, h2, Or.inr ⟨w1, x1, h3, h4, h5, h6, ?_, h8, h9⟩⟩
      rw [pk_un (fun q => by rw [q, hc] at h7; exact dg_m1 (by omega) h7.symm)]; exact h7
  · by_cases z : w1 = w
    · exact Or.inr ⟨v, hv, by rw [z]; exact pk_us, by rw [z]; exact hR, hcv⟩
    · rw [pk_un z]; exact h.2 w1 hw1
theorem dg_xtargets {fo fc fk : Int32} {aw ae ah ai ao an af co ci qu : Nat → Int32} {post : Int32 → Prop} {x2 : Int32} {T : Nat → Nat} (hx : dg_sel x2 ae ah T) {v : Nat} (hv : v < 10) (hp : post (nI (T v))) : wpX_targets post (fo, fc, fk, aw, ae, ah, ai, ao, an, af, co, ci, qu) (nI v) x2 := by
  rcases hx with ⟨e, hx⟩ | ⟨e, hx⟩
  · refine br_t e ⟨dg_i10 hv, ?_⟩
    rw [dg_cl (by omega), hx v hv]; exact hp
  · refine br_f e ⟨dg_i10 hv, ?_⟩
    rw [dg_cl (by omega), hx v hv]; exact hp
theorem dg_xf106 {fo fc fk : Int32} {aw ae ah ai ao an af : Nat → Int32} {post : Int32 → SX → Prop} {J : Int32 → Int32 → Int32 → Int32 → Int32 → (Nat → Int32) → (Nat → Int32) → (Nat → Int32) → (Nat → Int32) → (Nat → Int32) → (Nat → Int32) → (Nat → Int32) → (Nat → Int32) → (Nat → Int32) → (Nat → Int32) → Prop} {x2 : Int32} {S : Nat} {T ro ri : Nat → Nat} {f : Nat → Nat → Nat} (hs : dg_St ao an af ro ri f) (hfR : ∀ v w, v < 10 → w < 10 → 0 < f v w → dg_R S T v w) (hfb : ∀ v w, v < 10 → w < 10 → f v w ≤ 9) (hrb : ∀ w, w < 10 → ri w ≤ 9) {v i : Nat} (hv : v < 10) (hTv : T v < 1024) (hSv : S.testBit v = true) (hJ : ∀ (co ci qu : Nat → Int32) (rk : Nat → Nat) e, dg_FI (dg_R S T) S ro ri f co ci qu rk e (i + 1) → i < e → J (nI e) (nI (i + 1)) fo fc fk aw ae ah ai ao an af co ci qu) (hpW : ∀ (co ci qu : Nat → Int32) (rk : Nat → Nat) w, w < 10 → 0 < ri w → dg_PA (dg_R S T) S ro f co ci rk 10 → ¬ ci w = -1 → post (nI w) (fo, fc, fk, aw, ae, ah, ai, ao, an, af, co, ci, qu)) : ∀ d w n (co ci qu : Nat → Int32) (rk : Nat → Nat) e, w + d = 10 → d < n → dg_FI (dg_R S T) S ro ri f co ci qu rk e i → i < e → qu i = nI v → ¬ co v = -1 → (∀ w', w' < w → dg_R S T v w' → ¬ ci w' = -1) → wX_findWay_106 post J (nI S) x2 (nI i) (nI v) (nI (T v &&& S)) n (nI e) (nI w) fo fc fk aw ae ah ai ao an af co ci qu := by
  have hopen : T v &&& S < 1024 := dg_and_lt hTv
  intro d
  induction d with
  | zero =>
    intro w n co ci qu rk e hd hn hI hie hq hcv hw
    obtain ⟨n, rfl⟩ : ∃ m, n = m + 1 := ⟨n - 1, by omega⟩
    refine br_t (dg_ge10 (by omega) (by omega)) (fun y ey => ?_)
    rw [ey, nI_1]
    refine hJ co ci qu rk e ⟨hI.1, hI.2.1, hI.2.2.1, hI.2.2.2.1, fun j h1 h2 v' h3 h4 w' h5 h6 => ?_⟩ hie
    by_cases z : j = i
    · rw [z, hq, nI_eq (by omega) (by omega)] at h4
      rw [← h4] at h6
      exact hw w' (by omega) h6
    · exact hI.2.2.2.2 j (by omega) h2 v' h3 h4 w' h5 h6
  | succ d ih =>
    intro w n co ci qu rk e hd hn hI hie hq hcv hw
    obtain ⟨n, rfl⟩ : ∃ m, n = m + 1 := ⟨n - 1, by omega⟩
    have hw10 : w < 10 := by omega
    have hri := hrb w hw10
    have hskip : (dg_R S T v w → ¬ ci w = -1) → wX_findWay_106 post J (nI S) x2 (nI i) (nI v) (nI (T v &&& S)) n (nI e) (nI w + 1) fo fc fk aw ae ah ai ao an af co ci qu := by
      intro h
      rw [nI_1]
      refine ih (w + 1) n co ci qu rk e (by omega) (by omega) hI hie hq hcv (fun w' h1 h2 => ?_)
      by_cases z : w' = w
      · rw [z] at h2 ⊢; exact h h2
      · exact hw w' (by omega) h2
    refine br_f (dg_lt10 hw10) (ek_if (dg_b1 hopen (by omega)) (fun ho => ⟨dg_i10 hw10, ?_⟩) (fun ho y ey => ?_))
    · rw [Nat.testBit_and, Bool.and_eq_true] at ho
      have hR : dg_R S T v w := ⟨hSv, ho.2, ho.1⟩
      rw [dg_cl (by omega)]
      refine ek_if (dg_PA_ci hI.1 hw10) (fun hc y ey => ?_) (fun hc => ⟨dg_i10 hw10, fun c ec => ⟨dg_i10 hw10, ek_if (d := ri w = 0) ?_ (fun hz => ?_) (fun hz => ?_)⟩⟩)
      · rw [ey]; exact hskip (fun _ => hc)
      · rw [hs.2.1 w hw10, show (0 : Int32) = nI 0 from rfl, nI_leI (by omega) (by omega)]; omega
      · have hcw : ci w = -1 := Classical.byContradiction (fun q => hc q)
        rw [ec]
        refine dg_xgb (x := v) hs hfR hfb (fun a b h => h.1) hw10 hv pk_us (dg_PA_set hI.1 hv hcw hR hcv) hI.2.1 hcv (fun co' qu' rk' e' hA hQ hall hG y ey => ?_)
        rw [ey, nI_1]
        have hkeep : ∀ w1, ¬ ci w1 = -1 → ¬ upd ci w (nI v) w1 = -1 := by
          intro w1 h1
          rw [pk_un (fun q => h1 (by rw [q]; exact hcw))]; exact h1
        have hGe := hG.1
        refine ih (w + 1) n co' _ qu' rk' e' (by omega) (by omega) ⟨hA, hQ, fun u hu h1 => hG.2.1 u hu (hI.2.2.1 u hu h1), fun w1 h1 h2 => ?_, fun j h1 h2 v' h3 h4 w' h5 h6 => ?_⟩ (by omega) (by rw [hG.2.2 i hie]; exact hq) (hG.2.1 v hv hcv) (fun w' h1 h2 => ?_)
        · by_cases z : w1 = w
          · rw [z]; exact ⟨hz, fun u hu => hall u hu⟩
          · rw [pk_un z] at h2
            have h3 := hI.2.2.2.1 w1 h1 h2
            exact ⟨h3.1, fun u hu h4 => hG.2.1 u hu (h3.2 u hu h4)⟩
        · rw [hG.2.2 j (by omega)] at h4
          exact hkeep w' (hI.2.2.2.2 j h1 (by omega) v' h3 h4 w' h5 h6)
        · by_cases z : w' = w
          · rw [z, pk_us]; exact dg_m1 (by omega)
          · exact hkeep w' (hw w' (by omega) h2)
      · have hcw : ci w = -1 := Classical.byContradiction (fun q => hc q)
        rw [ec]
        exact hpW co _ qu rk w hw10 (by omega) (dg_PA_mono (dg_PA_set hI.1 hv hcw hR hcv) (dg_QU_le hI.2.1)) (by rw [pk_us]; exact dg_m1 (by omega))
    · rw [ey]
      refine hskip (fun h => absurd ?_ ho)
      rw [Nat.testBit_and, h.2.1, h.2.2]; rfl
theorem dg_xf77 {fo fc fk : Int32} {aw ae ah ai ao an af : Nat → Int32} {post : Int32 → SX → Prop} {x2 : Int32} {S : Nat} {T ro ri : Nat → Nat} {f : Nat → Nat → Nat} (hs : dg_St ao an af ro ri f) (hx : dg_sel x2 ae ah T) (hT : ∀ v, v < 10 → T v < 1024) (hfR : ∀ v w, v < 10 → w < 10 → 0 < f v w → dg_R S T v w) (hfb : ∀ v w, v < 10 → w < 10 → f v w ≤ 9) (hrb : ∀ w, w < 10 → ri w ≤ 9) (hpN : ∀ (co ci qu : Nat → Int32) (A B : Nat → Bool), dg_Cut (dg_R S T) f ro ri A B → post (-1) (fo, fc, fk, aw, ae, ah, ai, ao, an, af, co, ci, qu)) (hpW : ∀ (co ci qu : Nat → Int32) (rk : Nat → Nat) w, w < 10 → 0 < ri w → dg_PA (dg_R S T) S ro f co ci rk 10 → ¬ ci w = -1 → post (nI w) (fo, fc, fk, aw, ae, ah, ai, ao, an, af, co, ci, qu)) : ∀ n i (co ci qu : Nat → Int32) (rk : Nat → Nat) e, i ≤ e → 10 < n + i → dg_FI (dg_R S T) S ro ri f co ci qu rk e i → wX_findWay_77 post (nI S) x2 n (nI e) (nI i) fo fc fk aw ae ah ai ao an af co ci qu := by
  intro n
  induction n with
  | zero =>
    intro i co ci qu rk e hie hn hI
    have := dg_QU_le hI.2.1
    omega
  | succ n ih =>
    intro i co ci qu rk e hie hn hI
    have he := dg_QU_le hI.2.1
    rcases Nat.lt_or_ge i e with hlt | hge
    · obtain ⟨v, hv, hq, hcv⟩ := hI.2.1.1 i hlt
      refine br_f (nI_ge hlt (by omega)) ⟨vp_in_nI (by omega) (by decide), fun y ey => ?_⟩
      rw [dg_cl (by omega), hq] at ey
      rw [ey]
      have hSv : S.testBit v = true := by
        rcases hI.1.1 v hv with z | z
        · exact absurd z hcv
        · exact z.2.1
      refine dg_xtargets hx hv (fun z ez => ⟨11, ?_⟩)
      rw [ez, nx_and]
      exact dg_xf106 hs hfR hfb hrb hv (hT v hv) hSv (fun co ci qu rk e h hie => ih (i + 1) co ci qu rk e (by omega) (by omega) h) hpW 10 0 11 co ci qu rk e (by omega) (by omega) hI hlt hq hcv (fun w' h => by omega)
    · refine br_t (nI_le hge (by omega)) (hpN co ci qu (fun v => decide (¬ co v = -1)) (fun w => decide (¬ ci w = -1)) ⟨fun v hv h => ?_, fun v w hv hw h1 h2 => ?_, fun w hw h => ?_, fun v w hv hw h1 h2 => ?_⟩)
      · exact decide_eq_true (hI.2.2.1 v hv h)
      · obtain ⟨j, h3, h4⟩ := hI.2.1.2.1 v hv (of_decide_eq_true h1)
        exact decide_eq_true (hI.2.2.2.2 j (by omega) h3 v hv h4 w hw h2)
      · exact (hI.2.2.2.1 w hw (of_decide_eq_true h)).1
      · exact decide_eq_true ((hI.2.2.2.1 w hw (of_decide_eq_true h1)).2 v hv h2)
theorem dg_QU_ext {co qu : Nat → Int32} {e k : Nat} (h : dg_QU co qu e k) : dg_QU (upd co k (-1)) qu e (k + 1) := by
  have hk : ∀ v, v < k → upd co k (-1) v = co v := fun v hv => pk_un (by omega)
  refine ⟨fun j hj => ?_, fun v hv hn => ?_, ?_⟩
  · obtain ⟨v, h1, h2, h3⟩ := h.1 j hj
    exact ⟨v, by omega, h2, by rw [hk v h1]; exact h3⟩
  · by_cases z : v = k
    · rw [z, pk_us] at hn; exact absurd rfl hn
    · rw [pk_un z] at hn
      exact h.2.1 v (by omega) hn
  · rw [dg_S_s, dg_S_congr (g := fun v => if co v = -1 then 0 else 1) (fun v hv => by rw [hk v hv]), h.2.2, pk_us, if_pos rfl]
    rfl
theorem dg_xf5 {fo fc fk : Int32} {aw ae ah ai ao an af : Nat → Int32} {post : Int32 → SX → Prop} {x2 : Int32} {S : Nat} {T ro ri : Nat → Nat} {f : Nat → Nat → Nat} (hS : S < 1024) (hs : dg_St ao an af ro ri f) (hx : dg_sel x2 ae ah T) (hT : ∀ v, v < 10 → T v < 1024) (hfR : ∀ v w, v < 10 → w < 10 → 0 < f v w → dg_R S T v w) (hfb : ∀ v w, v < 10 → w < 10 → f v w ≤ 9) (hrb : ∀ w, w < 10 → ri w ≤ 9) (hob : ∀ v, v < 10 → ro v ≤ 9) (hoS : ∀ v, v < 10 → 0 < ro v → S.testBit v = true) (hpN : ∀ (co ci qu : Nat → Int32) (A B : Nat → Bool), dg_Cut (dg_R S T) f ro ri A B → post (-1) (fo, fc, fk, aw, ae, ah, ai, ao, an, af, co, ci, qu)) (hpW : ∀ (co ci qu : Nat → Int32) (rk : Nat → Nat) w, w < 10 → 0 < ri w → dg_PA (dg_R S T) S ro f co ci rk 10 → ¬ ci w = -1 → post (nI w) (fo, fc, fk, aw, ae, ah, ai, ao, an, af, co, ci, qu)) : ∀ d k n (co ci qu : Nat → Int32) e, k + d = 10 → d < n → (∀ v, v < k → (co v = -1 ∧ ¬ 0 < ro v) ∨ (co v = nI v ∧ 0 < ro v)) → (∀ v, v < k → ci v = -1) → dg_QU co qu e k → wX_findWay_5 post (nI S) x2 fo fc fk n (nI e) (nI k) aw ae ah ai ao an af co ci qu := by
  intro d
  induction d with
  | zero =>
    intro k n co ci qu e hd hn hco hci hQ
    obtain ⟨n, rfl⟩ : ∃ m, n = m + 1 := ⟨n - 1, by omega⟩
    have e10 : k = 10 := by omega
    subst e10
    refine br_t (dg_ge10 (by omega) (by omega)) ⟨11, ?_⟩
    refine dg_xf77 hs hx hT hfR hfb hrb hpN hpW 11 0 co ci qu (fun _ => 0) e (by omega) (by omega) ⟨⟨fun v hv => ?_, fun w hw => Or.inl (hci w hw)⟩, hQ, fun v hv h => ?_, fun w hw h => absurd (hci w hw) h, fun j h => by omega⟩
    · rcases hco v hv with z | z
      · exact Or.inl z.1
      · have hn : ¬ co v = -1 := by rw [z.1]; exact dg_m1 (by omega)
        obtain ⟨j, hj, _⟩ := hQ.2.1 v hv hn
        exact Or.inr ⟨by dsimp only; omega, hoS v hv z.2, Or.inl z⟩
    · rcases hco v hv with z | z
      · exact absurd h z.2
      · rw [z.1]; exact dg_m1 (by omega)
  | succ d ih =>
    intro k n co ci qu e hd hn hco hci hQ
    obtain ⟨n, rfl⟩ : ∃ m, n = m + 1 := ⟨n - 1, by omega⟩
    have hk10 : k < 10 := by omega
    have hro := hob k hk10
    have he := dg_QU_le hQ
    have hci' : ∀ v, v < k + 1 → upd ci k (-1) v = -1 := by
      intro v hv
      by_cases z : v = k
      · rw [z]; exact pk_us
      · rw [pk_un z]; exact hci v (by omega)
    have hskip : ¬ 0 < ro k → wX_findWay_5 post (nI S) x2 fo fc fk n (nI e) (nI k + 1) aw ae ah ai ao an af (upd co k (-1)) (upd ci k (-1)) qu := by
      intro h
      rw [nI_1]
      refine ih (k + 1) n _ _ qu e (by omega) (by omega) (fun v hv => ?_) hci' (dg_QU_ext hQ)
      by_cases z : v = k
      · rw [z, pk_us]; exact Or.inl ⟨rfl, h⟩
      · rw [pk_un z]; exact hco v (by omega)
    refine br_f (dg_lt10 hk10) ⟨dg_i10 hk10, fun c ec => ⟨dg_i10 hk10, fun a ea => ?_⟩⟩
    rw [dg_cl (by omega)] at ec ea
    rw [ec, ea]
    refine ek_if (dg_b1 hS (by omega)) (fun hb => ⟨dg_i10 hk10, ek_if (d := ro k = 0) ?_ (fun hz y ey => ?_) (fun hz => ⟨dg_i10 hk10, fun c2 ec2 => ⟨vp_in_nI (by omega) (by decide), fun q eq y ey z ez => ?_⟩⟩)⟩) (fun hb y ey => ?_)
    · rw [dg_cl (by omega), hs.1 k hk10, show (0 : Int32) = nI 0 from rfl, nI_leI (by omega) (by omega)]; omega
    · rw [ey]; exact hskip (by omega)
    · rw [dg_cl (by omega)] at ec2 eq
      rw [ey, ez, nI_1, nI_1, ec2, eq]
      refine ih (k + 1) n _ _ _ (e + 1) (by omega) (by omega) (fun v hv => ?_) hci' (dg_QU_push (dg_QU_ext hQ) (by omega) pk_us (dg_m1 (by omega)))
      by_cases z : v = k
      · rw [z, pk_us]; exact Or.inr ⟨rfl, by omega⟩
      · rw [pk_un z, pk_un z]; exact hco v (by omega)
    · rw [ey]; exact hskip (fun h => hb (hoS k hk10 h))
theorem dg_xfind {fo fc fk : Int32} {aw ae ah ai ao an af co ci qu : Nat → Int32} {post : Int32 → SX → Prop} {x2 : Int32} {S : Nat} {T ro ri : Nat → Nat} {f : Nat → Nat → Nat} (hS : S < 1024) (hs : dg_St ao an af ro ri f) (hx : dg_sel x2 ae ah T) (hT : ∀ v, v < 10 → T v < 1024) (hfR : ∀ v w, v < 10 → w < 10 → 0 < f v w → dg_R S T v w) (hfb : ∀ v w, v < 10 → w < 10 → f v w ≤ 9) (hrb : ∀ w, w < 10 → ri w ≤ 9) (hob : ∀ v, v < 10 → ro v ≤ 9) (hoS : ∀ v, v < 10 → 0 < ro v → S.testBit v = true) (hpN : ∀ (co ci qu : Nat → Int32) (A B : Nat → Bool), dg_Cut (dg_R S T) f ro ri A B → post (-1) (fo, fc, fk, aw, ae, ah, ai, ao, an, af, co, ci, qu)) (hpW : ∀ (co ci qu : Nat → Int32) (rk : Nat → Nat) w, w < 10 → 0 < ri w → dg_PA (dg_R S T) S ro f co ci rk 10 → ¬ ci w = -1 → post (nI w) (fo, fc, fk, aw, ae, ah, ai, ao, an, af, co, ci, qu)) : wpX_findWay post (fo, fc, fk, aw, ae, ah, ai, ao, an, af, co, ci, qu) (nI S) x2 :=
  ⟨11, dg_xf5 hS hs hx hT hfR hfb hrb hob hoS hpN hpW 10 0 11 co ci qu 0 (by omega) (by omega) (fun v h => by omega) (fun v h => by omega) ⟨fun j h => by omega, fun v h => by omega, rfl⟩⟩
end
section
/-! X: send, match, widthOf -/
def dg_fu (f : Nat → Nat → Nat) (x w k : Nat) : Nat → Nat → Nat := fun v y => if v = x ∧ y = w then k else f v y
theorem dg_fu_s (f : Nat → Nat → Nat) (x w k : Nat) : dg_fu f x w k x w = k := if_pos ⟨rfl, rfl⟩
theorem dg_fu_n {f : Nat → Nat → Nat} {x w k v y : Nat} (h : ¬ (v = x ∧ y = w)) : dg_fu f x w k v y = f v y := if_neg h
theorem dg_fu_row (f : Nat → Nat → Nat) (x k : Nat) {w : Nat} (hw : w < 10) : dg_S (fun y => dg_fu f x w k x y) 10 + f x w = dg_S (fun y => f x y) 10 + k := by
  have h := dg_S_up (f := fun y => f x y) (g := fun y => dg_fu f x w k x y) hw (fun i _ hi => dg_fu_n (fun z => hi z.2))
  rw [dg_fu_s] at h
  exact h
theorem dg_fu_row' (f : Nat → Nat → Nat) {x v : Nat} (w k : Nat) (hv : v ≠ x) : dg_S (fun y => dg_fu f x w k v y) 10 = dg_S (fun y => f v y) 10 := dg_S_congr (fun i _ => dg_fu_n (fun z => hv z.1))
theorem dg_fu_col (f : Nat → Nat → Nat) (w k : Nat) {x : Nat} (hx : x < 10) : dg_S (fun v => dg_fu f x w k v w) 10 + f x w = dg_S (fun v => f v w) 10 + k := by
  have h := dg_S_up (f := fun v => f v w) (g := fun v => dg_fu f x w k v w) hx (fun i _ hi => dg_fu_n (fun z => hi z.1))
  rw [dg_fu_s] at h
  exact h
theorem dg_fu_col' (f : Nat → Nat → Nat) {w y : Nat} (x k : Nat) (hy : y ≠ w) : dg_S (fun v => dg_fu f x w k v y) 10 = dg_S (fun v => f v y) 10 := dg_S_congr (fun i _ => dg_fu_n (fun z => hy z.2))
theorem dg_af_u {af : Nat → Int32} {f : Nat → Nat → Nat} (h : ∀ v w, v < 10 → w < 10 → af (v * 10 + w) = nI (f v w)) {x w : Nat} (k : Nat) (hx : x < 10) (hw : w < 10) : ∀ v y, v < 10 → y < 10 → upd af (x * 10 + w) (nI k) (v * 10 + y) = nI (dg_fu f x w k v y) := by
  intro v y hv hy
  by_cases z : v = x ∧ y = w
  · rw [z.1, z.2, pk_us, dg_fu_s]
  · rw [pk_un (by omega), dg_fu_n z]; exact h v y hv hy
theorem dg_xs14 {fo fc fk : Int32} {aw ae ah ai ao an co ci qu : Nat → Int32} {post : SX → Prop} {R : Nat → Nat → Prop} {S : Nat} {c ro ri rk : Nat → Nat} {f0 : Nat → Nat → Nat} (hao : ∀ v, v < 10 → ao v = nI (ro v)) (han : ∀ v, v < 10 → an v = nI (ri v)) (hA : dg_PA R S ro f0 co ci rk 10) (hp : ∀ (ao af : Nat → Int32) (ro' : Nat → Nat) (f : Nat → Nat → Nat), dg_St ao an af ro' ri f → dg_Flow R c f ro' ri → dg_S ro' 10 + 1 = dg_S ro 10 → post (fo, fc, fk, aw, ae, ah, ai, ao, an, af, co, ci, qu)) : ∀ n i w x (af : Nat → Int32) (f : Nat → Nat → Nat), rk x < n → rk x + i ≤ 9 → w < 10 → x < 10 → ci w = nI x → (∀ v w, v < 10 → w < 10 → af (v * 10 + w) = nI (f v w)) → (∀ v, v < 10 → ro v + dg_S (fun w => f v w) 10 = c v) → (∀ y, y < 10 → ri y + dg_S (fun v => f v y) 10 + (if y = w then 1 else 0) = c y) → (∀ v y, v < 10 → y < 10 → 0 < f v y → R v y) → (∀ u y, u < 10 → y < 10 → rk u ≤ rk x → f u y = f0 u y) → wX_send_14 post fo fc fk n (nI w) (nI i) aw ae ah ai ao an af co ci qu := by
  intro n
  induction n with
  | zero => intro i w x af f h; omega
  | succ n ih =>
    intro i w x af f hn hi hw hx hci haf hrow hcol hpos hun
    have hRx : R x w ∧ ¬ co x = -1 := by
      rcases hA.2 w hw with z | ⟨x', h1, h2, h3, h4⟩
      · rw [z] at hci; exact absurd hci.symm (dg_m1 (by omega))
      · rw [hci, nI_eq (by omega) (by omega)] at h2
        subst h2; exact ⟨h3, h4⟩
    have hcol1 : ∀ y, y < 10 → ri y + dg_S (fun v => dg_fu f x w (f x w + 1) v y) 10 = c y := by
      intro y hy
      have h1 := hcol y hy
      by_cases z : y = w
      · subst z
        have h2 := dg_fu_col f y (f x y + 1) hx
        rw [if_pos rfl] at h1
        omega
      · rw [dg_fu_col' f x _ z]
        rw [if_neg z] at h1
        omega
    have hpos1 : ∀ v y, v < 10 → y < 10 → 0 < dg_fu f x w (f x w + 1) v y → R v y := by
      intro v y hv hy h
      by_cases z : v = x ∧ y = w
      · rw [z.1, z.2]; exact hRx.1
      · rw [dg_fu_n z] at h; exact hpos v y hv hy h
    refine br_f (dg_lt10 (by omega)) ⟨dg_i10 hw, fun x4 ex4 => ?_⟩
    rw [dg_cl (by omega), hci] at ex4
    rw [ex4]
    refine ⟨dg_i100 hx hw, dg_i100 hx hw, fun af1 eaf1 => ⟨dg_i10 hx, ?_⟩⟩
    rw [dg_ix, dg_cl (by omega), haf x w hx hw, nI_1] at eaf1
    have haf1 : ∀ v y, v < 10 → y < 10 → af1 (v * 10 + y) = nI (dg_fu f x w (f x w + 1) v y) := by
      rw [eaf1]; exact dg_af_u haf _ hx hw
    rw [dg_cl (by omega)]
    rcases hA.1 x hx with z | ⟨_, _, ⟨hroot, hro⟩ | ⟨w', x', hw', hx', hc', hf', hci', hrk', hcx'⟩⟩
    · exact absurd z hRx.2
    · refine br_t hroot ⟨dg_i10 hx, dg_i10 hx, fun ao' eao => ?_⟩
      obtain ⟨r, hr⟩ : ∃ r, ro x = r + 1 := ⟨ro x - 1, by omega⟩
      rw [hao x hx, hr, nI_pred] at eao
      have hro' : ∀ v, v ≠ x → (if v = x then r else ro v) = ro v := fun v h => if_neg h
      refine hp ao' af1 (fun v => if v = x then r else ro v) _ ⟨fun v hv => ?_, han, haf1⟩ ⟨fun v hv => ?_, hcol1, hpos1⟩ ?_
      · dsimp only
        by_cases z : v = x
        · rw [z, eao, pk_us, if_pos rfl]
        · rw [eao, pk_un z, if_neg z]; exact hao v hv
      · dsimp only
        have h1 := hrow v hv
        by_cases z : v = x
        · subst z
          have h2 := dg_fu_row f v (f v w + 1) hw
          rw [if_pos rfl]; omega
        · rw [if_neg z, dg_fu_row' f w _ z]; exact h1
      · have h1 := dg_S_up (f := ro) (g := fun v => if v = x then r else ro v) hx (fun v _ h => if_neg h)
        rw [if_pos rfl] at h1
        omega
    · refine br_f (by rw [hc', nI_eq (by omega) (by omega)]; omega) ⟨dg_i10 hx, fun y ey => ?_⟩
      rw [hc', show (10 : Int32) = nI 10 from rfl, pk_sub (by omega), Nat.add_sub_cancel] at ey
      rw [ey]
      refine ⟨dg_i100 hx hw', dg_i100 hx hw', fun af2 eaf2 z ez => ?_⟩
      have hf1 : 0 < dg_fu f x w (f x w + 1) x w' := by
        by_cases q : w' = w
        · rw [q, dg_fu_s]; omega
        · rw [dg_fu_n (fun h => q h.2), hun x w' hx hw' (Nat.le_refl _)]; exact hf'
      obtain ⟨g, hg⟩ : ∃ g, dg_fu f x w (f x w + 1) x w' = g + 1 := ⟨dg_fu f x w (f x w + 1) x w' - 1, by omega⟩
      rw [dg_ix, dg_cl (by omega), haf1 x w' hx hw', hg, nI_pred] at eaf2
      rw [ez, nI_1]
      refine ih (i + 1) w' x' af2 (dg_fu (dg_fu f x w (f x w + 1)) x w' g) (by omega) (by omega) hw' hx' hci' (by rw [eaf2]; exact dg_af_u haf1 _ hx hw') (fun v hv => ?_) (fun y hy => ?_) (fun v y hv hy h => ?_) (fun u y hu hy h => ?_)
      · have h1 := hrow v hv
        by_cases q : v = x
        · subst q
          have h2 := dg_fu_row f v (f v w + 1) hw
          have h3 := dg_fu_row (dg_fu f v w (f v w + 1)) v g hw'
          omega
        · rw [dg_fu_row' _ w' _ q, dg_fu_row' f w _ q]; exact h1
      · have h1 := hcol1 y hy
        by_cases q : y = w'
        · subst q
          have h3 := dg_fu_col (dg_fu f x w (f x w + 1)) y g hx
          rw [if_pos rfl]; omega
        · rw [dg_fu_col' _ x _ q, if_neg q]; exact h1
      · by_cases q : v = x ∧ y = w'
        · rw [q.1, q.2]; exact hpos1 x w' hx hw' hf1
        · rw [dg_fu_n q] at h; exact hpos1 v y hv hy h
      · have hux : u ≠ x := fun q => by rw [q] at h; omega
        rw [dg_fu_n (fun q => hux q.1), dg_fu_n (fun q => hux q.1)]
        exact hun u y hu hy (by omega)
theorem dg_xsend {fo fc fk : Int32} {aw ae ah ai ao an af co ci qu : Nat → Int32} {post : SX → Prop} {R : Nat → Nat → Prop} {S : Nat} {c ro ri rk : Nat → Nat} {f : Nat → Nat → Nat} (hs : dg_St ao an af ro ri f) (hF : dg_Flow R c f ro ri) (hA : dg_PA R S ro f co ci rk 10) {w : Nat} (hw : w < 10) (hr : 0 < ri w) (hcw : ¬ ci w = -1) (hp : ∀ (ao an af : Nat → Int32) (ro' ri' : Nat → Nat) (f : Nat → Nat → Nat), dg_St ao an af ro' ri' f → dg_Flow R c f ro' ri' → dg_S ro' 10 + 1 = dg_S ro 10 → post (fo, fc, fk, aw, ae, ah, ai, ao, an, af, co, ci, qu)) : wpX_send post (fo, fc, fk, aw, ae, ah, ai, ao, an, af, co, ci, qu) (nI w) := by
  obtain ⟨x, hx, hci, hR, hcx⟩ : ∃ x, x < 10 ∧ ci w = nI x ∧ R x w ∧ ¬ co x = -1 := by
    rcases hA.2 w hw with z | z
    · exact absurd z hcw
    · exact z
  have hrk : rk x < 10 := by
    rcases hA.1 x hx with z | z
    · exact absurd z hcx
    · exact z.1
  obtain ⟨r, hr'⟩ : ∃ r, ri w = r + 1 := ⟨ri w - 1, by omega⟩
  refine ⟨dg_i10 hw, dg_i10 hw, fun an' ean => ⟨10, ?_⟩⟩
  rw [dg_cl (by omega), hs.2.1 w hw, hr', nI_pred] at ean
  refine dg_xs14 (ri := fun y => if y = w then r else ri y) hs.1 (fun v hv => ?_) hA (fun ao af ro' f h1 h2 h3 => hp ao an' af ro' _ f h1 h2 h3) 10 0 w x af f hrk (by omega) hw hx hci hs.2.2 hF.1 (fun y hy => ?_) hF.2.2 (fun _ _ _ _ _ => rfl)
  · by_cases z : v = w
    · rw [z, ean, pk_us, if_pos rfl]
    · rw [ean, pk_un z, if_neg z]; exact hs.2.1 v hv
  · have h1 := hF.2.1 y hy
    by_cases z : y = w
    · subst z
      rw [if_pos rfl, if_pos rfl]; omega
    · rw [if_neg z, if_neg z]; exact h1
theorem dg_FB {R : Nat → Nat → Prop} {c ro ri : Nat → Nat} {f : Nat → Nat → Nat} (hF : dg_Flow R c f ro ri) (hc : ∀ v, v < 10 → c v ≤ 9) : (∀ v w, v < 10 → w < 10 → f v w ≤ 9) ∧ (∀ w, w < 10 → ri w ≤ 9) ∧ (∀ v, v < 10 → ro v ≤ 9) := by
  refine ⟨fun v w hv hw => ?_, fun w hw => ?_, fun v hv => ?_⟩
  · have h1 := hF.1 v hv
    have h2 := hc v hv
    have h3 := dg_S_le1 (f := fun w => f v w) hw
    omega
  · have h1 := hF.2.1 w hw
    have h2 := hc w hw
    omega
  · have h1 := hF.1 v hv
    have h2 := hc v hv
    omega
def dg_rc (R : Nat → Nat → Prop) (S : Nat) (ro ri : Nat → Nat) (f : Nat → Nat → Nat) (co ci : Nat → Int32) (r : Int32) : Prop := (r = -1 ∧ ∃ A B : Nat → Bool, dg_Cut R f ro ri A B) ∨ ∃ (w : Nat) (rk : Nat → Nat), r = nI w ∧ w < 10 ∧ 0 < ri w ∧ dg_PA R S ro f co ci rk 10 ∧ ¬ ci w = -1
theorem dg_cap9 {S : Nat} {G : Nat → Nat} (hG : ∀ v, v < 10 → G v ≤ 9) : ∀ v, v < 10 → dg_cap S G v ≤ 9 := by
  intro v hv
  rw [dg_cap]
  by_cases z : S.testBit v = true
  · rw [if_pos z]; exact hG v hv
  · rw [if_neg z]; exact Nat.zero_le _
theorem dg_roS {R : Nat → Nat → Prop} {S : Nat} {G ro ri : Nat → Nat} {f : Nat → Nat → Nat} (hF : dg_Flow R (dg_cap S G) f ro ri) : ∀ v, v < 10 → 0 < ro v → S.testBit v = true := by
  intro v hv h
  have h1 := hF.1 v hv
  rw [dg_cap] at h1
  by_cases z : S.testBit v = true
  · exact z
  · rw [if_neg z] at h1; omega
theorem dg_xfind2 {fo fc fk : Int32} {aw ae ah ai ao an af co ci qu : Nat → Int32} {post : Int32 → SX → Prop} {x2 : Int32} {S : Nat} {T G ro ri : Nat → Nat} {f : Nat → Nat → Nat} (hS : S < 1024) (hG : ∀ v, v < 10 → G v ≤ 9) (hs : dg_St ao an af ro ri f) (hx : dg_sel x2 ae ah T) (hT : ∀ v, v < 10 → T v < 1024) (hF : dg_Flow (dg_R S T) (dg_cap S G) f ro ri) (hp : ∀ (co ci qu : Nat → Int32) (r : Int32), dg_rc (dg_R S T) S ro ri f co ci r → post r (fo, fc, fk, aw, ae, ah, ai, ao, an, af, co, ci, qu)) : wpX_findWay post (fo, fc, fk, aw, ae, ah, ai, ao, an, af, co, ci, qu) (nI S) x2 := by
  have hB := dg_FB hF (dg_cap9 hG)
  exact dg_xfind hS hs hx hT hF.2.2 hB.1 hB.2.1 hB.2.2 (dg_roS hF) (fun co ci qu A B h => hp co ci qu _ (Or.inl ⟨rfl, A, B, h⟩)) (fun co ci qu rk w h1 h2 h3 h4 => hp co ci qu _ (Or.inr ⟨w, rk, rfl, h1, h2, h3, h4⟩))
theorem dg_xm120 {fo fc fk : Int32} {aw ae ah ai : Nat → Int32} {post : Int32 → SX → Prop} {x2 : Int32} {S : Nat} {T G : Nat → Nat} (hS : S < 1024) (hG : ∀ v, v < 10 → G v ≤ 9) (hx : dg_sel x2 ae ah T) (hT : ∀ v, v < 10 → T v < 1024) (hp : ∀ (ao an af co ci qu : Nat → Int32) M, dg_MF (dg_R S T) (dg_cap S G) M → post (nI M) (fo, fc, fk, aw, ae, ah, ai, ao, an, af, co, ci, qu)) : ∀ n M (r : Int32) (ao an af co ci qu : Nat → Int32) (ro ri : Nat → Nat) (f : Nat → Nat → Nat), dg_S ro 10 < n → dg_St ao an af ro ri f → dg_Flow (dg_R S T) (dg_cap S G) f ro ri → M + dg_S ro 10 = dg_S (dg_cap S G) 10 → dg_rc (dg_R S T) S ro ri f co ci r → wX_match_120 post (nI S) x2 n (nI M) r (nI M) fo fc fk aw ae ah ai ao an af co ci qu := by
  have hc : dg_S (dg_cap S G) 10 ≤ 10 * 9 := dg_S_ub (dg_cap9 hG)
  intro n
  induction n with
  | zero => intro M r ao an af co ci qu ro ri f h; omega
  | succ n ih =>
    intro M r ao an af co ci qu ro ri f hn hs hF hM hr
    refine br_f (nI_ge (b := 100) (by omega) (by decide)) ?_
    rcases hr with ⟨e, A, B, hC⟩ | ⟨w, rk, e, hw, hri, hA, hcw⟩
    · subst e
      exact br_t (by decide) (hp ao an af co ci qu M ⟨f, ro, ri, A, B, hF, hM, hC⟩)
    · subst e
      refine br_f (nI_pos (by omega)) (dg_xsend hs hF hA hw hri hcw (fun ao an af ro' ri' f h1 h2 h3 y ey => ?_))
      refine dg_xfind2 hS hG h1 hx hT h2 (fun co ci qu r hr z ez => ?_)
      rw [ey, ez, nI_1]
      exact ih (M + 1) r ao an af co ci qu ro' ri' f (by omega) h1 h2 (by omega) hr
end
section
/-! X: match, widthOf, antichain and the questions that match -/
theorem dg_xm85 {fo fc fk : Int32} {aw ae ah ai ao an af co ci qu : Nat → Int32} {post : Int32 → SX → Prop} {J : Int32 → (Nat → Int32) → (Nat → Int32) → (Nat → Int32) → (Nat → Int32) → (Nat → Int32) → (Nat → Int32) → (Nat → Int32) → (Nat → Int32) → (Nat → Int32) → (Nat → Int32) → Prop} {x1 x2 x3 : Int32} {v g : Nat} (hv : v < 10) (hJ : J (nI (v + 1)) aw ae ah ai (upd ao v (nI g)) (upd an v (nI g)) af co ci qu) : wX_match_85 post J x1 x2 x3 (nI v) (nI g) (nI v) fo fc fk aw ae ah ai ao an af co ci qu := by
  refine ⟨dg_i10 hv, fun a ea => ⟨dg_i10 hv, dg_i10 hv, fun b eb y ey => ?_⟩⟩
  rw [dg_cl (by omega)] at ea eb
  rw [ea, pk_us] at eb
  rw [ea, eb, ey, nI_1]
  exact hJ
theorem dg_xm53 {fo fc fk : Int32} {aw ae ah ai ao an af co ci qu : Nat → Int32} {post : Int32 → SX → Prop} {J : Int32 → (Nat → Int32) → (Nat → Int32) → (Nat → Int32) → (Nat → Int32) → (Nat → Int32) → (Nat → Int32) → (Nat → Int32) → (Nat → Int32) → (Nat → Int32) → (Nat → Int32) → Prop} {x1 x2 x3 z0 : Int32} {G : Nat → Nat} (hx : dg_gw x3 aw G) {S v : Nat} (hv : v < 10) (hz : (z0 = 0 ∧ ¬ S.testBit v = true) ∨ (¬ z0 = 0 ∧ S.testBit v = true)) (hJ : J (nI (v + 1)) aw ae ah ai (upd ao v (nI (dg_cap S G v))) (upd an v (nI (dg_cap S G v))) af co ci qu) : wX_match_53 post J x1 x2 x3 (nI v) z0 fo fc fk aw ae ah ai ao an af co ci qu := by
  rw [dg_cap] at hJ
  rcases hz with ⟨e, hb⟩ | ⟨e, hb⟩
  · rw [if_neg hb] at hJ
    exact br_t e (dg_xm85 hv hJ)
  · rw [if_pos hb] at hJ
    refine br_f e ?_
    rcases hx with ⟨e3, eG⟩ | ⟨e3, hx⟩
    · rw [eG] at hJ
      exact br_t e3 (dg_xm85 (g := 1) hv hJ)
    · refine br_f e3 ⟨dg_i10 hv, ?_⟩
      rw [dg_cl (by omega), hx v hv]
      exact dg_xm85 hv hJ
theorem dg_xm31 {fo fc fk : Int32} {aw ae ah ai af co ci qu : Nat → Int32} {post : Int32 → SX → Prop} {x2 x3 : Int32} {S : Nat} {T G : Nat → Nat} (hS : S < 1024) (hG : ∀ v, v < 10 → G v ≤ 9) (hg : dg_gw x3 aw G) (hx : dg_sel x2 ae ah T) (hT : ∀ v, v < 10 → T v < 1024) (haf : ∀ j, j < 100 → af j = 0) (hp : ∀ (ao an af co ci qu : Nat → Int32) M, dg_MF (dg_R S T) (dg_cap S G) M → post (nI M) (fo, fc, fk, aw, ae, ah, ai, ao, an, af, co, ci, qu)) : ∀ d k n (ao an : Nat → Int32), k + d = 10 → d < n → (∀ v, v < k → ao v = nI (dg_cap S G v) ∧ an v = nI (dg_cap S G v)) → wX_match_31 post (nI S) x2 x3 fo fc fk n (nI k) aw ae ah ai ao an af co ci qu := by
  intro d
  induction d with
  | zero =>
    intro k n ao an hd hn hk
    obtain ⟨n, rfl⟩ : ∃ m, n = m + 1 := ⟨n - 1, by omega⟩
    have e : k = 10 := by omega
    subst e
    have hs : dg_St ao an af (dg_cap S G) (dg_cap S G) (fun _ _ => 0) := ⟨fun v hv => (hk v hv).1, fun v hv => (hk v hv).2, fun v w hv hw => haf _ (by omega)⟩
    have hF : dg_Flow (dg_R S T) (dg_cap S G) (fun _ _ => 0) (dg_cap S G) (dg_cap S G) := ⟨fun v _ => by rw [dg_S_zero (fun _ _ => rfl)]; rfl, fun v _ => by rw [dg_S_zero (fun _ _ => rfl)]; rfl, fun v w _ _ h => absurd h (Nat.lt_irrefl 0)⟩
    refine br_t (dg_ge10 (by omega) (by omega)) (dg_xfind2 hS hG hs hx hT hF (fun co ci qu r hr => ⟨dg_S (dg_cap S G) 10 + 1, ?_⟩))
    exact dg_xm120 hS hG hx hT hp _ 0 r ao an af co ci qu _ _ _ (by omega) hs hF (by omega) hr
  | succ d ih =>
    intro k n ao an hd hn hk
    obtain ⟨n, rfl⟩ : ∃ m, n = m + 1 := ⟨n - 1, by omega⟩
    have hnext := ih (k + 1) n (upd ao k (nI (dg_cap S G k))) (upd an k (nI (dg_cap S G k))) (by omega) (by omega) (fun v hv => by
      by_cases z : v = k
      · rw [z, pk_us, pk_us]; exact ⟨rfl, rfl⟩
      · rw [pk_un z, pk_un z]; exact hk v (by omega))
    exact br_f (dg_lt10 (by omega)) (ek_if (dg_b1 hS (by omega)) (fun hb => dg_xm53 hg (by omega) (Or.inr ⟨by decide, hb⟩) hnext) (fun hb => dg_xm53 hg (by omega) (Or.inl ⟨rfl, hb⟩) hnext))
theorem dg_xm7 {fo fc fk : Int32} {aw ae ah ai ao an co ci qu : Nat → Int32} {post : Int32 → SX → Prop} {x2 x3 : Int32} {S : Nat} {T G : Nat → Nat} (hS : S < 1024) (hG : ∀ v, v < 10 → G v ≤ 9) (hg : dg_gw x3 aw G) (hx : dg_sel x2 ae ah T) (hT : ∀ v, v < 10 → T v < 1024) (hp : ∀ (ao an af co ci qu : Nat → Int32) M, dg_MF (dg_R S T) (dg_cap S G) M → post (nI M) (fo, fc, fk, aw, ae, ah, ai, ao, an, af, co, ci, qu)) : ∀ d k n (af : Nat → Int32), k + d = 100 → d < n → (∀ j, j < k → af j = 0) → wX_match_7 post (nI S) x2 x3 fo fc fk n (nI k) aw ae ah ai ao an af co ci qu := by
  intro d
  induction d with
  | zero =>
    intro k n af hd hn hk
    obtain ⟨n, rfl⟩ : ∃ m, n = m + 1 := ⟨n - 1, by omega⟩
    refine br_t (nI_le (a := 100) (by omega) (by omega)) ⟨11, ?_⟩
    exact dg_xm31 hS hG hg hx hT (fun j hj => hk j (by omega)) hp 10 0 11 ao an (by omega) (by omega) (fun v h => by omega)
  | succ d ih =>
    intro k n af hd hn hk
    obtain ⟨n, rfl⟩ : ∃ m, n = m + 1 := ⟨n - 1, by omega⟩
    refine br_f (nI_ge (b := 100) (by omega) (by decide)) ⟨vp_in_nI (by omega) (by decide), fun a ea y ey => ?_⟩
    rw [dg_cl (by omega)] at ea
    rw [ey, nI_1]
    refine ih (k + 1) n a (by omega) (by omega) (fun j hj => ?_)
    by_cases z : j = k
    · rw [z, ea]; exact pk_us
    · rw [ea, pk_un z]; exact hk j (by omega)
theorem dg_xmatch {fo fc fk : Int32} {aw ae ah ai ao an af co ci qu : Nat → Int32} {post : Int32 → SX → Prop} {x2 x3 : Int32} {S : Nat} {E T G : Nat → Nat} (hE : dg_E E) (he : ∀ v, v < 10 → ae v = nI (E v)) (hc : fc ≠ 0 → ∀ w, w < 10 → ah w = nI (dg_H E w)) (hS : S < 1024) (hG : ∀ v, v < 10 → G v ≤ 9) (hg : dg_gw x3 aw G) (hx : ∀ ah : Nat → Int32, (∀ w, w < 10 → ah w = nI (dg_H E w)) → dg_sel x2 ae ah T) (hT : ∀ v, v < 10 → T v < 1024) (hp : ∀ (fc : Int32) (ah ao an af co ci qu : Nat → Int32) M, fc ≠ 0 → (∀ w, w < 10 → ah w = nI (dg_H E w)) → dg_MF (dg_R S T) (dg_cap S G) M → post (nI M) (fo, fc, fk, aw, ae, ah, ai, ao, an, af, co, ci, qu)) : wpX_match post (fo, fc, fk, aw, ae, ah, ai, ao, an, af, co, ci, qu) (nI S) x2 x3 :=
  dg_xclose hE he hc (fun fc ah h1 h2 => ⟨101, dg_xm7 hS hG hg (hx ah h2) hT (fun ao an af co ci qu M hM => hp fc ah ao an af co ci qu M h1 h2 hM) 100 0 101 af (by omega) (by omega) (fun j h => by omega)⟩)
theorem dg_1_9 : ∀ v, v < 10 → dg_1 v ≤ 9 := fun _ _ => (by decide : 1 ≤ 9)
theorem dg_xwidthOf {fo fc fk : Int32} {aw ae ah ai ao an af co ci qu : Nat → Int32} {post : Int32 → SX → Prop} {S : Nat} {E : Nat → Nat} (hE : dg_E E) (he : ∀ v, v < 10 → ae v = nI (E v)) (hc : fc ≠ 0 → ∀ w, w < 10 → ah w = nI (dg_H E w)) (hS : S < 1024) (hp : ∀ (fc : Int32) (ah ao an af co ci qu : Nat → Int32) M, fc ≠ 0 → (∀ w, w < 10 → ah w = nI (dg_H E w)) → dg_MF (dg_R S (dg_H E)) (dg_cap S dg_1) M → post (nI (dg_w dg_1 S - M)) (fo, fc, fk, aw, ae, ah, ai, ao, an, af, co, ci, qu)) : wpX_widthOf post (fo, fc, fk, aw, ae, ah, ai, ao, an, af, co, ci, qu) (nI S) := by
  unfold wpX_widthOf
  refine dg_xmatch hE he hc hS dg_1_9 (Or.inl ⟨rfl, rfl⟩) (fun ah h => Or.inl ⟨rfl, h⟩) (fun v hv => dg_H_lt hE hv) (fun fc ah ao an af co ci qu M h1 h2 hM => ?_)
  refine dg_xbits hS ?_
  rw [pk_sub (dg_wid hE hM).1]
  exact hp fc ah ao an af co ci qu M h1 h2 hM
theorem dg_x_chains {fo fc fk : Int32} {aw ae ah ai ao an af co ci qu : Nat → Int32} {post : Int32 → SX → Prop} {on : Nat} {E : Nat → Nat} (hE : dg_E E) (he : ∀ v, v < 10 → ae v = nI (E v)) (hc : fc ≠ 0 → ∀ w, w < 10 → ah w = nI (dg_H E w)) (hon : on < 1024) (hg : fo = nI on) (hp : ∀ (fc : Int32) (ah ao an af co ci qu : Nat → Int32) M, fc ≠ 0 → (∀ w, w < 10 → ah w = nI (dg_H E w)) → dg_MF (dg_R on (dg_H E)) (dg_cap on dg_1) M → post (nI (dg_w dg_1 on - M)) (fo, fc, fk, aw, ae, ah, ai, ao, an, af, co, ci, qu)) : wpX_chains post (fo, fc, fk, aw, ae, ah, ai, ao, an, af, co, ci, qu) := by
  unfold wpX_chains
  rw [hg] at hp ⊢
  exact dg_xwidthOf hE he hc hon hp
theorem dg_x_width {fo fc fk : Int32} {aw ae ah ai ao an af co ci qu : Nat → Int32} {post : Int32 → SX → Prop} {on : Nat} {E : Nat → Nat} (hE : dg_E E) (he : ∀ v, v < 10 → ae v = nI (E v)) (hc : fc ≠ 0 → ∀ w, w < 10 → ah w = nI (dg_H E w)) (hon : on < 1024) (hg : fo = nI on) (hp : ∀ (fc : Int32) (ah ao an af co ci qu : Nat → Int32) M, fc ≠ 0 → (∀ w, w < 10 → ah w = nI (dg_H E w)) → dg_MF (dg_R on (dg_H E)) (dg_cap on dg_1) M → post (nI (dg_w dg_1 on - M)) (fo, fc, fk, aw, ae, ah, ai, ao, an, af, co, ci, qu)) : wpX_width post (fo, fc, fk, aw, ae, ah, ai, ao, an, af, co, ci, qu) := by
  unfold wpX_width
  rw [hg] at hp ⊢
  exact dg_xwidthOf hE he hc hon hp
theorem dg_x_paths {fo fc fk : Int32} {aw ae ah ai ao an af co ci qu : Nat → Int32} {post : Int32 → SX → Prop} {on : Nat} {E : Nat → Nat} (hE : dg_E E) (he : ∀ v, v < 10 → ae v = nI (E v)) (hc : fc ≠ 0 → ∀ w, w < 10 → ah w = nI (dg_H E w)) (hon : on < 1024) (hg : fo = nI on) (hp : ∀ (fc : Int32) (ah ao an af co ci qu : Nat → Int32) M, fc ≠ 0 → (∀ w, w < 10 → ah w = nI (dg_H E w)) → dg_MF (dg_R on E) (dg_cap on dg_1) M → post (nI (dg_w dg_1 on) - nI M) (fo, fc, fk, aw, ae, ah, ai, ao, an, af, co, ci, qu)) : wpX_paths post (fo, fc, fk, aw, ae, ah, ai, ao, an, af, co, ci, qu) := by
  unfold wpX_paths
  rw [hg] at hp ⊢
  refine dg_xmatch hE he hc hon dg_1_9 (Or.inl ⟨rfl, rfl⟩) (fun ah h => Or.inr ⟨by decide, he⟩) (fun v hv => (hE v hv).1) (fun fc ah ao an af co ci qu M h1 h2 hM => ?_)
  exact dg_xbits hon (hp fc ah ao an af co ci qu M h1 h2 hM)
theorem dg_x_heaviest {fo fc fk : Int32} {aw ae ah ai ao an af co ci qu : Nat → Int32} {post : Int32 → SX → Prop} {on : Nat} {E W : Nat → Nat} (hE : dg_E E) (he : ∀ v, v < 10 → ae v = nI (E v)) (hw : ∀ v, v < 10 → aw v = nI (W v)) (hW : ∀ v, v < 10 → W v ≤ 9) (hc : fc ≠ 0 → ∀ w, w < 10 → ah w = nI (dg_H E w)) (hon : on < 1024) (hg : fo = nI on) (hp : ∀ (fc : Int32) (ah ao an af co ci qu : Nat → Int32) M, fc ≠ 0 → (∀ w, w < 10 → ah w = nI (dg_H E w)) → dg_MF (dg_R on (dg_H E)) (dg_cap on W) M → post (nI (dg_w W on - M)) (fo, fc, fk, aw, ae, ah, ai, ao, an, af, co, ci, qu)) : wpX_heaviest post (fo, fc, fk, aw, ae, ah, ai, ao, an, af, co, ci, qu) := by
  unfold wpX_heaviest
  rw [hg] at hp ⊢
  refine dg_xmatch hE he hc hon hW (Or.inr ⟨by decide, hw⟩) (fun ah h => Or.inl ⟨rfl, h⟩) (fun v hv => dg_H_lt hE hv) (fun fc ah ao an af co ci qu M h1 h2 hM => ⟨11, ?_⟩)
  refine dg_xhv15 hw hon rfl ?_ 10 0 11 (by omega) (by omega)
  rw [pk_sub (dg_wid hE hM).1]
  exact hp fc ah ao an af co ci qu M h1 h2 hM
/-! antichain -/
theorem dg_xan20 {fo fk : Int32} {aw ae ai : Nat → Int32} {post : Int32 → SX → Prop} {E : Nat → Nat} (hE : dg_E E) (he : ∀ v, v < 10 → ae v = nI (E v)) {on most A : Nat} (hm : dg_Mx (dg_AF E on) (dg_w dg_1) most) (hA : dg_Best E on most A) (hp : ∀ (fc : Int32) (ah ao an af co ci qu : Nat → Int32), fc ≠ 0 → (∀ w, w < 10 → ah w = nI (dg_H E w)) → post (nI A) (fo, fc, fk, aw, ae, ah, ai, ao, an, af, co, ci, qu)) : ∀ i n tk fr (fc : Int32) (ah ao an af co ci qu : Nat → Int32), i ≤ 10 → i < n → fc ≠ 0 → (∀ w, w < 10 → ah w = nI (dg_H E w)) → dg_GI E on A i tk fr → wX_antichain_20 post (nI most) n (nI tk) (nI fr) (nI i + (-1)) fo fc fk aw ae ah ai ao an af co ci qu := by
  have hmb := dg_Mk_b hm dg_w1_b
  intro i
  induction i with
  | zero =>
    intro n tk fr fc ah ao an af co ci qu h1 h2 hfc hh hI
    obtain ⟨n, rfl⟩ : ∃ m, n = m + 1 := ⟨n - 1, by omega⟩
    refine br_t (by decide) ?_
    rw [dg_G6 hA.1 hI]
    exact hp fc ah ao an af co ci qu hfc hh
  | succ i ih =>
    intro n tk fr fc ah ao an af co ci qu h1 h2 hfc hh hI
    obtain ⟨n, rfl⟩ : ∃ m, n = m + 1 := ⟨n - 1, by omega⟩
    have hi10 : i < 10 := by omega
    rw [pk_m1]
    refine br_f (nI_pos (by omega)) (ek_if (dg_b1 hI.2.1 (by omega)) (fun hb x ex => ?_) (fun hb y ey => ?_))
    · rw [dg_sh hi10, dg_anI hI.2.1] at ex
      rw [ex]
      refine dg_xwidthOf hE he (fun _ => hh) (dg_an_lt hI.2.1) (fun fc ah ao an af co ci qu M hfc hh hM => ?_)
      have hk := (dg_wid hE hM).2
      have hkb := dg_Mk_b hk dg_w1_b
      have htb := dg_w1_b tk
      refine dg_xbits hI.1 ?_
      rw [nI_add]
      refine ek_if (nI_leI (by omega) (by omega)) (fun hle y ey => ?_) (fun hle z ez => ?_)
      · rw [ey]
        exact ih n tk _ fc ah ao an af co ci qu (by omega) (by omega) hfc hh (dg_G4 hI (dg_G2 hm hA hI hi10 hk hle) (fun j => dg_fr_iff hI.2.1 j) (dg_an_lt hI.2.1))
      · rw [ez]
        refine dg_xrelated hE hh hi10 (fun x2 ex2 y ey => ?_)
        rw [ey, ex2, dg_anI (dg_an_lt hI.2.1), dg_sh hi10, dg_or]
        exact ih n _ _ fc ah ao an af co ci qu (by omega) (by omega) hfc hh (dg_G5 hI hi10 (dg_G3 hA hI hi10 hk (by omega)) (fun j hj => dg_rel_tb hE j hj))
    · rw [ey]
      have hb' : fr.testBit i = false := by simpa using hb
      refine ih n tk fr fc ah ao an af co ci qu (by omega) (by omega) hfc hh (dg_G4 hI (dg_G1 hA hI hi10 hb') (fun j => ⟨fun h => ⟨h, fun q => ?_⟩, fun h => h.1⟩) hI.2.1)
      subst q; exact hb h
theorem dg_Best_ex {E : Nat → Nat} {on most : Nat} (hm : dg_Mx (dg_AF E on) (dg_w dg_1) most) : ∃ A, dg_Best E on most A := by
  have hex : ∃ T, T < 1024 ∧ dg_AF E on T ∧ dg_w dg_1 T = most := by
    rcases hm.1 with z | z
    · refine ⟨0, by decide, ⟨fun v hv => ?_, fun a b _ _ hv => ?_⟩, by rw [dg_w_0, z]⟩
      · rw [Nat.zero_testBit] at hv; exact absurd hv (by decide)
      · rw [Nat.zero_testBit] at hv; exact absurd hv (by decide)
    · exact z
  obtain ⟨A, h1, h2⟩ := pk_least (fun T => T < 1024 ∧ dg_AF E on T ∧ dg_w dg_1 T = most) hex
  refine ⟨A, h1.1, h1.2.1, h1.2.2, fun T t1 t2 t3 => ?_⟩
  rcases Nat.lt_or_ge T A with z | z
  · exact absurd ⟨t1, t2, t3⟩ (h2 T z)
  · exact z
theorem dg_Best_eq {E : Nat → Nat} {on most A B : Nat} (hA : dg_Best E on most A) (hB : dg_Best E on most B) : A = B :=
  Nat.le_antisymm (hA.2.2.2 B hB.1 hB.2.1 hB.2.2.1) (hB.2.2.2 A hA.1 hA.2.1 hA.2.2.1)
theorem dg_x_antichain {fo fc fk : Int32} {aw ae ah ai ao an af co ci qu : Nat → Int32} {post : Int32 → SX → Prop} {on : Nat} {E : Nat → Nat} (hE : dg_E E) (he : ∀ v, v < 10 → ae v = nI (E v)) (hc : fc ≠ 0 → ∀ w, w < 10 → ah w = nI (dg_H E w)) (hon : on < 1024) (hg : fo = nI on) (hp : ∀ (fc : Int32) (ah ao an af co ci qu : Nat → Int32) most A, fc ≠ 0 → (∀ w, w < 10 → ah w = nI (dg_H E w)) → dg_Mx (dg_AF E on) (dg_w dg_1) most → dg_Best E on most A → post (nI A) (fo, fc, fk, aw, ae, ah, ai, ao, an, af, co, ci, qu)) : wpX_antichain post (fo, fc, fk, aw, ae, ah, ai, ao, an, af, co, ci, qu) := by
  unfold wpX_antichain
  rw [hg] at hp ⊢
  refine dg_xwidthOf hE he hc hon (fun fc ah ao an af co ci qu M hfc hh hM => ⟨11, ?_⟩)
  have hm := (dg_wid hE hM).2
  obtain ⟨A, hA⟩ := dg_Best_ex hm
  exact dg_xan20 hE he hm hA (fun fc ah ao an af co ci qu h1 h2 => hp fc ah ao an af co ci qu _ A h1 h2 hm hA) 10 11 0 on fc ah ao an af co ci qu (by omega) (by omega) hfc hh (dg_G0 hon hA.1)
theorem dg_x_height {fo fc fk : Int32} {aw ae ah ai ao an af co ci qu : Nat → Int32} {post : Int32 → SX → Prop} {E : Nat → Nat} (hE : dg_E E) (he : ∀ v, v < 10 → ae v = nI (E v)) (hc : fc ≠ 0 → ∀ w, w < 10 → ah w = nI (dg_H E w)) {on : Nat} (hon : on < 1024) (hg : fo = nI on) (hp : ∀ (fc : Int32) (ah qu : Nat → Int32) b, fc ≠ 0 → (∀ w, w < 10 → ah w = nI (dg_H E w)) → dg_Mx (dg_CH E on) (dg_w dg_1) b → post (nI b) (fo, fc, fk, aw, ae, ah, ai, ao, an, af, co, ci, qu)) : wpX_height post (fo, fc, fk, aw, ae, ah, ai, ao, an, af, co, ci, qu) := by
  unfold wpX_height
  exact dg_xbest hE he hc dg_1_9 (Or.inl ⟨rfl, rfl⟩) hon hg hp
theorem dg_x_heaviestChain {fo fc fk : Int32} {aw ae ah ai ao an af co ci qu : Nat → Int32} {post : Int32 → SX → Prop} {E W : Nat → Nat} (hE : dg_E E) (he : ∀ v, v < 10 → ae v = nI (E v)) (hw : ∀ v, v < 10 → aw v = nI (W v)) (hW : ∀ v, v < 10 → W v ≤ 9) (hc : fc ≠ 0 → ∀ w, w < 10 → ah w = nI (dg_H E w)) {on : Nat} (hon : on < 1024) (hg : fo = nI on) (hp : ∀ (fc : Int32) (ah qu : Nat → Int32) b, fc ≠ 0 → (∀ w, w < 10 → ah w = nI (dg_H E w)) → dg_Mx (dg_CH E on) (dg_w W) b → post (nI b) (fo, fc, fk, aw, ae, ah, ai, ao, an, af, co, ci, qu)) : wpX_heaviestChain post (fo, fc, fk, aw, ae, ah, ai, ao, an, af, co, ci, qu) := by
  unfold wpX_heaviestChain
  exact dg_xbest hE he hc hW (Or.inr ⟨by decide, hw⟩) hon hg hp
end
section
/-! the relation, and what is owed -/
def dg_F9 (on : Nat) (E W : Nat → Nat) (fo fc fk : Int32) (aw ae ah ai : Nat → Int32) (go : Int32) (be bw : Nat → Int32) : Prop := fo = nI on ∧ go = nI on ∧ on < 1024 ∧ dg_E E ∧ (∀ v, v < 10 → ae v = nI (E v)) ∧ (∀ v, v < 10 → be v = nI (E v)) ∧ (∀ v, v < 10 → aw v = nI (W v)) ∧ (∀ v, v < 10 → bw v = nI (W v)) ∧ (∀ v, v < 10 → W v ≤ 9) ∧ (fc ≠ 0 → ∀ w, w < 10 → ah w = nI (dg_H E w)) ∧ (fk ≠ 0 → ∀ m, m < 1024 → ai m = nI (dg_C E m))
/-- the same vertices on, edges and weights; what X has closed and counted is so -/
def i_Rel (k : Nat) (u : SX) (v : SY) : Prop := match u, v with
  | (fo, fc, fk, aw, ae, ah, ai, ao, an, af, co, ci, qu), (go, be, bu, bw, bs, bn) => ∃ (on : Nat) (E W : Nat → Nat), dg_F9 on E W fo fc fk aw ae ah ai go be bw
theorem dg_mkR {fo fc fk : Int32} {aw ae ah ai ao an af co ci qu : Nat → Int32} {go : Int32} {be bu bw bs bn : Nat → Int32} {k on : Nat} {E W : Nat → Nat} (h : dg_F9 on E W fo fc fk aw ae ah ai go be bw) : i_Rel k (fo, fc, fk, aw, ae, ah, ai, ao, an, af, co, ci, qu) (go, be, bu, bw, bs, bn) := Exists.intro on (Exists.intro E (Exists.intro W h))
theorem i_up {k : Nat} {u : SX} {v : SY} (h : i_Rel k u v) : i_Rel (k + 4) u v := h
theorem dg_xinit {fo fc fk : Int32} {ae ah ai ao an af co ci qu : Nat → Int32} {post : SX → Prop} (hp : ∀ aw : Nat → Int32, (∀ v, v < 10 → aw v = nI 1) → post (fo, fc, fk, aw, ae, ah, ai, ao, an, af, co, ci, qu)) : ∀ d k n (aw : Nat → Int32), k + d = 10 → d < n → (∀ v, v < k → aw v = nI 1) → wX_init_94 post fo fc fk n (nI k) aw ae ah ai ao an af co ci qu := by
  intro d
  induction d with
  | zero =>
    intro k n aw hd hn hk
    obtain ⟨n, rfl⟩ : ∃ m, n = m + 1 := ⟨n - 1, by omega⟩
    exact br_t (dg_ge10 (by omega) (by omega)) (hp aw (fun v hv => hk v (by omega)))
  | succ d ih =>
    intro k n aw hd hn hk
    obtain ⟨n, rfl⟩ : ∃ m, n = m + 1 := ⟨n - 1, by omega⟩
    refine br_f (dg_lt10 (by omega)) ⟨dg_i10 (by omega), fun a ea y ey => ?_⟩
    rw [dg_cl (by omega)] at ea
    rw [ey, nI_1]
    refine ih (k + 1) n a (by omega) (by omega) (fun v hv => ?_)
    by_cases z : v = k
    · rw [z, ea]; exact pk_us
    · rw [ea, pk_un z]; exact hk v (by omega)
theorem dg_yinit {go : Int32} {be bu bs bn : Nat → Int32} {post : SY → Prop} (hp : ∀ bw : Nat → Int32, (∀ v, v < 10 → bw v = nI 1) → post (go, be, bu, bw, bs, bn)) : ∀ d k n (bw : Nat → Int32), k + d = 10 → d < n → (∀ v, v < k → bw v = nI 1) → wY_init_55 post go n (nI k) be bu bw bs bn := by
  intro d
  induction d with
  | zero =>
    intro k n aw hd hn hk
    obtain ⟨n, rfl⟩ : ∃ m, n = m + 1 := ⟨n - 1, by omega⟩
    exact br_t (dg_ge10 (by omega) (by omega)) (hp aw (fun v hv => hk v (by omega)))
  | succ d ih =>
    intro k n aw hd hn hk
    obtain ⟨n, rfl⟩ : ∃ m, n = m + 1 := ⟨n - 1, by omega⟩
    refine br_f (dg_lt10 (by omega)) ⟨dg_i10 (by omega), fun a ea y ey => ?_⟩
    rw [dg_cl (by omega)] at ea
    rw [ey, nI_1]
    refine ih (k + 1) n a (by omega) (by omega) (fun v hv => ?_)
    by_cases z : v = k
    · rw [z, ea]; exact pk_us
    · rw [ea, pk_un z]; exact hk v (by omega)
theorem i_vc0 : wpX_init (fun u => wpY_init (fun v => i_Rel 0 u v)) := by
  refine ⟨11, dg_xinit (fun aw hw => ⟨11, dg_yinit (fun bw hb => ?_) 10 0 11 _ (by omega) (by omega) (fun v h => by omega)⟩) 10 0 11 _ (by omega) (by omega) (fun v h => by omega)⟩
  exact dg_mkR (on := 1023) (E := fun _ => 0) (W := fun _ => 1) ⟨rfl, rfl, by decide, fun v _ => ⟨(by decide : 0 < 1024), fun w h => by rw [Nat.zero_testBit] at h; exact absurd h (by decide)⟩, fun _ _ => rfl, fun _ _ => rfl, hw, hb, fun _ _ => (by decide : 1 ≤ 9), fun h => absurd rfl h, fun h => absurd rfl h⟩
/-! edge -/
theorem dg_orE {x b : Nat} (hx : x < 1024) : dg_an x (2 ^ b) ||| 2 ^ b = x ||| 2 ^ b := by
  apply Nat.eq_of_testBit_eq
  intro i
  rw [Nat.testBit_or, Nat.testBit_or, dg_fr_tb hx, Nat.testBit_two_pow]
  cases x.testBit i <;> cases decide (b = i) <;> rfl
def dg_uE (E : Nat → Nat) (a x : Nat) : Nat → Nat := fun v => if v = a then x else E v
theorem dg_uE_ok {E : Nat → Nat} (hE : dg_E E) {a x : Nat} (hx : x < 1024) (h : ∀ w, x.testBit w = true → a < w) : dg_E (dg_uE E a x) := by
  intro v hv
  rw [dg_uE]
  by_cases z : v = a
  · rw [if_pos z, z]; exact ⟨hx, h⟩
  · rw [if_neg z]; exact hE v hv
theorem dg_uE_at {E : Nat → Nat} {ae : Nat → Int32} (he : ∀ v, v < 10 → ae v = nI (E v)) (a x : Nat) : ∀ v, v < 10 → upd ae a (nI x) v = nI (dg_uE E a x v) := by
  intro v hv
  rw [dg_uE]
  by_cases z : v = a
  · rw [if_pos z, z]; exact pk_us
  · rw [if_neg z, pk_un z]; exact he v hv
theorem dg_upd2 (f : Nat → Int32) (k : Nat) (x y : Int32) : upd (upd f k x) k y = upd f k y := by
  funext j
  by_cases z : j = k
  · rw [z, pk_us, pk_us]
  · rw [pk_un z, pk_un z, pk_un z]
theorem dg_xedge {fo fc fk : Int32} {aw ae ah ai ao an af co ci qu : Nat → Int32} {post : Int32 → SX → Prop} {E : Nat → Nat} (hE : dg_E E) (he : ∀ v, v < 10 → ae v = nI (E v)) {a b : Nat} {p2 : Int32} (hab : a < b) (hb : b < 10) (h0 : p2 = 0 → post (nI (if (E a).testBit b = true then 1 else 0)) (fo, 0, 0, aw, upd ae a (nI (dg_an (E a) (2 ^ b))), ah, ai, ao, an, af, co, ci, qu)) (h1 : ¬ p2 = 0 → post (nI (if (E a).testBit b = true then 1 else 0)) (fo, 0, 0, aw, upd ae a (nI (E a ||| 2 ^ b)), ah, ai, ao, an, af, co, ci, qu)) : wpX_edge post (fo, fc, fk, aw, ae, ah, ai, ao, an, af, co, ci, qu) (nI a) (nI b) p2 := by
  have ha : a < 10 := by omega
  have hEa := (hE a ha).1
  refine br_f (nI_pos (by omega)) (br_f (nI_ge hab (by omega)) (br_t (nI_lt (b := 10) hb (by decide)) ⟨dg_i10 ha, fun x ex => ⟨dg_i10 ha, dg_i10 ha, fun c ec => br_c (fun z => ?_) (fun z => ⟨dg_i10 ha, dg_i10 ha, fun d ed => ?_⟩)⟩⟩))
  · rw [dg_cl (by omega), he a ha, dg_bv' hEa (by omega)] at ex
    rw [dg_cl (by omega), he a ha, dg_sh hb, dg_anI hEa] at ec
    rw [ex, ec]
    exact h0 z
  · rw [dg_cl (by omega), he a ha, dg_bv' hEa (by omega)] at ex
    rw [dg_cl (by omega), he a ha, dg_sh hb, dg_anI hEa] at ec
    rw [dg_cl (by omega), ec, pk_us, dg_sh hb, dg_or, dg_orE hEa, dg_upd2] at ed
    rw [ex, ed]
    exact h1 z
theorem dg_yedge {go : Int32} {be bu bw bs bn : Nat → Int32} {post : Int32 → SY → Prop} {E : Nat → Nat} (hE : dg_E E) (he : ∀ v, v < 10 → be v = nI (E v)) {a b : Nat} {p2 : Int32} (hab : a < b) (hb : b < 10) (h0 : p2 = 0 → post (nI (if (E a).testBit b = true then 1 else 0)) (go, upd be a (nI (dg_an (E a) (2 ^ b))), bu, bw, bs, bn)) (h1 : ¬ p2 = 0 → post (nI (if (E a).testBit b = true then 1 else 0)) (go, upd be a (nI (E a ||| 2 ^ b)), bu, bw, bs, bn)) : wpY_edge post (go, be, bu, bw, bs, bn) (nI a) (nI b) p2 := by
  have ha : a < 10 := by omega
  have hEa := (hE a ha).1
  refine br_f (nI_pos (by omega)) (br_f (nI_nlt (b := b) (a := 9) (by omega) (by decide)) (br_t (nI_lt hab (by omega)) ⟨dg_i10 ha, fun x ex => br_c (fun z => ⟨dg_i10 ha, dg_i10 ha, fun c ec => ?_⟩) (fun z => ⟨dg_i10 ha, dg_i10 ha, fun c ec => ?_⟩)⟩))
  · rw [dg_cl (by omega), he a ha, dg_bv' hEa (by omega)] at ex
    rw [dg_cl (by omega), he a ha, dg_sh hb, dg_anI hEa] at ec
    rw [ex, ec]
    exact h0 z
  · rw [dg_cl (by omega), he a ha, dg_bv' hEa (by omega)] at ex
    rw [dg_cl (by omega), he a ha, dg_sh hb, dg_or] at ec
    rw [ex, ec]
    exact h1 z
theorem i_vc_edge {k : Nat} {u : SX} {v : SY} (I : i_Rel k u v) (hk : k + 4 ≤ 2048) (v1 : Int32) (v2 : Int32) (v3 : Int32) : wpX_edge (fun r u' => wpY_edge (fun r' v' => r' = r ∧ i_Rel (k + 4) u' v') v v1 v2 (lw_bz v3)) u v1 v2 (lw_bz v3) := by
  obtain ⟨fo, fc, fk, aw, ae, ah, ai, ao, an, af, co, ci, qu⟩ := u
  obtain ⟨go, be, bu, bw, bs, bn⟩ := v
  by_cases c1 : v1 < 0
  · exact br_t c1 (br_t c1 ⟨rfl, I⟩)
  obtain ⟨a, ha, rfl⟩ := nI_of c1
  by_cases c2 : v2 ≤ nI a
  · refine br_f c1 (br_t c2 (br_f c1 (br_c (fun _ => ⟨rfl, I⟩) (fun _ => br_f (Int32.not_lt.mpr c2) ⟨rfl, I⟩))))
  have c20 : ¬ v2 < 0 := fun h => c2 (Int32.le_trans (Int32.le_of_lt h) (nI_pos' ha))
  obtain ⟨b, hb, rfl⟩ := nI_of c20
  have hab : a < b := by
    rw [nI_leI hb ha] at c2; omega
  by_cases c3 : b < 10
  · obtain ⟨on, E, W, h1, h2, h3, h4, h5, h6, h7, h8, h9, h10, h11⟩ := I
    have ha10 : a < 10 := by omega
    have hEa := h4 a ha10
    refine dg_xedge h4 h5 hab c3 (fun z => dg_yedge h4 h6 hab c3 (fun _ => ⟨rfl, ?_⟩) (fun y => absurd z y)) (fun z => dg_yedge h4 h6 hab c3 (fun y => absurd y z) (fun _ => ⟨rfl, ?_⟩))
    · refine dg_mkR (on := on) (E := dg_uE E a (dg_an (E a) (2 ^ b))) (W := W) ⟨h1, h2, h3, dg_uE_ok h4 (dg_an_lt hEa.1) (fun w hw => ?_), dg_uE_at h5 _ _, dg_uE_at h6 _ _, h7, h8, h9, fun h => absurd rfl h, fun h => absurd rfl h⟩
      rw [dg_fr_iff hEa.1] at hw
      exact hEa.2 w hw.1
    · refine dg_mkR (on := on) (E := dg_uE E a (E a ||| 2 ^ b)) (W := W) ⟨h1, h2, h3, dg_uE_ok h4 (dg_or_lt hEa.1 (dg_2 c3)) (fun w hw => ?_), dg_uE_at h5 _ _, dg_uE_at h6 _ _, h7, h8, h9, fun h => absurd rfl h, fun h => absurd rfl h⟩
      rw [Nat.testBit_or, Bool.or_eq_true, Nat.testBit_two_pow, decide_eq_true_iff] at hw
      rcases hw with y | y
      · exact hEa.2 w y
      · omega
  · have c3' : ¬ nI b < 10 := nI_nlt (b := 10) (by omega) hb
    have c4 : 9 < nI b := nI_lt (a := 9) (by omega) hb
    exact br_f c1 (br_f c2 (br_f c3' (br_f c1 (br_t c4 ⟨rfl, I⟩))))
/-! bad, turn, weight -/
theorem dg_xbad1 {A B : Prop} {p : Int32} (h : p < 0 ∨ nI 10 ≤ p) (hB : B) : wpX_bad (fun r => (r = 0 → A) ∧ (¬ r = 0 → B)) p := by
  refine br_c (fun _ => br_f (by decide) hB) (fun h0 => br_c (fun h1 => ?_) (fun _ => br_f (by decide) hB))
  rcases h with h | h
  · exact absurd h h0
  · exact absurd h1 (Int32.not_lt.mpr h)
theorem dg_xbad0 {A B : Prop} {v : Nat} (hv : v < 10) (hA : A) : wpX_bad (fun r => (r = 0 → A) ∧ (¬ r = 0 → B)) (nI v) :=
  br_f (nI_pos (by omega)) (br_t (nI_lt (b := 10) hv (by decide)) (br_t rfl hA))
theorem dg_ybad1 {A B : Prop} {u : SY} {p : Int32} (h : p < 0 ∨ nI 10 ≤ p) (hB : B) : wpY_bad (fun r => (r = 0 → A) ∧ (¬ r = 0 → B)) u p := by
  obtain ⟨go, be, bu, bw, bs, bn⟩ := u
  refine br_c (fun _ => br_f (by decide) hB) (fun h0 => br_c (fun h1 => ?_) (fun _ => br_f (by decide) hB))
  rcases h with h | h
  · exact absurd h h0
  · exact absurd (Int32.le_trans h h1) (by decide)
theorem dg_ybad0 {A B : Prop} {u : SY} {v : Nat} (hv : v < 10) (hA : A) : wpY_bad (fun r => (r = 0 → A) ∧ (¬ r = 0 → B)) u (nI v) := by
  obtain ⟨go, be, bu, bw, bs, bn⟩ := u
  exact br_f (nI_pos (by omega)) (br_t (nI_le (b := 9) (by omega) (by decide)) (br_t rfl hA))
theorem dg_badc (p : Int32) : (p < 0 ∨ nI 10 ≤ p) ∨ ∃ v, v < 10 ∧ p = nI v := by
  rcases pk_ix p (n := 10) (by decide) with h | h | h
  · exact Or.inl (Or.inl h)
  · exact Or.inl (Or.inr h)
  · exact Or.inr h
theorem i_vc_turn {k : Nat} {u : SX} {v : SY} (I : i_Rel k u v) (hk : k + 4 ≤ 2048) (v1 : Int32) (v2 : Int32) : wpX_turn (fun r u' => wpY_turn (fun r' v' => r' = r ∧ i_Rel (k + 4) u' v') v v1 (lw_bz v2)) u v1 (lw_bz v2) := by
  obtain ⟨fo, fc, fk, aw, ae, ah, ai, ao, an, af, co, ci, qu⟩ := u
  obtain ⟨go, be, bu, bw, bs, bn⟩ := v
  rcases dg_badc v1 with hb | ⟨p, hp, rfl⟩
  · exact dg_xbad1 hb (dg_ybad1 (u := (go, be, bu, bw, bs, bn)) hb ⟨rfl, I⟩)
  · obtain ⟨on, E, W, h1, h2, h3, h4, h5, h6, h7, h8, h9, h10, h11⟩ := I
    subst h1 h2
    refine dg_xbad0 hp (fun x ex f ef => br_c (fun z => dg_ybad0 (u := (nI on, be, bu, bw, bs, bn)) hp (fun y ey => br_t z (fun g eg => ⟨ey.trans ex.symm, ?_⟩))) (fun z g eg => dg_ybad0 (u := (nI on, be, bu, bw, bs, bn)) hp (fun y ey => br_f z (fun h eh => ⟨ey.trans ex.symm, ?_⟩))))
    · rw [dg_sh hp, dg_anI h3] at ef eg
      rw [ef, eg]
      exact dg_mkR (E := E) (W := W) ⟨rfl, rfl, dg_an_lt h3, h4, h5, h6, h7, h8, h9, h10, h11⟩
    · rw [ef, dg_sh hp, dg_anI h3, dg_or, dg_orE h3] at eg
      rw [dg_sh hp, dg_or] at eh
      rw [eg, eh]
      exact dg_mkR (E := E) (W := W) ⟨rfl, rfl, dg_or_lt h3 (dg_2 hp), h4, h5, h6, h7, h8, h9, h10, h11⟩
theorem i_vc_weight {k : Nat} {u : SX} {v : SY} (I : i_Rel k u v) (hk : k + 4 ≤ 2048) (v1 : Int32) (v2 : Int32) : wpX_weight (fun r u' => wpY_weight (fun r' v' => r' = r ∧ i_Rel (k + 4) u' v') v v1 v2) u v1 v2 := by
  obtain ⟨fo, fc, fk, aw, ae, ah, ai, ao, an, af, co, ci, qu⟩ := u
  obtain ⟨go, be, bu, bw, bs, bn⟩ := v
  rcases dg_badc v1 with hb | ⟨p, hp, rfl⟩
  · exact dg_xbad1 hb (dg_ybad1 (u := (go, be, bu, bw, bs, bn)) hb ⟨rfl, I⟩)
  · refine dg_xbad0 hp ?_
    by_cases c1 : v2 < 0
    · exact br_t c1 (dg_ybad0 (u := (go, be, bu, bw, bs, bn)) hp (br_t c1 ⟨rfl, I⟩))
    by_cases c2 : v2 ≤ 9
    · obtain ⟨g, hg, rfl⟩ := nI_of2 (n := 9) (by decide) c1 c2
      obtain ⟨on, E, W, h1, h2, h3, h4, h5, h6, h7, h8, h9, h10, h11⟩ := I
      refine br_f c1 (br_t c2 ⟨dg_i10 hp, fun x ex => ⟨dg_i10 hp, fun a ea => dg_ybad0 (u := (go, be, bu, bw, bs, bn)) hp (br_f c1 (br_t c2 ⟨dg_i10 hp, fun y ey => ⟨dg_i10 hp, fun b eb => ⟨?_, ?_⟩⟩⟩))⟩⟩)
      · rw [ex, ey, dg_cl (by omega), h7 p hp, h8 p hp]
      · rw [dg_cl (by omega)] at ea eb
        rw [ea, eb]
        refine dg_mkR (on := on) (E := E) (W := dg_uE W p g) ⟨h1, h2, h3, h4, h5, h6, dg_uE_at h7 _ _, dg_uE_at h8 _ _, fun v hv => ?_, h10, h11⟩
        rw [dg_uE]
        by_cases z : v = p
        · rw [if_pos z]; exact hg
        · rw [if_neg z]; exact h9 v hv
    · exact br_f c1 (br_f c2 (dg_ybad0 (u := (go, be, bu, bw, bs, bn)) hp (br_f c1 (br_f c2 ⟨rfl, I⟩))))
theorem i_vc_above {k : Nat} {u : SX} {v : SY} (I : i_Rel k u v) (hk : k + 4 ≤ 2048) (v1 : Int32) (v2 : Int32) : wpX_above (fun r u' => wpY_above (fun r' v' => r' = r ∧ i_Rel (k + 4) u' v') v v1 v2) u v1 v2 := by
  obtain ⟨fo, fc, fk, aw, ae, ah, ai, ao, an, af, co, ci, qu⟩ := u
  obtain ⟨go, be, bu, bw, bs, bn⟩ := v
  rcases dg_badc v1 with hb | ⟨p, hp, rfl⟩
  · exact dg_xbad1 hb (dg_ybad1 (u := (go, be, bu, bw, bs, bn)) hb ⟨rfl, I⟩)
  · rcases dg_badc v2 with hb | ⟨q, hq, rfl⟩
    · exact dg_xbad0 hp (dg_xbad1 hb (dg_ybad0 (u := (go, be, bu, bw, bs, bn)) hp (dg_ybad1 (u := (go, be, bu, bw, bs, bn)) hb ⟨rfl, I⟩)))
    · obtain ⟨on, E, W, h1, h2, h3, h4, h5, h6, h7, h8, h9, h10, h11⟩ := I
      refine dg_xbad0 hp (dg_xbad0 hq (dg_xclose h4 h5 h10 (fun fc ah hfc hh => ⟨dg_i10 hp, ?_⟩)))
      have hR : ∀ bu : Nat → Int32, i_Rel (k + 4) (fo, fc, fk, aw, ae, ah, ai, ao, an, af, co, ci, qu) (go, be, bu, bw, bs, bn) := fun bu => dg_mkR (on := on) (E := E) (W := W) ⟨h1, h2, h3, h4, h5, h6, h7, h8, h9, fun _ => hh, h11⟩
      refine ek_if (d := (dg_H E p).testBit q = true) (by rw [dg_cl (by omega), hh p hp]; exact dg_b1 (dg_H_lt h4 hp) (by omega)) (fun hz => dg_ybad0 (u := (go, be, bu, bw, bs, bn)) hp (dg_ybad0 (u := (go, be, bu, bw, bs, bn)) hq (dg_yclose h4 h6 (fun bu hu => ⟨dg_i10 hp, ?_⟩)))) (fun hz => dg_ybad0 (u := (go, be, bu, bw, bs, bn)) hp (dg_ybad0 (u := (go, be, bu, bw, bs, bn)) hq (dg_yclose h4 h6 (fun bu hu => ⟨dg_i10 hp, ?_⟩))))
      · exact br_t (by rw [dg_cl (by omega), hu p hp]; exact (dg_b1 (dg_H_lt h4 hp) (by omega)).mpr hz) ⟨rfl, rfl, hR bu⟩
      · exact br_f (by rw [dg_cl (by omega), hu p hp]; exact fun z => hz ((dg_b1 (dg_H_lt h4 hp) (by omega)).mp z)) ⟨rfl, rfl, hR bu⟩
/-! the questions -/
theorem dg_EH {E : Nat → Nat} (hE : dg_E E) : dg_E (dg_H E) := fun v hv => ⟨dg_H_lt hE hv, fun w hw => (dg_H_up hE hv hw).1⟩
theorem i_vc_chains {k : Nat} {u : SX} {v : SY} (I : i_Rel k u v) (hk : k + 4 ≤ 2048) : wpX_chains (fun r u' => wpY_chains (fun r' v' => r' = r ∧ i_Rel (k + 4) u' v') v) u := by
  obtain ⟨fo, fc, fk, aw, ae, ah, ai, ao, an, af, co, ci, qu⟩ := u
  obtain ⟨go, be, bu, bw, bs, bn⟩ := v
  obtain ⟨on, E, W, h1, h2, h3, h4, h5, h6, h7, h8, h9, h10, h11⟩ := I
  refine dg_x_chains h4 h5 h10 h3 h1 (fun fc ah ao an af co ci qu M hfc hh hM => dg_ychains h4 h6 h3 h2 (fun N bu bs bn hN => ⟨?_, dg_mkR (on := on) (E := E) (W := W) ⟨h1, h2, h3, h4, h5, h6, h7, h8, h9, fun _ => hh, h11⟩⟩))
  have := dg_paths (dg_EH h4) h3 hM hN
  exact congrArg nI (by omega)
theorem i_vc_width {k : Nat} {u : SX} {v : SY} (I : i_Rel k u v) (hk : k + 4 ≤ 2048) : wpX_width (fun r u' => wpY_width (fun r' v' => r' = r ∧ i_Rel (k + 4) u' v') v) u := by
  obtain ⟨fo, fc, fk, aw, ae, ah, ai, ao, an, af, co, ci, qu⟩ := u
  obtain ⟨go, be, bu, bw, bs, bn⟩ := v
  obtain ⟨on, E, W, h1, h2, h3, h4, h5, h6, h7, h8, h9, h10, h11⟩ := I
  refine dg_x_width h4 h5 h10 h3 h1 (fun fc ah ao an af co ci qu M hfc hh hM => dg_y_width h4 h6 h8 h9 h2 (fun bu m hu hm => ⟨?_, dg_mkR (on := on) (E := E) (W := W) ⟨h1, h2, h3, h4, h5, h6, h7, h8, h9, fun _ => hh, h11⟩⟩))
  exact congrArg nI (dg_Mx_eq hm (dg_wid h4 hM).2)
theorem i_vc_antichain {k : Nat} {u : SX} {v : SY} (I : i_Rel k u v) (hk : k + 4 ≤ 2048) : wpX_antichain (fun r u' => wpY_antichain (fun r' v' => r' = r ∧ i_Rel (k + 4) u' v') v) u := by
  obtain ⟨fo, fc, fk, aw, ae, ah, ai, ao, an, af, co, ci, qu⟩ := u
  obtain ⟨go, be, bu, bw, bs, bn⟩ := v
  obtain ⟨on, E, W, h1, h2, h3, h4, h5, h6, h7, h8, h9, h10, h11⟩ := I
  refine dg_x_antichain h4 h5 h10 h3 h1 (fun fc ah ao an af co ci qu most A hfc hh hm hA => dg_y_antichain h4 h6 h8 h9 h2 (fun bu most' B hm' hB => ⟨?_, dg_mkR (on := on) (E := E) (W := W) ⟨h1, h2, h3, h4, h5, h6, h7, h8, h9, fun _ => hh, h11⟩⟩))
  rw [dg_Mx_eq hm' hm] at hB
  exact congrArg nI (dg_Best_eq hB hA)
theorem i_vc_paths {k : Nat} {u : SX} {v : SY} (I : i_Rel k u v) (hk : k + 4 ≤ 2048) : wpX_paths (fun r u' => wpY_paths (fun r' v' => r' = r ∧ i_Rel (k + 4) u' v') v) u := by
  obtain ⟨fo, fc, fk, aw, ae, ah, ai, ao, an, af, co, ci, qu⟩ := u
  obtain ⟨go, be, bu, bw, bs, bn⟩ := v
  obtain ⟨on, E, W, h1, h2, h3, h4, h5, h6, h7, h8, h9, h10, h11⟩ := I
  refine dg_x_paths h4 h5 h10 h3 h1 (fun fc ah ao an af co ci qu M hfc hh hM => dg_ypaths h4 h6 h3 h2 (fun N bu bs bn hN => ⟨?_, dg_mkR (on := on) (E := E) (W := W) ⟨h1, h2, h3, h4, h5, h6, h7, h8, h9, fun _ => hh, h11⟩⟩))
  have := dg_paths h4 h3 hM hN
  rw [pk_sub (by omega)]
  exact congrArg nI (by omega)
theorem i_vc_heaviest {k : Nat} {u : SX} {v : SY} (I : i_Rel k u v) (hk : k + 4 ≤ 2048) : wpX_heaviest (fun r u' => wpY_heaviest (fun r' v' => r' = r ∧ i_Rel (k + 4) u' v') v) u := by
  obtain ⟨fo, fc, fk, aw, ae, ah, ai, ao, an, af, co, ci, qu⟩ := u
  obtain ⟨go, be, bu, bw, bs, bn⟩ := v
  obtain ⟨on, E, W, h1, h2, h3, h4, h5, h6, h7, h8, h9, h10, h11⟩ := I
  refine dg_x_heaviest h4 h5 h7 h9 h10 h3 h1 (fun fc ah ao an af co ci qu M hfc hh hM => dg_y_heaviest h4 h6 h8 h9 h2 (fun bu m hu hm => ⟨?_, dg_mkR (on := on) (E := E) (W := W) ⟨h1, h2, h3, h4, h5, h6, h7, h8, h9, fun _ => hh, h11⟩⟩))
  exact congrArg nI (dg_Mx_eq hm (dg_wid h4 hM).2)
theorem i_vc_height {k : Nat} {u : SX} {v : SY} (I : i_Rel k u v) (hk : k + 4 ≤ 2048) : wpX_height (fun r u' => wpY_height (fun r' v' => r' = r ∧ i_Rel (k + 4) u' v') v) u := by
  obtain ⟨fo, fc, fk, aw, ae, ah, ai, ao, an, af, co, ci, qu⟩ := u
  obtain ⟨go, be, bu, bw, bs, bn⟩ := v
  obtain ⟨on, E, W, h1, h2, h3, h4, h5, h6, h7, h8, h9, h10, h11⟩ := I
  exact dg_x_height h4 h5 h10 h3 h1 (fun fc ah qu b hfc hh hb => dg_y_height h4 h6 h8 h9 h2 (fun bu m hu hm => ⟨congrArg nI (dg_Mx_eq hm hb), dg_mkR (on := on) (E := E) (W := W) ⟨h1, h2, h3, h4, h5, h6, h7, h8, h9, fun _ => hh, h11⟩⟩))
theorem i_vc_heaviestChain {k : Nat} {u : SX} {v : SY} (I : i_Rel k u v) (hk : k + 4 ≤ 2048) : wpX_heaviestChain (fun r u' => wpY_heaviestChain (fun r' v' => r' = r ∧ i_Rel (k + 4) u' v') v) u := by
  obtain ⟨fo, fc, fk, aw, ae, ah, ai, ao, an, af, co, ci, qu⟩ := u
  obtain ⟨go, be, bu, bw, bs, bn⟩ := v
  obtain ⟨on, E, W, h1, h2, h3, h4, h5, h6, h7, h8, h9, h10, h11⟩ := I
  exact dg_x_heaviestChain h4 h5 h7 h9 h10 h3 h1 (fun fc ah qu b hfc hh hb => dg_y_heaviestChain h4 h6 h8 h9 h2 (fun bu m hu hm => ⟨congrArg nI (dg_Mx_eq hm hb), dg_mkR (on := on) (E := E) (W := W) ⟨h1, h2, h3, h4, h5, h6, h7, h8, h9, fun _ => hh, h11⟩⟩))
theorem i_vc_antichains {k : Nat} {u : SX} {v : SY} (I : i_Rel k u v) (hk : k + 4 ≤ 2048) : wpX_antichains (fun r u' => wpY_antichains (fun r' v' => r' = r ∧ i_Rel (k + 4) u' v') v) u := by
  obtain ⟨fo, fc, fk, aw, ae, ah, ai, ao, an, af, co, ci, qu⟩ := u
  obtain ⟨go, be, bu, bw, bs, bn⟩ := v
  obtain ⟨on, E, W, h1, h2, h3, h4, h5, h6, h7, h8, h9, h10, h11⟩ := I
  exact dg_x_antichains h4 h5 h10 h11 h3 h1 (fun fc fk ah ai hfc hh hi => dg_y_antichains h4 h6 h2 (fun bu => ⟨rfl, dg_mkR (on := on) (E := E) (W := W) ⟨h1, h2, h3, h4, h5, h6, h7, h8, h9, fun _ => hh, fun _ => hi⟩⟩))
theorem i_vc_apart {k : Nat} {u : SX} {v : SY} (I : i_Rel k u v) (hk : k + 4 ≤ 2048) : wpX_apart (fun r u' => wpY_apart (fun r' v' => r' = r ∧ i_Rel (k + 4) u' v') v) u := by
  obtain ⟨fo, fc, fk, aw, ae, ah, ai, ao, an, af, co, ci, qu⟩ := u
  obtain ⟨go, be, bu, bw, bs, bn⟩ := v
  obtain ⟨on, E, W, h1, h2, h3, h4, h5, h6, h7, h8, h9, h10, h11⟩ := I
  exact dg_x_apart h4 h5 h10 h3 h1 (fun fc ah hfc hh => dg_y_apart h4 h6 h3 h2 (fun bu => ⟨rfl, dg_mkR (on := on) (E := E) (W := W) ⟨h1, h2, h3, h4, h5, h6, h7, h8, h9, fun _ => hh, h11⟩⟩))
end
