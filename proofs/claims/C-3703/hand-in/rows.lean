section
theorem pk_us {f : Nat → Int32} {k : Nat} {x : Int32} : upd f k x k = x := if_pos rfl
theorem pk_un {f : Nat → Int32} {k j : Nat} {x : Int32} (h : j ≠ k) : upd f k x j = f j := if_neg h
theorem pk_sub {a b : Nat} (h : b ≤ a) : nI a - nI b = nI (a - b) := by
  obtain ⟨c, rfl⟩ : ∃ c, a = c + b := ⟨a - b, by omega⟩
  rw [← nI_add, Int32.add_sub_cancel, Nat.add_sub_cancel]
theorem pk_m1 (n : Nat) : nI (n + 1) + (-1) = nI n := by
  rw [← nI_1, Int32.add_assoc, show (1 : Int32) + (-1) = 0 from rfl, Int32.add_zero]
theorem pk_mul (a b : Nat) : nI a * nI b = nI (a * b) := (Int32.ofNat_mul a b).symm
theorem pk_sub_toInt {a b : Nat} (ha : a < 2 ^ 30) (hb : b < 2 ^ 30) : (nI a - nI b).toInt = (a : Int) - b := by
  rw [Int32.toInt_sub, nI_toInt (by omega), nI_toInt (by omega)]
  exact Int.bmod_eq_of_le (by omega) (by omega)
theorem pk_sneg {a b : Nat} (hb : b < 2 ^ 30) (h : a < b) : nI a - nI b < 0 := by
  rw [Int32.lt_iff_toInt_lt, pk_sub_toInt (by omega) hb, show (0 : Int32).toInt = 0 from by decide]
  omega
theorem pk_ix (x : Int32) {n : Nat} (hn : n < 2 ^ 31) : x < 0 ∨ nI n ≤ x ∨ ∃ j : Nat, j < n ∧ x = nI j := by
  by_cases h : x < 0
  · exact Or.inl h
  · obtain ⟨j, hj, rfl⟩ := nI_of h
    by_cases h2 : j < n
    · exact Or.inr (Or.inr ⟨j, h2, rfl⟩)
    · exact Or.inr (Or.inl (nI_le (by omega) hj))
theorem pk_le {x y : Int32} {A B : Prop} (a b : Nat) (f : a ≤ b → A) (g : b < a → B) (hx : x = nI a := by rfl) (hy : y = nI b := by rfl) (ha : a < 2 ^ 31 := by omega) (hb : b < 2 ^ 31 := by omega) : (x ≤ y → A) ∧ (¬ x ≤ y → B) := by
  subst hx hy
  rw [nI_leI ha hb]
  exact ⟨f, fun z => g (by omega)⟩
theorem pk_lt {x y : Int32} {A B : Prop} (a b : Nat) (f : a < b → A) (g : b ≤ a → B) (hx : x = nI a := by rfl) (hy : y = nI b := by rfl) (ha : a < 2 ^ 31 := by omega) (hb : b < 2 ^ 31 := by omega) : (x < y → A) ∧ (¬ x < y → B) := by
  subst hx hy
  rw [nI_ltI ha hb]
  exact ⟨f, fun z => g (by omega)⟩
theorem pk_eq {x y : Int32} {A B : Prop} (a b : Nat) (f : a = b → A) (g : a ≠ b → B) (hx : x = nI a := by rfl) (hy : y = nI b := by rfl) (ha : a < 2 ^ 31 := by omega) (hb : b < 2 ^ 31 := by omega) : (x = y → A) ∧ (¬ x = y → B) := by
  subst hx hy
  rw [nI_eq ha hb]
  exact ⟨f, g⟩
theorem pk_in {x : Int32} (n N : Nat) (h : n < N) (hx : x = nI n := by rfl) (hN : N < 2 ^ 31 := by omega) : vp_in x N := by
  subst hx
  exact vp_in_nI h hN
theorem pk_cl {x : Int32} (n : Nat) (hx : x = nI n := by rfl) (h : n < 2 ^ 31 := by omega) : x.toNatClampNeg = n := by
  subst hx
  exact nI_clamp h
theorem pk_tn {n : Nat} (h : n < 2 ^ 32) : (nI n).toBitVec.toNat = n := Nat.mod_eq_of_lt h
theorem pk_and (x : Int32) {m : Int32} (k : Nat) (hm : m.toBitVec.toNat = 2 ^ k - 1) : x &&& m = nI (x.toBitVec.toNat % 2 ^ k) := by
  apply Int32.toBitVec_inj.mp
  apply BitVec.eq_of_toNat_eq
  rw [Int32.toBitVec_and, BitVec.toNat_and, hm, Nat.and_two_pow_sub_one_eq_mod]
  show _ = (BitVec.ofNat 32 _).toNat
  rw [BitVec.toNat_ofNat]
  exact (Nat.mod_eq_of_lt (Nat.lt_of_le_of_lt (Nat.mod_le _ _) x.toBitVec.isLt)).symm
theorem pk_andN {n : Nat} (h : n < 2 ^ 32) {m : Int32} (k : Nat) (hm : m.toBitVec.toNat = 2 ^ k - 1) : nI n &&& m = nI (n % 2 ^ k) := by
  rw [pk_and _ k hm, pk_tn h]
theorem pk_andE (x : Int32) {m : Int32} (k : Nat) (hm : m.toBitVec.toNat = 2 ^ k - 1) : ∃ j : Nat, j < 2 ^ k ∧ x &&& m = nI j := ⟨_, Nat.mod_lt _ (Nat.two_pow_pos k), pk_and x k hm⟩
theorem pk_andIn (x : Int32) {m : Int32} (k : Nat) (hm : m.toBitVec.toNat = 2 ^ k - 1) (hk : k ≤ 30) : vp_in (x &&& m) (2 ^ k) := by
  obtain ⟨j, hj, e⟩ := pk_andE x k hm
  rw [e]
  exact vp_in_nI hj (Nat.lt_of_le_of_lt (Nat.pow_le_pow_right (by decide) hk) (by decide))
theorem pk_shl (a s : Int32) (k : Nat) (hs : (s.toBitVec.smod 32).toNat = k) : (a <<< s).toBitVec.toNat = a.toBitVec.toNat * 2 ^ k % 2 ^ 32 := by
  show (a.toBitVec <<< (s.toBitVec.smod 32).toNat).toNat = _
  rw [hs, BitVec.toNat_shiftLeft, Nat.shiftLeft_eq]
theorem pk_shlN {n : Nat} (s : Int32) (k : Nat) (hs : (s.toBitVec.smod 32).toNat = k) (h : n * 2 ^ k < 2 ^ 32) : nI n <<< s = nI (n * 2 ^ k) := by
  apply Int32.toBitVec_inj.mp
  apply BitVec.eq_of_toNat_eq
  have hn : n < 2 ^ 32 := Nat.lt_of_le_of_lt (Nat.le_mul_of_pos_right n (Nat.two_pow_pos k)) h
  rw [pk_shl _ _ k hs, pk_tn hn, pk_tn h, Nat.mod_eq_of_lt h]
theorem pk_shr (a s : Int32) (k : Nat) (hs : (s.toBitVec.smod 32).toNat = k) : (a >>> s).toInt = a.toInt >>> k := by
  show (a.toBitVec.sshiftRight (s.toBitVec.smod 32).toNat).toInt = _
  rw [hs, BitVec.toInt_sshiftRight]
  rfl
theorem pk_shrN {n : Nat} (h : n < 2 ^ 31) (s : Int32) (k : Nat) (hs : (s.toBitVec.smod 32).toNat = k) : nI n >>> s = nI (n / 2 ^ k) := by
  apply Int32.toInt_inj.mp
  have h2 : n / 2 ^ k ≤ n := Nat.div_le_self _ _
  rw [pk_shr _ _ k hs, nI_toInt h, nI_toInt (by omega), Int.shiftRight_eq_div_pow]
  rfl
theorem pk_loop {σ : Type} (W : Nat → Nat → σ → Prop) (I : Nat → σ → Prop) (e i0 : Nat) (s : σ) (hi : i0 ≤ e) (h0 : I i0 s) (hx : ∀ n s, I e s → W (n + 1) e s)
    (hs : ∀ n i s, i < e → I i s → (∀ s', I (i + 1) s' → W n (i + 1) s') → W (n + 1) i s) : ∃ n, W n i0 s :=
  ⟨e + 1, loop_i W I e hx hs (e + 1) i0 s hi (by omega) h0⟩
theorem pk_loopD {σ : Type} (W : Nat → Nat → σ → Prop) (I : Nat → σ → Prop) (hx : ∀ n s, I 0 s → W (n + 1) 0 s)
    (hs : ∀ n i s, I (i + 1) s → (∀ s', I i s' → W n i s') → W (n + 1) (i + 1) s) : ∀ (e : Nat) (s : σ), I e s → W (e + 1) e s := by
  intro e
  induction e with
  | zero => exact fun s h => hx 0 s h
  | succ e ih => exact fun s h => hs (e + 1) e s h (fun s' h' => ih s' h')
theorem pk_least (P : Nat → Prop) (h : ∃ k, P k) : ∃ k, P k ∧ ∀ j, j < k → ¬ P j := by
  obtain ⟨k, hk⟩ := h
  induction k using Nat.strongRecOn with
  | ind k ih =>
    by_cases e : ∃ j, j < k ∧ P j
    · obtain ⟨j, hj, pj⟩ := e
      exact ih j hj pj
    · exact ⟨k, hk, fun j hj pj => e ⟨j, hj, pj⟩⟩
theorem s_l : ∀ n, n < 32 → ((nI n &&& 31).toBitVec.smod 32).toNat = n := by decide +kernel
end
section
/-! ints by their number; arrays of numbers; finite sums -/
def nt_z (z : Int) : Int32 := Int32.ofInt z
theorem nt_zn (n : Nat) : nt_z (n : Int) = nI n := Int32.ofInt_eq_ofNat
theorem nt_z0 : nt_z 0 = 0 := by decide +kernel
theorem nt_z1 : nt_z 1 = 1 := by decide +kernel
theorem nt_zm1 : nt_z (-1) = -1 := by decide +kernel
theorem nt_zadd (a b : Int) : nt_z a + nt_z b = nt_z (a + b) := (Int32.ofInt_add a b).symm
theorem nt_zsub (a b : Int) : nt_z a - nt_z b = nt_z (a - b) := (Int32.ofInt_sub a b).symm
theorem nt_zneg (a : Int) : -nt_z a = nt_z (-a) := (Int32.ofInt_neg a).symm
theorem nt_zmul (a b : Int) : nt_z a * nt_z b = nt_z (a * b) := (Int32.ofInt_mul a b).symm
theorem nt_zint {a : Int} (h : -1000000000 ≤ a) (h' : a ≤ 1000000000) : (nt_z a).toInt = a := Int32.toInt_ofInt_of_le (by omega) (by omega)
theorem nt_zle {a b : Int} (ha : -1000000000 ≤ a) (ha' : a ≤ 1000000000) (hb : -1000000000 ≤ b) (hb' : b ≤ 1000000000) : nt_z a ≤ nt_z b ↔ a ≤ b := by
  rw [Int32.le_iff_toInt_le, nt_zint ha ha', nt_zint hb hb']
theorem nt_zlt {a b : Int} (ha : -1000000000 ≤ a) (ha' : a ≤ 1000000000) (hb : -1000000000 ≤ b) (hb' : b ≤ 1000000000) : nt_z a < nt_z b ↔ a < b := by
  rw [Int32.lt_iff_toInt_lt, nt_zint ha ha', nt_zint hb hb']
theorem nt_zeq {a b : Int} (ha : -1000000000 ≤ a) (ha' : a ≤ 1000000000) (hb : -1000000000 ≤ b) (hb' : b ≤ 1000000000) : nt_z a = nt_z b ↔ a = b := by
  rw [← Int32.toInt_inj, nt_zint ha ha', nt_zint hb hb']
theorem nt_zeq0 {a : Int} (ha : -1000000000 ≤ a) (ha' : a ≤ 1000000000) : nt_z a = 0 ↔ a = 0 := by
  rw [← nt_z0, nt_zeq ha ha' (by omega) (by omega)]
theorem nt_zle0 {a : Int} (ha : -1000000000 ≤ a) (ha' : a ≤ 1000000000) : nt_z a ≤ 0 ↔ a ≤ 0 := by
  rw [← nt_z0, nt_zle ha ha' (by omega) (by omega)]
theorem nt_zlt0 {a : Int} (ha : -1000000000 ≤ a) (ha' : a ≤ 1000000000) : nt_z a < 0 ↔ a < 0 := by
  rw [← nt_z0, nt_zlt ha ha' (by omega) (by omega)]
theorem nt_z0lt {a : Int} (ha : -1000000000 ≤ a) (ha' : a ≤ 1000000000) : 0 < nt_z a ↔ 0 < a := by
  rw [← nt_z0, nt_zlt (by omega) (by omega) ha ha']
theorem nt_z0le {a : Int} (ha : -1000000000 ≤ a) (ha' : a ≤ 1000000000) : 0 ≤ nt_z a ↔ 0 ≤ a := by
  rw [← nt_z0, nt_zle (by omega) (by omega) ha ha']
theorem nt_n0 {n : Nat} (h : n < 2 ^ 31) : nI n = 0 ↔ n = 0 := by
  rw [← nI_0, nI_eq h (by omega)]
theorem nt_nm1 {n : Nat} (h : n < 2 ^ 31) : ¬ nI n = -1 := by
  intro e
  have h1 := nI_toInt h
  rw [e, show (-1 : Int32).toInt = -1 from by decide] at h1
  omega
theorem nt_half {b : Nat} (h : b < 2 ^ 31) : nI b >>> ((1 : Int32) &&& 31) = nI (b / 2) := pk_shrN h _ 1 (by decide)
theorem nt_odd {b : Nat} (h : b < 2 ^ 31) : nI b &&& 1 = nI (b % 2) := pk_andN (by omega) 1 (by decide)
/-- an array of ints, of naturals -/
def nt_za (f : Nat → Int) (j : Nat) : Int32 := nt_z (f j)
def nt_na (f : Nat → Nat) (j : Nat) : Int32 := nI (f j)
def nt_u {α : Type} (f : Nat → α) (k : Nat) (y : α) (j : Nat) : α := if j = k then y else f j
theorem nt_us {α : Type} {f : Nat → α} {k : Nat} {y : α} : nt_u f k y k = y := if_pos rfl
theorem nt_un {α : Type} {f : Nat → α} {k j : Nat} {y : α} (h : j ≠ k) : nt_u f k y j = f j := if_neg h
theorem nt_zaU (f : Nat → Int) (k : Nat) (y : Int) : upd (nt_za f) k (nt_z y) = nt_za (nt_u f k y) := by
  funext j
  by_cases h : j = k
  · subst h; rw [pk_us]; show _ = nt_z (nt_u f j y j); rw [nt_us]
  · rw [pk_un h]; show _ = nt_z (nt_u f k y j); rw [nt_un h]; rfl
theorem nt_naU (f : Nat → Nat) (k : Nat) (y : Nat) : upd (nt_na f) k (nI y) = nt_na (nt_u f k y) := by
  funext j
  by_cases h : j = k
  · subst h; rw [pk_us]; show _ = nI (nt_u f j y j); rw [nt_us]
  · rw [pk_un h]; show _ = nI (nt_u f k y j); rw [nt_un h]; rfl
theorem nt_zaI (g : Nat → Int32) : ∃ f, g = nt_za f := ⟨fun j => (g j).toInt, funext fun j => (Int32.ofInt_toInt (g j)).symm⟩
theorem nt_za0 : (fun _ => 0 : Nat → Int32) = nt_za (fun _ => 0) := funext fun _ => nt_z0.symm
theorem nt_na0 : (fun _ => 0 : Nat → Int32) = nt_na (fun _ => 0) := funext fun _ => nI_0.symm
/-- the sum of f over the first n numbers -/
def nt_sm (f : Nat → Int) : Nat → Int
  | 0 => 0
  | n + 1 => nt_sm f n + f n
theorem nt_sm0 (f : Nat → Int) : nt_sm f 0 = 0 := rfl
theorem nt_smS (f : Nat → Int) (n : Nat) : nt_sm f (n + 1) = nt_sm f n + f n := rfl
theorem nt_smC {f g : Nat → Int} : ∀ n : Nat, (∀ d, d < n → f d = g d) → nt_sm f n = nt_sm g n := by
  intro n
  induction n with
  | zero => intro _; rfl
  | succ n ih => intro h; rw [nt_smS, nt_smS, ih (fun d hd => h d (by omega)), h n (by omega)]
theorem nt_smL {f g : Nat → Int} : ∀ n : Nat, (∀ d, d < n → f d ≤ g d) → nt_sm f n ≤ nt_sm g n := by
  intro n
  induction n with
  | zero => intro _; exact Int.le_refl _
  | succ n ih =>
    intro h
    have h1 := ih (fun d hd => h d (by omega))
    have h2 := h n (by omega)
    rw [nt_smS, nt_smS]; omega
theorem nt_smT {f g : Nat → Int} : ∀ n : Nat, (∀ d, d < n → f d ≤ g d) → (∃ d, d < n ∧ f d < g d) → nt_sm f n < nt_sm g n := by
  intro n
  induction n with
  | zero => intro _ ⟨d, hd, _⟩; omega
  | succ n ih =>
    intro h ⟨d, hd, hl⟩
    rw [nt_smS, nt_smS]
    by_cases e : d = n
    · subst e
      have h1 := nt_smL (f := f) (g := g) d (fun d' hd' => h d' (by omega))
      omega
    · have h1 := ih (fun d hd => h d (by omega)) ⟨d, by omega, hl⟩
      have h2 := h n (by omega)
      omega
theorem nt_smA (f g : Nat → Int) (n : Nat) : nt_sm (fun d => f d + g d) n = nt_sm f n + nt_sm g n := by
  induction n with
  | zero => rfl
  | succ n ih => rw [nt_smS, nt_smS, nt_smS, ih]; omega
theorem nt_smB (f g : Nat → Int) (n : Nat) : nt_sm (fun d => f d - g d) n = nt_sm f n - nt_sm g n := by
  induction n with
  | zero => rfl
  | succ n ih => rw [nt_smS, nt_smS, nt_smS, ih]; omega
theorem nt_smM (c : Int) (f : Nat → Int) (n : Nat) : nt_sm (fun d => c * f d) n = c * nt_sm f n := by
  induction n with
  | zero => exact (Int.mul_zero c).symm
  | succ n ih => rw [nt_smS, nt_smS, ih, Int.mul_add]
theorem nt_smZ {f : Nat → Int} (n : Nat) (h : ∀ d, d < n → f d = 0) : nt_sm f n = 0 := by
  induction n with
  | zero => rfl
  | succ n ih => rw [nt_smS, ih (fun d hd => h d (by omega)), h n (by omega)]; rfl
/-- one value changed -/
theorem nt_smU (q x : Nat → Int) (d0 : Nat) (y : Int) : ∀ n : Nat, d0 < n → nt_sm (fun d => q d * nt_u x d0 y d) n = nt_sm (fun d => q d * x d) n + q d0 * (y - x d0) := by
  intro n
  induction n with
  | zero => intro h; omega
  | succ n ih =>
    intro h
    rw [nt_smS, nt_smS]
    by_cases e : d0 = n
    · subst e
      rw [nt_smC (g := fun d => q d * x d) d0 (fun d hd => by show q d * nt_u x d0 y d = _; rw [nt_un (by omega)])]
      show _ + q d0 * nt_u x d0 y d0 = _
      rw [nt_us, Int.mul_sub]
      omega
    · rw [ih (by omega)]
      show _ + q n * nt_u x d0 y n = _
      rw [nt_un (fun z => e z.symm)]
      omega
theorem nt_smD (c : Nat → Int) : ∀ n : Nat, nt_sm (fun i => c i - c (i + 1)) n = c 0 - c n := by
  intro n
  induction n with
  | zero => show (0 : Int) = _; omega
  | succ n ih => rw [nt_smS, ih]; omega
/-- a single place -/
theorem nt_sm1 (p : Nat → Int) (k : Nat) (v : Int) : ∀ n : Nat, k < n → nt_sm (fun f => p f * (if k = f then v else 0)) n = p k * v := by
  intro n
  induction n with
  | zero => intro h; omega
  | succ n ih =>
    intro h
    rw [nt_smS]
    by_cases e : k = n
    · subst e
      rw [nt_smZ k (fun d hd => by show p d * (if k = d then v else 0) = 0; rw [if_neg (by omega), Int.mul_zero]), if_pos rfl, Int.zero_add]
    · rw [ih (by omega), if_neg e, Int.mul_zero, Int.add_zero]
end
section
/-! lengths over arcs, pass by pass: what a pass keeps, and the circle behind n + 1 passes -/
/-- the chain of v by nx -/
def nt_ch (nx : Nat → Nat) (v : Nat) : Nat → Nat
  | 0 => v
  | i + 1 => nx (nt_ch nx v i)
theorem nt_chS (nx : Nat → Nat) (v i : Nat) : nt_ch nx v (i + 1) = nx (nt_ch nx v i) := rfl
theorem nt_chA (nx : Nat → Nat) (v a : Nat) : ∀ i : Nat, nt_ch nx (nt_ch nx v a) i = nt_ch nx v (a + i) := by
  intro i
  induction i with
  | zero => rfl
  | succ i ih => rw [nt_chS, ih]; rfl
section
variable {N M : Nat} {tl hd : Nat → Nat} {w : Nat → Int} {act : Nat → Prop}
def bf_G (N M : Nat) (tl hd : Nat → Nat) (w : Nat → Int) : Prop := ∀ b, b < M → tl b < N ∧ hd b < N ∧ tl b ≠ hd b ∧ -32768 ≤ w b ∧ w b ≤ 32768
def bf_B (N r a : Nat) (L : Nat → Int) : Prop := ∀ v, v < N → 0 ≤ L v ∧ L v ≤ 32768 * (14 * (r : Int) + a)
def bf_P (N r : Nat) (P : Nat → Nat) : Prop := ∀ v, v < N → P v ≤ r + 1
def bf_T (N M : Nat) (tl hd : Nat → Nat) (w : Nat → Int) (act : Nat → Prop) (L : Nat → Int) (pr P : Nat → Nat) : Prop :=
  ∀ v, v < N → P v ≠ 0 → pr v < M ∧ act (pr v) ∧ hd (pr v) = v ∧ L v ≤ L (tl (pr v)) + w (pr v) ∧ P v ≤ P (tl (pr v)) + 1
def bf_Q (M : Nat) (tl hd : Nat → Nat) (w : Nat → Int) (act : Nat → Prop) (r a : Nat) (L : Nat → Int) (P : Nat → Nat) : Prop :=
  ∀ b, b < M → act b → L (tl b) + w b ≤ L (hd b) ∨ (r ≤ P (tl b) ∧ (b < a → r + 1 ≤ P (tl b)))
def bf_C (N : Nat) (tl : Nat → Nat) (w : Nat → Int) (pr P : Nat → Nat) : Prop :=
  ∀ v, v < N → ∀ k, 0 < k → (∀ i, i < k → P (nt_ch (fun x => tl (pr x)) v i) ≠ 0) → nt_ch (fun x => tl (pr x)) v k = v → 0 < nt_sm (fun i => w (pr (nt_ch (fun x => tl (pr x)) v i))) k
def bf_I (N M : Nat) (tl hd : Nat → Nat) (w : Nat → Int) (act : Nat → Prop) (r a : Nat) (L : Nat → Int) (pr P : Nat → Nat) : Prop :=
  bf_B N r a L ∧ bf_P N r P ∧ bf_T N M tl hd w act L pr P ∧ bf_Q M tl hd w act r a L P ∧ bf_C N tl w pr P
theorem bf_init {L : Nat → Int} {pr : Nat → Nat} (h : ∀ v, v < N → L v = 0) : bf_I N M tl hd w act 0 0 L pr (fun _ => 0) :=
  ⟨fun v hv => by rw [h v hv]; omega, fun _ _ => Nat.zero_le _, fun _ _ z => absurd rfl z, fun _ _ _ => Or.inr ⟨Nat.zero_le _, fun z => absurd z (Nat.not_lt_zero _)⟩, fun _ _ _ hk z => absurd rfl (z 0 hk)⟩
theorem bf_skip {r a : Nat} {L : Nat → Int} {pr P : Nat → Nat} (I : bf_I N M tl hd w act r a L pr P) (h : act a → L (tl a) + w a ≤ L (hd a)) : bf_I N M tl hd w act r (a + 1) L pr P := by
  obtain ⟨hB, hP, hT, hQ, hC⟩ := I
  refine ⟨fun v hv => ?_, hP, hT, fun b hb ab => ?_, hC⟩
  · have := hB v hv
    omega
  · by_cases e : b = a
    · subst e
      exact Or.inl (h ab)
    · rcases hQ b hb ab with q | ⟨q1, q2⟩
      · exact Or.inl q
      · exact Or.inr ⟨q1, fun z => q2 (by omega)⟩
theorem bf_next {r : Nat} {L : Nat → Int} {pr P : Nat → Nat} (hM : M ≤ 14) (I : bf_I N M tl hd w act r M L pr P) : bf_I N M tl hd w act (r + 1) 0 L pr P := by
  obtain ⟨hB, hP, hT, hQ, hC⟩ := I
  refine ⟨fun v hv => ?_, fun v hv => ?_, hT, fun b hb ab => ?_, hC⟩
  · have := hB v hv
    omega
  · have := hP v hv
    omega
  · rcases hQ b hb ab with q | ⟨q1, q2⟩
    · exact Or.inl q
    · exact Or.inr ⟨q2 hb, fun z => absurd z (Nat.not_lt_zero _)⟩
theorem bf_setT {r a : Nat} {L : Nat → Int} {pr P : Nat → Nat} (hG : bf_G N M tl hd w) (I : bf_I N M tl hd w act r a L pr P) (ha : a < M) (aa : act a) (h : L (hd a) < L (tl a) + w a) :
    bf_T N M tl hd w act (nt_u L (hd a) (L (tl a) + w a)) (nt_u pr (hd a) a) (nt_u P (hd a) (r + 1)) := by
  obtain ⟨hB, hP, hT, hQ, hC⟩ := I
  obtain ⟨g1, g2, g3, g4, g5⟩ := hG a ha
  intro v hv pv
  by_cases e : v = hd a
  · subst e
    rw [nt_us, nt_us, nt_us, nt_un g3, nt_un g3]
    refine ⟨ha, aa, rfl, Int.le_refl _, ?_⟩
    rcases hQ a ha aa with q | ⟨q1, q2⟩
    · omega
    · omega
  · rw [nt_un e] at pv
    obtain ⟨t1, t2, t3, t4, t5⟩ := hT v hv pv
    rw [nt_un e, nt_un e, nt_un e]
    refine ⟨t1, t2, t3, ?_, ?_⟩
    · by_cases e2 : tl (pr v) = hd a
      · rw [e2, nt_us]
        rw [e2] at t4
        omega
      · rw [nt_un e2]; exact t4
    · by_cases e2 : tl (pr v) = hd a
      · rw [e2, nt_us]
        have := hP v hv
        omega
      · rw [nt_un e2]; exact t5
theorem bf_setQ {r a : Nat} {L : Nat → Int} {pr P : Nat → Nat} (hG : bf_G N M tl hd w) (I : bf_I N M tl hd w act r a L pr P) (ha : a < M) (aa : act a) (h : L (hd a) < L (tl a) + w a) :
    bf_Q M tl hd w act r (a + 1) (nt_u L (hd a) (L (tl a) + w a)) (nt_u P (hd a) (r + 1)) := by
  obtain ⟨hB, hP, hT, hQ, hC⟩ := I
  obtain ⟨g1, g2, g3, g4, g5⟩ := hG a ha
  intro b hb ab
  by_cases e : tl b = hd a
  · rw [e, nt_us, nt_us]
    exact Or.inr ⟨by omega, fun _ => Nat.le_refl _⟩
  · by_cases e1 : b = a
    · subst e1
      rw [nt_us, nt_un g3]
      exact Or.inl (Int.le_refl _)
    · rw [nt_un e, nt_un e]
      rcases hQ b hb ab with q | ⟨q1, q2⟩
      · refine Or.inl ?_
        by_cases e2 : hd b = hd a
        · rw [e2, nt_us]
          rw [e2] at q
          omega
        · rw [nt_un e2]; exact q
      · exact Or.inr ⟨q1, fun z => q2 (by omega)⟩
theorem bf_setC {r a : Nat} {L : Nat → Int} {pr P : Nat → Nat} (hG : bf_G N M tl hd w) (I : bf_I N M tl hd w act r a L pr P) (ha : a < M) (aa : act a) (h : L (hd a) < L (tl a) + w a) :
    bf_C N tl w (nt_u pr (hd a) a) (nt_u P (hd a) (r + 1)) := by
  have hT' := bf_setT hG I ha aa h
  obtain ⟨hB, hP, hT, hQ, hC⟩ := I
  intro v hv k hk
  generalize hc : nt_ch (fun x => tl (nt_u pr (hd a) a x)) v = c
  intro hp hr
  have c0 : c 0 = v := by rw [← hc]; rfl
  have cS : ∀ i, c (i + 1) = tl (nt_u pr (hd a) a (c i)) := fun i => by rw [← hc]; rfl
  by_cases ex : ∃ i, i < k ∧ c i = hd a
  · have cN : ∀ i, i ≤ k → c i < N := by
      intro i
      induction i with
      | zero => intro _; rw [c0]; exact hv
      | succ i ih =>
        intro hi
        have := hT' (c i) (ih (by omega)) (hp i (by omega))
        rw [cS]
        exact (hG _ this.1).1
    have key : ∀ i, i < k → L (c i) - L (c (i + 1)) ≤ w (nt_u pr (hd a) a (c i)) ∧ (c i = hd a → L (c i) - L (c (i + 1)) < w (nt_u pr (hd a) a (c i))) := by
      intro i hi
      rw [cS]
      by_cases e : c i = hd a
      · rw [e, nt_us]
        exact ⟨by omega, fun _ => by omega⟩
      · have p1 := hp i hi
        rw [nt_un e] at p1
        rw [nt_un e]
        have := (hT (c i) (cN i (by omega)) p1).2.2.2.1
        exact ⟨by omega, fun z => absurd z e⟩
    obtain ⟨i0, hi0, e0⟩ := ex
    have h1 := nt_smT (f := fun i => L (c i) - L (c (i + 1))) (g := fun i => w (nt_u pr (hd a) a (c i))) k (fun d hd' => (key d hd').1) ⟨i0, hi0, (key i0 hi0).2 e0⟩
    have h2 := nt_smD (fun i => L (c i)) k
    rw [hr, c0] at h2
    omega
  · have ne : ∀ i, i < k → c i ≠ hd a := fun i hi e => ex ⟨i, hi, e⟩
    have same : ∀ i, i ≤ k → nt_ch (fun x => tl (pr x)) v i = c i := by
      intro i
      induction i with
      | zero => intro _; rw [c0]; rfl
      | succ i ih =>
        intro hi
        rw [nt_chS, ih (by omega), cS, nt_un (ne i (by omega))]
    have h1 := hC v hv k hk (fun i hi => by
      have p1 := hp i hi
      rw [nt_un (ne i hi)] at p1
      rw [same i (by omega)]
      exact p1) (by rw [same k (Nat.le_refl _)]; exact hr)
    rw [nt_smC (g := fun i => w (nt_u pr (hd a) a (c i))) k (fun i hi => by
      show w (pr (nt_ch (fun x => tl (pr x)) v i)) = w (nt_u pr (hd a) a (c i))
      rw [same i (by omega), nt_un (ne i hi)])] at h1
    exact h1
theorem bf_set {r a : Nat} {L : Nat → Int} {pr P : Nat → Nat} (hG : bf_G N M tl hd w) (I : bf_I N M tl hd w act r a L pr P) (ha : a < M) (aa : act a) (h : L (hd a) < L (tl a) + w a) :
    bf_I N M tl hd w act r (a + 1) (nt_u L (hd a) (L (tl a) + w a)) (nt_u pr (hd a) a) (nt_u P (hd a) (r + 1)) := by
  refine ⟨?_, ?_, bf_setT hG I ha aa h, bf_setQ hG I ha aa h, bf_setC hG I ha aa h⟩
  · obtain ⟨hB, hP, hT, hQ, hC⟩ := I
    obtain ⟨g1, g2, g3, g4, g5⟩ := hG a ha
    intro v hv
    have b1 := hB _ g1
    by_cases e : v = hd a
    · subst e
      have b2 := hB _ g2
      rw [nt_us]
      omega
    · have b2 := hB v hv
      rw [nt_un e]
      omega
  · obtain ⟨hB, hP, hT, hQ, hC⟩ := I
    intro v hv
    by_cases e : v = hd a
    · rw [e, nt_us]; exact Nat.le_refl _
    · rw [nt_un e]; exact hP v hv
/-- n + 1 places among n numbers: two are the same -/
theorem nt_pig : ∀ (n : Nat) (f : Nat → Nat), (∀ i, i ≤ n → f i < n) → ∃ i j, i < j ∧ j ≤ n ∧ f i = f j := by
  intro n
  induction n with
  | zero => intro f h; exact absurd (h 0 (Nat.le_refl _)) (Nat.not_lt_zero _)
  | succ n ih =>
    intro f h
    by_cases ex : ∃ i, i ≤ n ∧ f i = f (n + 1)
    · obtain ⟨i, hi, e⟩ := ex
      exact ⟨i, n + 1, by omega, Nat.le_refl _, e⟩
    · have ne : ∀ i, i ≤ n → f i ≠ f (n + 1) := fun i hi e => ex ⟨i, hi, e⟩
      obtain ⟨i, j, hij, hj, e⟩ := ih (fun i => if f i = n then f (n + 1) else f i) (fun i hi => by
        have h1 := h i (by omega)
        have h2 := h (n + 1) (Nat.le_refl _)
        have h3 := ne i hi
        show (if f i = n then f (n + 1) else f i) < n
        split <;> omega)
      refine ⟨i, j, hij, by omega, ?_⟩
      have n1 := ne i (by omega)
      have n2 := ne j hj
      split at e <;> split at e <;> omega
/-- a circle of arcs with a gain: nodes c, arcs q -/
def nt_Cir (N M : Nat) (tl hd : Nat → Nat) (w : Nat → Int) (act : Nat → Prop) (pr : Nat → Nat) (v : Nat) (c q : Nat → Nat) (T : Nat) : Prop :=
  (c 0 = v ∧ c T = v ∧ 0 < T ∧ T ≤ N) ∧ (∀ i, i < T → c i < N ∧ q i = pr (c i) ∧ q i < M ∧ act (q i) ∧ hd (q i) = c i ∧ tl (q i) = c (i + 1)) ∧ (∀ i j, i < j → j < T → c i ≠ c j) ∧ 0 < nt_sm (fun i => w (q i)) T
/-- the way back from the last one: n steps, each by an arc -/
theorem bf_back {L : Nat → Int} {pr P : Nat → Nat} {v : Nat} (hG : bf_G N M tl hd w) (hT : bf_T N M tl hd w act L pr P) (hv : v < N) (hl : P v = N + 1) :
    ∀ i, i ≤ N → nt_ch (fun x => tl (pr x)) v i < N ∧ N + 1 ≤ P (nt_ch (fun x => tl (pr x)) v i) + i := by
  intro i
  induction i with
  | zero => intro _; exact ⟨hv, by show N + 1 ≤ P v + 0; omega⟩
  | succ i ih =>
    intro hi
    obtain ⟨a, b⟩ := ih (by omega)
    obtain ⟨t1, _, _, _, t5⟩ := hT _ a (by omega)
    rw [nt_chS]
    exact ⟨(hG _ t1).1, by omega⟩
theorem bf_cir {L : Nat → Int} {pr P : Nat → Nat} {v : Nat} (hG : bf_G N M tl hd w) (hT : bf_T N M tl hd w act L pr P) (hC : bf_C N tl w pr P) (hv : v < N) (hl : P v = N + 1) :
    ∃ c q T, nt_Cir N M tl hd w act pr (nt_ch (fun x => tl (pr x)) v N) c q T ∧ (∀ i, i < T → P (c i) ≠ 0) := by
  have hb := bf_back hG hT hv hl
  obtain ⟨i, j, hij, hj, e⟩ := nt_pig N (nt_ch (fun x => tl (pr x)) v) (fun i hi => (hb i hi).1)
  have per : ∀ t, nt_ch (fun x => tl (pr x)) v (i + t) = nt_ch (fun x => tl (pr x)) v (j + t) := by
    intro t
    rw [← nt_chA, ← nt_chA, e]
  have all : ∀ t, nt_ch (fun x => tl (pr x)) v t < N ∧ P (nt_ch (fun x => tl (pr x)) v t) ≠ 0 := by
    intro t
    induction t using Nat.strongRecOn with
    | ind t ih =>
      by_cases ht : t ≤ N
      · have := hb t ht
        exact ⟨this.1, by omega⟩
      · have h1 := per (t - j)
        rw [show j + (t - j) = t from by omega] at h1
        rw [← h1]
        exact ih _ (by omega)
  have ret : nt_ch (fun x => tl (pr x)) v (N + (j - i)) = nt_ch (fun x => tl (pr x)) v N := by
    have h1 := per (N - i)
    rw [show i + (N - i) = N from by omega, show j + (N - i) = N + (j - i) from by omega] at h1
    exact h1.symm
  generalize hu : nt_ch (fun x => tl (pr x)) v N = u at ret ⊢
  have shift : ∀ t, nt_ch (fun x => tl (pr x)) u t = nt_ch (fun x => tl (pr x)) v (N + t) := fun t => by rw [← hu, nt_chA]
  obtain ⟨T, ⟨hT0, hTu⟩, hmin⟩ := pk_least (fun T => 0 < T ∧ nt_ch (fun x => tl (pr x)) u T = u) ⟨j - i, by omega, by rw [shift]; exact ret⟩
  have hTN : T ≤ j - i := by
    apply Nat.le_of_not_lt
    intro z
    exact hmin (j - i) z ⟨by omega, by rw [shift]; exact ret⟩
  refine ⟨nt_ch (fun x => tl (pr x)) u, fun i => pr (nt_ch (fun x => tl (pr x)) u i), T, ⟨⟨rfl, hTu, hT0, by omega⟩, fun t ht => ?_, fun a b hab hb' e' => ?_, ?_⟩, fun t ht => ?_⟩
  · obtain ⟨a1, a2⟩ := all (N + t)
    rw [← shift] at a1 a2
    obtain ⟨t1, t2, t3, _, _⟩ := hT _ a1 a2
    exact ⟨a1, rfl, t1, t2, t3, rfl⟩
  · refine hmin (a + (T - b)) (by omega) ⟨by omega, ?_⟩
    rw [← nt_chA, e', nt_chA, show b + (T - b) = T from by omega]
    exact hTu
  · have u1 : u < N := by rw [← hu]; exact (all N).1
    exact hC u u1 T hT0 (fun t ht => by rw [shift]; exact (all (N + t)).2) hTu
  · rw [shift]; exact (all (N + t)).2
end
end
section
/-! clearings: bounds and balance; no better one than one with lengths at rest; a circle filled up -/
section
variable {m : Nat} {dd cc : Nat → Nat} {rm : Nat → Int} {x y : Nat → Int} {g : Nat → Int}
/-- balance, by any lengths of the firms -/
def nt_Co (m : Nat) (dd cc : Nat → Nat) (x : Nat → Int) : Prop := ∀ p : Nat → Int, nt_sm (fun d => (p (cc d) - p (dd d)) * x d) m = 0
def nt_Cl (m : Nat) (dd cc : Nat → Nat) (rm : Nat → Int) (x : Nat → Int) : Prop := (∀ d, d < m → 0 ≤ x d ∧ x d ≤ rm d) ∧ nt_Co m dd cc x
def nt_gs (m : Nat) (g x : Nat → Int) : Int := nt_sm (fun d => g d * x d) m
/-- a firm's net over the first k debts -/
def nt_net (dd cc : Nat → Nat) (x : Nat → Int) (f : Nat) (k : Nat) : Int := nt_sm (fun d => (if cc d = f then x d else 0) - (if dd d = f then x d else 0)) k
theorem nt_netS (dd cc : Nat → Nat) (x : Nat → Int) (f k : Nat) : nt_net dd cc x f (k + 1) = nt_net dd cc x f k + ((if cc k = f then x k else 0) - (if dd k = f then x k else 0)) := rfl
theorem nt_clE (h : ∀ d, d < m → x d = y d) (hc : nt_Cl m dd cc rm x) : nt_Cl m dd cc rm y := by
  obtain ⟨h1, h2⟩ := hc
  refine ⟨fun d hd => by rw [← h d hd]; exact h1 d hd, fun p => ?_⟩
  rw [← h2 p]
  exact nt_smC m (fun d hd => by show _ * y d = _ * x d; rw [h d hd])
theorem nt_clI (h : ∀ d, d < m → x d = y d) : nt_Cl m dd cc rm x ↔ nt_Cl m dd cc rm y := ⟨nt_clE h, nt_clE (fun d hd => (h d hd).symm)⟩
theorem nt_cl0 (h : ∀ d, d < m → 0 ≤ rm d) : nt_Cl m dd cc rm (fun _ => 0) := ⟨fun d hd => ⟨Int.le_refl _, h d hd⟩, fun p => nt_smZ m (fun d _ => Int.mul_zero _)⟩
theorem nt_gsE (h : ∀ d, d < m → x d = y d) : nt_gs m g x = nt_gs m g y := nt_smC m (fun d hd => by show g d * x d = g d * y d; rw [h d hd])
/-- nets by firms: the two sums in the other order -/
theorem nt_net2 (N : Nat) (p : Nat → Int) : ∀ k : Nat, (∀ d, d < k → dd d < N ∧ cc d < N) → nt_sm (fun f => p f * nt_net dd cc x f k) N = nt_sm (fun d => (p (cc d) - p (dd d)) * x d) k := by
  intro k
  induction k with
  | zero => intro _; exact nt_smZ N (fun f _ => Int.mul_zero _)
  | succ k ih =>
    intro h
    obtain ⟨h1, h2⟩ := h k (by omega)
    rw [nt_smS, ← ih (fun d hd => h d (by omega))]
    rw [nt_smC (g := fun f => p f * nt_net dd cc x f k + (p f * (if cc k = f then x k else 0) - p f * (if dd k = f then x k else 0))) N (fun f _ => by
      show p f * nt_net dd cc x f (k + 1) = _
      rw [nt_netS, Int.mul_add, Int.mul_sub])]
    rw [nt_smA, nt_smB, nt_sm1 p (cc k) (x k) N h2, nt_sm1 p (dd k) (x k) N h1, Int.sub_mul]
theorem nt_coI {N : Nat} (h : ∀ d, d < m → dd d < N ∧ cc d < N) (hn : ∀ f, f < N → nt_net dd cc x f m = 0) : nt_Co m dd cc x := by
  intro p
  rw [← nt_net2 N p m h]
  exact nt_smZ N (fun f hf => by show p f * _ = 0; rw [hn f hf, Int.mul_zero])
theorem nt_coE (hc : nt_Co m dd cc x) (f : Nat) : nt_net dd cc x f m = 0 := by
  rw [← hc (fun z => if z = f then 1 else 0)]
  refine nt_smC m (fun d _ => ?_)
  show (if cc d = f then x d else 0) - (if dd d = f then x d else 0) = ((if cc d = f then 1 else 0) - (if dd d = f then 1 else 0)) * x d
  by_cases a : cc d = f <;> by_cases b : dd d = f <;> simp only [a, b, if_true, if_false] <;> omega
/-- lengths at rest: no clearing has a greater gain -/
theorem nt_opt {L : Nat → Int} (hx : nt_Cl m dd cc rm x) (hL : ∀ d, d < m → (x d < rm d → g d ≤ L (cc d) - L (dd d)) ∧ (0 < x d → L (cc d) - L (dd d) ≤ g d)) (hy : nt_Cl m dd cc rm y) : nt_gs m g y ≤ nt_gs m g x := by
  have key : nt_sm (fun d => g d * y d - g d * x d) m ≤ nt_sm (fun d => (L (cc d) - L (dd d)) * y d - (L (cc d) - L (dd d)) * x d) m := by
    refine nt_smL m (fun d hd => ?_)
    obtain ⟨l1, l2⟩ := hL d hd
    obtain ⟨x1, x2⟩ := hx.1 d hd
    obtain ⟨y1, y2⟩ := hy.1 d hd
    rw [← Int.mul_sub, ← Int.mul_sub]
    by_cases e : x d ≤ y d
    · by_cases e2 : x d = y d
      · rw [e2, Int.sub_self, Int.mul_zero, Int.mul_zero]; exact Int.le_refl _
      · exact Int.mul_le_mul_of_nonneg_right (l1 (by omega)) (by omega)
    · have h1 := Int.mul_le_mul_of_nonneg_right (l2 (by omega)) (show 0 ≤ x d - y d by omega)
      have e3 : y d - x d = -(x d - y d) := by omega
      rw [e3, Int.mul_neg, Int.mul_neg]
      omega
  rw [nt_smB, nt_smB, hx.2 L, hy.2 L] at key
  unfold nt_gs
  omega
/-- arcs: 2 * d strikes off, 2 * d + 1 gives back -/
def nt_tl (dd cc : Nat → Nat) (b : Nat) : Nat := if b % 2 = 0 then dd (b / 2) else cc (b / 2)
def nt_hd (dd cc : Nat → Nat) (b : Nat) : Nat := if b % 2 = 0 then cc (b / 2) else dd (b / 2)
def nt_lf (rm x : Nat → Int) (b : Nat) : Int := if b % 2 = 0 then rm (b / 2) - x (b / 2) else x (b / 2)
def nt_w (g : Nat → Int) (b : Nat) : Int := if b % 2 = 0 then g (b / 2) else -g (b / 2)
theorem nt_rest {L : Nat → Int} (h : ∀ b, b < 2 * m → 0 < nt_lf rm x b → L (nt_tl dd cc b) + nt_w g b ≤ L (nt_hd dd cc b)) : ∀ d, d < m → (x d < rm d → g d ≤ L (cc d) - L (dd d)) ∧ (0 < x d → L (cc d) - L (dd d) ≤ g d) := by
  intro d hd
  have a1 := h (2 * d) (by omega)
  have a2 := h (2 * d + 1) (by omega)
  unfold nt_lf nt_tl nt_hd nt_w at a1 a2
  rw [show 2 * d % 2 = 0 from by omega, show 2 * d / 2 = d from by omega] at a1
  rw [show (2 * d + 1) % 2 = 1 from by omega, show (2 * d + 1) / 2 = d from by omega] at a2
  simp only [if_true] at a1
  simp only [show ¬ (1 : Nat) = 0 from by decide, if_false] at a2
  exact ⟨fun z => by have := a1 (by omega); omega, fun z => by have := a2 z; omega⟩
/-- the strikes while a circle is filled -/
def nt_fill (x : Nat → Int) (q : Nat → Nat) (am : Int) : Nat → Nat → Int
  | 0 => x
  | k + 1 => nt_u (nt_fill x q am k) (q k / 2) (nt_fill x q am k (q k / 2) + (if q k % 2 = 0 then am else -am))
theorem nt_fillS (x : Nat → Int) (q : Nat → Nat) (am : Int) (k : Nat) : nt_fill x q am (k + 1) = nt_u (nt_fill x q am k) (q k / 2) (nt_fill x q am k (q k / 2) + (if q k % 2 = 0 then am else -am)) := rfl
/-- the weighted sum of the strikes, any weights -/
theorem nt_fillW {q : Nat → Nat} {am : Int} (p : Nat → Int) : ∀ k : Nat, (∀ i, i < k → q i < 2 * m) → nt_sm (fun d => p d * nt_fill x q am k d) m = nt_sm (fun d => p d * x d) m + am * nt_sm (fun i => nt_w p (q i)) k := by
  intro k
  induction k with
  | zero => intro _; rw [nt_sm0, Int.mul_zero, Int.add_zero]; rfl
  | succ k ih =>
    intro h
    have hk := h k (by omega)
    rw [nt_fillS, nt_smU _ _ _ _ m (by omega), ih (fun i hi => h i (by omega)), nt_smS, Int.mul_add, ← Int.add_assoc]
    congr 1
    rw [Int.add_comm (nt_fill x q am k (q k / 2)), Int.add_sub_cancel]
    unfold nt_w
    split
    · exact Int.mul_comm _ _
    · rw [Int.mul_neg, Int.mul_neg, Int.mul_comm]
/-- how often an arc stands among the first k -/
def nt_ct (q : Nat → Nat) (b : Nat) (k : Nat) : Int := nt_sm (fun i => if q i = b then 1 else 0) k
theorem nt_ctS (q : Nat → Nat) (b k : Nat) : nt_ct q b (k + 1) = nt_ct q b k + (if q k = b then 1 else 0) := rfl
theorem nt_fillC {q : Nat → Nat} {am : Int} (d : Nat) : ∀ k : Nat, nt_fill x q am k d = x d + am * (nt_ct q (2 * d) k - nt_ct q (2 * d + 1) k) := by
  intro k
  induction k with
  | zero => show x d = x d + am * (0 - 0); rw [Int.sub_self, Int.mul_zero, Int.add_zero]
  | succ k ih =>
    rw [nt_fillS, nt_ctS, nt_ctS]
    by_cases e : d = q k / 2
    · by_cases e2 : q k % 2 = 0
      · rw [← e, nt_us, ih, if_pos e2, if_pos (by omega), if_neg (by omega)]
        rw [show nt_ct q (2 * d) k + 1 - (nt_ct q (2 * d + 1) k + 0) = nt_ct q (2 * d) k - nt_ct q (2 * d + 1) k + 1 from by omega, Int.mul_add, Int.mul_one, Int.add_assoc]
      · rw [← e, nt_us, ih, if_neg e2, if_neg (by omega), if_pos (by omega)]
        rw [show nt_ct q (2 * d) k + 0 - (nt_ct q (2 * d + 1) k + 1) = nt_ct q (2 * d) k - nt_ct q (2 * d + 1) k - 1 from by omega, Int.mul_sub am (nt_ct q (2 * d) k - nt_ct q (2 * d + 1) k) 1, Int.mul_one]
        omega
    · rw [nt_un e, ih, if_neg (by omega), if_neg (by omega), Int.add_zero, Int.add_zero]
theorem nt_ct0 {q : Nat → Nat} {b : Nat} (k : Nat) (h : ∀ i, i < k → q i ≠ b) : nt_ct q b k = 0 := nt_smZ k (fun i hi => if_neg (h i hi))
theorem nt_ct1 {q : Nat → Nat} {b : Nat} : ∀ k : Nat, (∀ i j, i < j → j < k → q i ≠ q j) → nt_ct q b k = 0 ∨ (nt_ct q b k = 1 ∧ ∃ i, i < k ∧ q i = b) := by
  intro k
  induction k with
  | zero => intro _; exact Or.inl rfl
  | succ k ih =>
    intro h
    rw [nt_ctS]
    by_cases e : q k = b
    · refine Or.inr ⟨?_, k, by omega, e⟩
      rw [nt_ct0 k (fun i hi z => h i k hi (by omega) (by rw [z, e])), if_pos e]
      rfl
    · rw [if_neg e, Int.add_zero]
      rcases ih (fun i j hij hj => h i j hij (by omega)) with a | ⟨a, i, hi, b1⟩
      · exact Or.inl a
      · exact Or.inr ⟨a, i, by omega, b1⟩
/-- a circle filled up: again a clearing, with a greater gain -/
theorem nt_filled {N : Nat} {pr c q : Nat → Nat} {v T : Nat} {am : Int} (hx : nt_Cl m dd cc rm x) (hc : nt_Cir N (2 * m) (nt_tl dd cc) (nt_hd dd cc) (nt_w g) (fun b => 0 < nt_lf rm x b) pr v c q T)
    (h1 : 1 ≤ am) (ha : ∀ i, i < T → am ≤ nt_lf rm x (q i)) : nt_Cl m dd cc rm (nt_fill x q am T) ∧ nt_gs m g x < nt_gs m g (nt_fill x q am T) := by
  obtain ⟨⟨c0, cT, hT, _⟩, hcq, hne, hpos⟩ := hc
  have hq : ∀ i, i < T → q i < 2 * m := fun i hi => (hcq i hi).2.2.1
  have hqq : ∀ i j, i < j → j < T → q i ≠ q j := by
    intro i j hij hj e
    have a := (hcq i (by omega)).2.2.2.2.1
    have b := (hcq j hj).2.2.2.2.1
    rw [e, b] at a
    exact hne i j hij hj a.symm
  refine ⟨⟨fun d hd => ?_, fun p => ?_⟩, ?_⟩
  · obtain ⟨x1, x2⟩ := hx.1 d hd
    have f1 : ∀ i, i < T → q i = 2 * d → am ≤ rm d - x d := by
      intro i hi e
      have := ha i hi
      unfold nt_lf at this
      rw [e, show 2 * d % 2 = 0 from by omega, show 2 * d / 2 = d from by omega, if_pos rfl] at this
      exact this
    have f2 : ∀ i, i < T → q i = 2 * d + 1 → am ≤ x d := by
      intro i hi e
      have := ha i hi
      unfold nt_lf at this
      rw [e, show (2 * d + 1) % 2 = 1 from by omega, show (2 * d + 1) / 2 = d from by omega, if_neg (by decide)] at this
      exact this
    rw [nt_fillC]
    rcases nt_ct1 (b := 2 * d) T hqq with a | ⟨a, i, hi, e⟩ <;> rcases nt_ct1 (b := 2 * d + 1) T hqq with b | ⟨b, j, hj, e'⟩ <;> rw [a, b]
    · rw [Int.sub_self, Int.mul_zero]; omega
    · have := f2 j hj e'
      rw [show (0 : Int) - 1 = -1 from rfl, Int.mul_neg, Int.mul_one]; omega
    · have := f1 i hi e
      rw [Int.sub_zero, Int.mul_one]; omega
    · rw [Int.sub_self, Int.mul_zero]; omega
  · rw [nt_fillW (fun d => p (cc d) - p (dd d)) T hq, hx.2 p, Int.zero_add]
    rw [nt_smC (g := fun i => p (c i) - p (c (i + 1))) T (fun i hi => ?_), nt_smD (fun i => p (c i)) T]
    · show am * (p (c 0) - p (c T)) = 0
      rw [c0, cT, Int.sub_self, Int.mul_zero]
    · obtain ⟨_, _, _, _, e1, e2⟩ := hcq i hi
      show nt_w (fun d => p (cc d) - p (dd d)) (q i) = p (c i) - p (c (i + 1))
      rw [← e1, ← e2]
      unfold nt_w nt_hd nt_tl
      split
      · rfl
      · show -(p (cc (q i / 2)) - p (dd (q i / 2))) = _
        omega
  · unfold nt_gs
    rw [nt_fillW g T hq]
    have : 0 < am * nt_sm (fun i => nt_w g (q i)) T := Int.mul_pos (by omega) hpos
    omega
end
end
section
/-! codes of clearings, their number, the best one -/
section
variable {m : Nat} {dd cc : Nat → Nat} {rm : Nat → Int} {x y : Nat → Int} {g : Nat → Int}
def nt_dg (m c d : Nat) : Nat := c / 2 ^ (2 * (m - 1 - d)) % 4
def nt_cn (x : Nat → Nat) : Nat → Nat
  | 0 => 0
  | d + 1 => 4 * nt_cn x d + x d
theorem nt_cnS (x : Nat → Nat) (d : Nat) : nt_cn x (d + 1) = 4 * nt_cn x d + x d := rfl
theorem nt_dgL (m c d : Nat) : nt_dg m c d ≤ 3 := by
  have : nt_dg m c d < 4 := Nat.mod_lt _ (by decide)
  omega
theorem nt_dgS {m d : Nat} (c : Nat) (h : d < m) : nt_dg (m + 1) c d = nt_dg m (c / 4) d := by
  unfold nt_dg
  rw [show 2 * (m + 1 - 1 - d) = 2 + 2 * (m - 1 - d) from by omega, Nat.pow_add, ← Nat.div_div_eq_div_mul]
theorem nt_dgT (m c : Nat) : nt_dg (m + 1) c m = c % 4 := by
  unfold nt_dg
  rw [show 2 * (m + 1 - 1 - m) = 0 from by omega, Nat.pow_zero, Nat.div_one]
theorem nt_cnE {x y : Nat → Nat} : ∀ n : Nat, (∀ d, d < n → x d = y d) → nt_cn x n = nt_cn y n := by
  intro n
  induction n with
  | zero => intro _; rfl
  | succ n ih => intro h; rw [nt_cnS, nt_cnS, ih (fun d hd => h d (by omega)), h n (by omega)]
theorem nt_cnL {x : Nat → Nat} : ∀ n : Nat, (∀ d, d < n → x d ≤ 3) → nt_cn x n < 4 ^ n := by
  intro n
  induction n with
  | zero => intro _; exact Nat.zero_lt_one
  | succ n ih =>
    intro h
    have h1 := ih (fun d hd => h d (by omega))
    have h2 := h n (by omega)
    rw [nt_cnS, Nat.pow_succ]
    omega
theorem nt_dgcn {x : Nat → Nat} : ∀ n : Nat, (∀ d, d < n → x d ≤ 3) → ∀ d, d < n → nt_dg n (nt_cn x n) d = x d := by
  intro n
  induction n with
  | zero => intro _ d hd; omega
  | succ n ih =>
    intro h d hd
    have h2 := h n (by omega)
    by_cases e : d = n
    · subst e
      rw [nt_dgT, nt_cnS]
      omega
    · rw [nt_dgS _ (by omega), nt_cnS, show (4 * nt_cn x n + x n) / 4 = nt_cn x n from by omega]
      exact ih (fun d hd => h d (by omega)) d (by omega)
theorem nt_cndg : ∀ n c : Nat, c < 4 ^ n → nt_cn (nt_dg n c) n = c := by
  intro n
  induction n with
  | zero =>
    intro c h
    rw [Nat.pow_zero] at h
    show 0 = c
    omega
  | succ n ih =>
    intro c h
    rw [Nat.pow_succ] at h
    rw [nt_cnS, nt_dgT, nt_cnE n (fun d hd => nt_dgS c hd), ih (c / 4) (by omega)]
    omega
def nt_D (m c : Nat) (d : Nat) : Int := (nt_dg m c d : Int)
def nt_S (m c : Nat) : Int := nt_sm (nt_D m c) m
theorem nt_DL (m c d : Nat) : 0 ≤ nt_D m c d ∧ nt_D m c d ≤ 3 := by
  have := nt_dgL m c d
  unfold nt_D
  omega
theorem nt_SL (m c : Nat) : 0 ≤ nt_S m c ∧ nt_S m c ≤ 3 * (m : Int) := by
  have key : ∀ k : Nat, 0 ≤ nt_sm (nt_D m c) k ∧ nt_sm (nt_D m c) k ≤ 3 * (k : Int) := by
    intro k
    induction k with
    | zero => exact ⟨Int.le_refl _, Int.le_refl _⟩
    | succ k ih =>
      have := nt_DL m c k
      rw [nt_smS]
      omega
  exact key m
/-- a function of small values is that of a code -/
theorem nt_codeOf (h : ∀ d, d < m → 0 ≤ x d ∧ x d ≤ 3) : ∃ c, c < 4 ^ m ∧ ∀ d, d < m → x d = nt_D m c d := by
  refine ⟨nt_cn (fun d => (x d).toNat) m, nt_cnL m (fun d hd => ?_), fun d hd => ?_⟩
  · have := h d hd
    show (x d).toNat ≤ 3
    omega
  · unfold nt_D
    rw [nt_dgcn m (fun d hd => ?_) d hd]
    · have := h d hd
      show x d = ((x d).toNat : Int)
      omega
    · have := h d hd
      show (x d).toNat ≤ 3
      omega
theorem nt_D0 (m d : Nat) : nt_D m 0 d = 0 := by
  unfold nt_D nt_dg
  rw [Nat.zero_div]
  rfl
/-- how many codes below n have more than t -/
def nt_cnt (p : Nat → Int) (t : Int) : Nat → Nat
  | 0 => 0
  | n + 1 => nt_cnt p t n + (if t < p n then 1 else 0)
theorem nt_cntS (p : Nat → Int) (t : Int) (n : Nat) : nt_cnt p t (n + 1) = nt_cnt p t n + (if t < p n then 1 else 0) := rfl
theorem nt_cnt0 {p : Nat → Int} {t : Int} (h : p 0 ≤ t) : ∀ n : Nat, nt_cnt p t (n + 1) ≤ n := by
  intro n
  induction n with
  | zero => rw [nt_cntS, if_neg (by omega)]; exact Nat.le_refl _
  | succ n ih => rw [nt_cntS]; split <;> omega
theorem nt_cntM {p : Nat → Int} {t t' : Int} (h : t ≤ t') : ∀ n : Nat, nt_cnt p t' n ≤ nt_cnt p t n := by
  intro n
  induction n with
  | zero => exact Nat.le_refl _
  | succ n ih =>
    rw [nt_cntS, nt_cntS]
    by_cases e : t' < p n
    · rw [if_pos e, if_pos (by omega)]; omega
    · rw [if_neg e]; omega
theorem nt_cntT {p : Nat → Int} {t t' : Int} (h : t < t') {c : Nat} (hc : p c = t') : ∀ n : Nat, c < n → nt_cnt p t' n < nt_cnt p t n := by
  intro n
  induction n with
  | zero => intro z; omega
  | succ n ih =>
    intro hn
    rw [nt_cntS, nt_cntS]
    by_cases e : c = n
    · subst e
      rw [hc, if_neg (by omega), if_pos h]
      have := nt_cntM (p := p) (Int.le_of_lt h) c
      omega
    · have := ih (by omega)
      by_cases e : t' < p n
      · rw [if_pos e, if_pos (by omega)]; omega
      · rw [if_neg e]; omega
def nt_mu (m : Nat) (g x : Nat → Int) : Nat := nt_cnt (fun c => nt_gs m g (nt_D m c)) (nt_gs m g x) (4 ^ m)
theorem nt_muT (h : ∀ d, d < m → 0 ≤ y d ∧ y d ≤ 3) (hg : nt_gs m g x < nt_gs m g y) : nt_mu m g y < nt_mu m g x := by
  obtain ⟨c, hc, e⟩ := nt_codeOf h
  exact nt_cntT hg (c := c) (nt_gsE (fun d hd => (e d hd).symm)) _ hc
theorem nt_pow4 (h : m ≤ 7) : 0 < 4 ^ m ∧ 4 ^ m ≤ 16384 :=
  ⟨Nat.pow_pos (by decide), Nat.pow_le_pow_right (n := 4) (by decide) h⟩
theorem nt_mu0 (h : m ≤ 7) : nt_mu m g (fun _ => 0) ≤ 16383 := by
  obtain ⟨h1, h2⟩ := nt_pow4 h
  unfold nt_mu
  obtain ⟨k, hk⟩ : ∃ k, 4 ^ m = k + 1 := ⟨4 ^ m - 1, by omega⟩
  rw [hk]
  have : nt_gs m g (nt_D m 0) ≤ nt_gs m g (fun _ => 0) := by
    rw [nt_gsE (fun d _ => nt_D0 m d)]
    exact Int.le_refl _
  have := nt_cnt0 (p := fun c => nt_gs m g (nt_D m c)) this k
  omega
/-- the gain by which solve reckons: the total first, then the least code -/
def nt_gA (m d : Nat) : Int := 32768 - ((4 ^ (m - 1 - d) : Nat) : Int)
theorem nt_gcn (x : Nat → Nat) : ∀ m : Nat, nt_sm (fun d => ((4 ^ (m - 1 - d) : Nat) : Int) * (x d : Int)) m = (nt_cn x m : Int) := by
  intro m
  induction m with
  | zero => rfl
  | succ m ih =>
    rw [nt_smS, nt_cnS]
    rw [nt_smC (g := fun d => 4 * (((4 ^ (m - 1 - d) : Nat) : Int) * (x d : Int))) m (fun d hd => ?_), nt_smM, ih]
    · rw [show m + 1 - 1 - m = 0 from by omega, Nat.pow_zero]
      omega
    · show ((4 ^ (m + 1 - 1 - d) : Nat) : Int) * (x d : Int) = _
      rw [show m + 1 - 1 - d = (m - 1 - d) + 1 from by omega, Nat.pow_succ, Int.natCast_mul, Int.mul_comm _ ((4 : Nat) : Int), Int.mul_assoc]
      rfl
theorem nt_gsA {c : Nat} (hc : c < 4 ^ m) : nt_gs m (nt_gA m) (nt_D m c) = 32768 * nt_S m c - (c : Int) := by
  have h1 := nt_gcn (nt_dg m c) m
  rw [nt_cndg m c hc] at h1
  unfold nt_gs nt_S
  rw [← h1, ← nt_smM, ← nt_smB]
  refine nt_smC m (fun d _ => ?_)
  show (32768 - ((4 ^ (m - 1 - d) : Nat) : Int)) * nt_D m c d = 32768 * nt_D m c d - ((4 ^ (m - 1 - d) : Nat) : Int) * nt_D m c d
  exact Int.sub_mul _ _ _
def nt_Best (m : Nat) (dd cc : Nat → Nat) (rm : Nat → Int) (c : Nat) : Prop :=
  c < 4 ^ m ∧ nt_Cl m dd cc rm (nt_D m c) ∧ ∀ e, e < 4 ^ m → nt_Cl m dd cc rm (nt_D m e) → nt_S m e < nt_S m c ∨ (nt_S m e = nt_S m c ∧ c ≤ e)
theorem nt_bestU {a b : Nat} (ha : nt_Best m dd cc rm a) (hb : nt_Best m dd cc rm b) : a = b := by
  have h1 := ha.2.2 b hb.1 hb.2.1
  have h2 := hb.2.2 a ha.1 ha.2.1
  omega
theorem nt_bestA (hm : m ≤ 7) (hr : ∀ d, d < m → rm d ≤ 3) (hx : nt_Cl m dd cc rm x) (ho : ∀ y, nt_Cl m dd cc rm y → nt_gs m (nt_gA m) y ≤ nt_gs m (nt_gA m) x) : ∃ c, nt_Best m dd cc rm c ∧ ∀ d, d < m → x d = nt_D m c d := by
  obtain ⟨c, hc, e⟩ := nt_codeOf (x := x) (fun d hd => ⟨(hx.1 d hd).1, Int.le_trans (hx.1 d hd).2 (hr d hd)⟩)
  refine ⟨c, ⟨hc, nt_clE e hx, fun f hf cf => ?_⟩, e⟩
  have h1 := ho _ cf
  rw [nt_gsE e, nt_gsA hc, nt_gsA hf] at h1
  have h2 := (nt_pow4 hm).2
  omega
/-- the most that a debt can lose -/
def nt_Most (m : Nat) (dd cc : Nat → Nat) (rm : Nat → Int) (k : Nat) (v : Int) : Prop :=
  (∃ c, c < 4 ^ m ∧ nt_Cl m dd cc rm (nt_D m c) ∧ nt_D m c k = v) ∧ ∀ c, c < 4 ^ m → nt_Cl m dd cc rm (nt_D m c) → nt_D m c k ≤ v
theorem nt_mostU {k : Nat} {a b : Int} (ha : nt_Most m dd cc rm k a) (hb : nt_Most m dd cc rm k b) : a = b := by
  obtain ⟨⟨c, c1, c2, c3⟩, ha⟩ := ha
  obtain ⟨⟨d, d1, d2, d3⟩, hb⟩ := hb
  have h1 := ha d d1 d2
  have h2 := hb c c1 c2
  omega
def nt_gB (k d : Nat) : Int := if d = k then 1 else 0
theorem nt_gsB {k : Nat} (hk : k < m) : nt_gs m (nt_gB k) x = x k := by
  have key : ∀ n : Nat, nt_sm (fun d => nt_gB k d * x d) n = if k < n then x k else 0 := by
    intro n
    induction n with
    | zero => rw [if_neg (by omega)]; rfl
    | succ n ih =>
      rw [nt_smS, ih]
      unfold nt_gB
      by_cases e : n = k
      · subst e
        rw [if_neg (by omega), if_pos rfl, if_pos (by omega), Int.one_mul, Int.zero_add]
      · rw [if_neg e, Int.zero_mul, Int.add_zero]
        by_cases z : k < n
        · rw [if_pos z, if_pos (by omega)]
        · rw [if_neg z, if_neg (by omega)]
  unfold nt_gs
  rw [key, if_pos hk]
theorem nt_mostB {k : Nat} (hk : k < m) (hr : ∀ d, d < m → rm d ≤ 3) (hx : nt_Cl m dd cc rm x) (ho : ∀ y, nt_Cl m dd cc rm y → nt_gs m (nt_gB k) y ≤ nt_gs m (nt_gB k) x) : nt_Most m dd cc rm k (x k) := by
  obtain ⟨c, hc, e⟩ := nt_codeOf (x := x) (fun d hd => ⟨(hx.1 d hd).1, Int.le_trans (hx.1 d hd).2 (hr d hd)⟩)
  refine ⟨⟨c, hc, nt_clE e hx, (e k hk).symm⟩, fun f hf cf => ?_⟩
  have h1 := ho _ cf
  rw [nt_gsB hk, nt_gsB hk] at h1
  exact h1
end
end
section
/-! the component's small methods -/
def nt_OK (N m : Nat) (dd cc : Nat → Nat) (aa : Nat → Int) (oo : Nat → Nat) : Prop :=
  (2 ≤ N ∧ N ≤ 5 ∧ m ≤ 7) ∧ (∀ d, d < m → dd d < N ∧ cc d < N ∧ dd d ≠ cc d ∧ 0 ≤ aa d ∧ aa d ≤ 3) ∧ ∀ f, oo f ≤ 1
def nt_rm (dd cc : Nat → Nat) (aa : Nat → Int) (oo : Nat → Nat) (d : Nat) : Int := if oo (dd d) = 0 ∧ oo (cc d) = 0 then aa d else 0
theorem nt_sh4 : ∀ m, m < 8 → (1 : Int32) <<< (((2 : Int32) * nI m) &&& 31) = nI (4 ^ m) := by decide +kernel
theorem nt_sh1 : ∀ j, j < 7 → (1 : Int32) <<< (nI (2 * j) &&& 31) = nI (4 ^ j) := by decide +kernel
theorem nt_32768 : (32768 : Int32) = nt_z 32768 := by decide +kernel
theorem nt_2m (m : Nat) : (2 : Int32) * nI m = nI (2 * m) := pk_mul 2 m
theorem nt_amt {m d : Nat} (h : d < m) : (2 : Int32) * ((nI m - 1) - nI d) = nI (2 * (m - 1 - d)) := by
  obtain ⟨k, rfl⟩ : ∃ k, m = k + 1 := ⟨m - 1, by omega⟩
  rw [nI_pred, pk_sub (by omega), nt_2m]
  exact congrArg nI (by omega)
section
variable {N m : Nat} {dd cc : Nat → Nat} {aa : Nat → Int} {oo : Nat → Nat} {st lo le ar re : Nat → Int32} {x : Nat → Int} {g : Nat → Int}
theorem nt_rmL (ok : nt_OK N m dd cc aa oo) {d : Nat} (hd : d < m) : 0 ≤ nt_rm dd cc aa oo d ∧ nt_rm dd cc aa oo d ≤ 3 ∧ nt_rm dd cc aa oo d ≤ aa d := by
  obtain ⟨_, _, _, d4, d5⟩ := ok.2.1 d hd
  unfold nt_rm
  split <;> omega
theorem nt_Xroom (ok : nt_OK N m dd cc aa oo) {d : Nat} (hd : d < m) {post : Int32 → Prop} (H : post (nt_z (nt_rm dd cc aa oo d))) : wpX_room post (nI N, nI m, nt_na dd, nt_na cc, nt_za aa, st, lo, nt_na oo, le, ar, re) (nI d) := by
  obtain ⟨⟨n1, n2, n3⟩, ho, hz⟩ := ok
  obtain ⟨d1, d2, d3, d4, d5⟩ := ho d hd
  have z1 := hz (dd d)
  have z2 := hz (cc d)
  have e0 : (nI d).toNatClampNeg = d := nI_clamp (by omega)
  have e1 : (nI (dd d)).toNatClampNeg = dd d := nI_clamp (by omega)
  have e2 : (nI (cc d)).toNatClampNeg = cc d := nI_clamp (by omega)
  have i0 : vp_in (nI d) 7 := vp_in_nI (by omega) (by omega)
  have i1 : vp_in (nI (dd d)) 5 := vp_in_nI (by omega) (by omega)
  have i2 : vp_in (nI (cc d)) 5 := vp_in_nI (by omega) (by omega)
  unfold nt_rm at H
  unfold wpX_room
  simp only [e0, nt_na, nt_za, e1, e2]
  refine ⟨i0, i1, ?_⟩
  by_cases a : oo (dd d) = 0
  · refine br_t (by rw [a]; exact nI_0) ⟨i0, i2, ?_⟩
    by_cases b : oo (cc d) = 0
    · refine br_t (by rw [b]; exact nI_0) ⟨i0, ?_⟩
      rw [if_pos ⟨a, b⟩] at H
      exact H
    · refine br_f (by rw [nt_n0 (by omega)]; exact b) ?_
      rw [if_neg (fun z => b z.2), nt_z0] at H
      exact H
  · refine br_f (by rw [nt_n0 (by omega)]; exact a) ?_
    rw [if_neg (fun z => a z.1), nt_z0] at H
    exact H
theorem nt_Xleft (ok : nt_OK N m dd cc aa oo) {b : Nat} (hb : b < 2 * m) {post : Int32 → Prop} (H : post (nt_z (nt_lf (nt_rm dd cc aa oo) x b))) : wpX_left post (nI N, nI m, nt_na dd, nt_na cc, nt_za aa, nt_za x, lo, nt_na oo, le, ar, re) (nI b) := by
  have n3 := ok.1.2.2
  have e0 : (nI (b / 2)).toNatClampNeg = b / 2 := nI_clamp (by omega)
  have i0 : vp_in (nI (b / 2)) 7 := vp_in_nI (by omega) (by omega)
  unfold nt_lf at H
  unfold wpX_left
  dsimp only
  refine nm_r (nt_half (by omega)) ?_
  rw [nt_odd (by omega)]
  by_cases e : b % 2 = 0
  · rw [e]
    rw [if_pos e] at H
    refine br_t nI_0 (nt_Xroom ok (by omega) ⟨i0, ?_⟩)
    rw [e0]
    show post (nt_z _ - nt_z _)
    rw [nt_zsub]
    exact H
  · rw [if_neg e] at H
    refine br_f (by rw [nt_n0 (by omega)]; exact e) ⟨i0, ?_⟩
    rw [e0]
    exact H
theorem nt_Xtail (ok : nt_OK N m dd cc aa oo) {b : Nat} (hb : b < 2 * m) {post : Int32 → Prop} (H : post (nI (nt_tl dd cc b))) : wpX_tailOf post (nI N, nI m, nt_na dd, nt_na cc, nt_za aa, st, lo, nt_na oo, le, ar, re) (nI b) := by
  have n3 := ok.1.2.2
  have e0 : (nI (b / 2)).toNatClampNeg = b / 2 := nI_clamp (by omega)
  have i0 : vp_in (nI (b / 2)) 7 := vp_in_nI (by omega) (by omega)
  unfold nt_tl at H
  unfold wpX_tailOf
  dsimp only
  rw [nt_odd (by omega), nt_half (by omega), e0]
  by_cases e : b % 2 = 0
  · rw [if_pos e] at H
    exact br_t (by rw [e]; exact nI_0) ⟨i0, H⟩
  · rw [if_neg e] at H
    exact br_f (by rw [nt_n0 (by omega)]; exact e) ⟨i0, H⟩
theorem nt_Xhead (ok : nt_OK N m dd cc aa oo) {b : Nat} (hb : b < 2 * m) {post : Int32 → Prop} (H : post (nI (nt_hd dd cc b))) : wpX_headOf post (nI N, nI m, nt_na dd, nt_na cc, nt_za aa, st, lo, nt_na oo, le, ar, re) (nI b) := by
  have n3 := ok.1.2.2
  have e0 : (nI (b / 2)).toNatClampNeg = b / 2 := nI_clamp (by omega)
  have i0 : vp_in (nI (b / 2)) 7 := vp_in_nI (by omega) (by omega)
  unfold nt_hd at H
  unfold wpX_headOf
  dsimp only
  rw [nt_odd (by omega), nt_half (by omega), e0]
  by_cases e : b % 2 = 0
  · rw [if_pos e] at H
    exact br_t (by rw [e]; exact nI_0) ⟨i0, H⟩
  · rw [if_neg e] at H
    exact br_f (by rw [nt_n0 (by omega)]; exact e) ⟨i0, H⟩
/-- the gains by which solve is asked -/
def nt_G (p1 : Int32) (m : Nat) (g : Nat → Int) : Prop :=
  (∀ d, d < m → 0 ≤ g d ∧ g d ≤ 32768) ∧ ∀ (u : SX) (d : Nat) (post : Int32 → Prop), d < m → u.2.1 = nI m → post (nt_z (g d)) → wpX_gain post u (nI d) p1
theorem nt_GA (hm : m ≤ 7) : nt_G (-1) m (nt_gA m) := by
  refine ⟨fun d hd => ?_, fun u d post hd hu H => ?_⟩
  · have h1 : 4 ^ (m - 1 - d) ≤ 4 ^ 6 := Nat.pow_le_pow_right (by decide) (by omega)
    unfold nt_gA
    generalize 4 ^ (m - 1 - d) = k at h1 ⊢
    omega
  · obtain ⟨f_n, f_count, a1, a2, a3, a4, a5, a6, a7, a8, a9⟩ := u
    dsimp only at hu
    subst hu
    unfold wpX_gain
    dsimp only
    refine br_t (by decide) ?_
    rw [nt_amt hd, nt_sh1 _ (by omega), nt_32768, ← nt_zn, nt_zsub]
    exact H
theorem nt_GB {k : Nat} (hm : m ≤ 7) (hk : k < m) : nt_G (nI k) m (nt_gB k) := by
  refine ⟨fun d hd => ?_, fun u d post hd hu H => ?_⟩
  · unfold nt_gB
    split <;> omega
  · obtain ⟨f_n, f_count, a1, a2, a3, a4, a5, a6, a7, a8, a9⟩ := u
    unfold wpX_gain
    dsimp only
    unfold nt_gB at H
    refine br_f (nI_pos (by omega)) ?_
    by_cases e : d = k
    · rw [if_pos e, nt_z1] at H
      exact br_t (by rw [e]) H
    · rw [if_neg e, nt_z0] at H
      exact br_f (by rw [nI_eq (by omega) (by omega)]; exact e) H
theorem nt_Xrelax52 {v b : Nat} {L : Nat → Int} {t : Int} {z0 z1 : Int32} {post : Int32 → SX → Prop} (hv : v < 5) (h1 : -1000000000 ≤ L v) (h2 : L v ≤ 1000000000) (h3 : -1000000000 ≤ t) (h4 : t ≤ 1000000000) (hz : z1 + z0 = nt_z t)
    (H0 : t ≤ L v → post (-1) (nI N, nI m, nt_na dd, nt_na cc, nt_za aa, st, lo, nt_na oo, nt_za L, ar, re)) (H1 : L v < t → post (nI v) (nI N, nI m, nt_na dd, nt_na cc, nt_za aa, st, lo, nt_na oo, nt_za (nt_u L v t), upd ar v (nI b), re)) : wX_relax_52 post (nI b) (nI v) z0 z1 (nI N) (nI m) (nt_na dd) (nt_na cc) (nt_za aa) st lo (nt_na oo) (nt_za L) ar re := by
  have e0 : (nI v).toNatClampNeg = v := nI_clamp (by omega)
  have i0 : vp_in (nI v) 5 := vp_in_nI hv (by omega)
  unfold wX_relax_52
  refine nm_r hz ⟨i0, ?_⟩
  rw [e0]
  by_cases h : L v < t
  · exact br_t ((nt_zlt h1 h2 h3 h4).mpr h) ⟨i0, nm_r (nt_zaU L v t) ⟨i0, nm_e (H1 h)⟩⟩
  · exact br_f (fun z => h ((nt_zlt h1 h2 h3 h4).mp z)) (H0 (by omega))
theorem nt_arcL (ok : nt_OK N m dd cc aa oo) {b : Nat} (hb : b < 2 * m) : nt_tl dd cc b < N ∧ nt_hd dd cc b < N ∧ nt_tl dd cc b ≠ nt_hd dd cc b := by
  obtain ⟨d1, d2, d3, _, _⟩ := ok.2.1 (b / 2) (by omega)
  unfold nt_tl nt_hd
  split
  · exact ⟨d1, d2, d3⟩
  · exact ⟨d2, d1, fun z => d3 z.symm⟩
theorem nt_wL {p1 : Int32} (hG : nt_G p1 m g) {b : Nat} (hb : b < 2 * m) : -32768 ≤ nt_w g b ∧ nt_w g b ≤ 32768 := by
  have := hG.1 (b / 2) (by omega)
  unfold nt_w
  split <;> omega
theorem nt_lfL (ok : nt_OK N m dd cc aa oo) (hx : ∀ d, d < m → 0 ≤ x d ∧ x d ≤ nt_rm dd cc aa oo d) {b : Nat} (hb : b < 2 * m) : 0 ≤ nt_lf (nt_rm dd cc aa oo) x b ∧ nt_lf (nt_rm dd cc aa oo) x b ≤ 3 := by
  have h1 := nt_rmL ok (d := b / 2) (by omega)
  have h2 := hx (b / 2) (by omega)
  unfold nt_lf
  split <;> omega
theorem nt_Xrelax (ok : nt_OK N m dd cc aa oo) {p1 : Int32} (hG : nt_G p1 m g) {b : Nat} (hb : b < 2 * m) {L : Nat → Int} (hx : ∀ d, d < m → 0 ≤ x d ∧ x d ≤ nt_rm dd cc aa oo d) (hL : ∀ v, v < N → 0 ≤ L v ∧ L v ≤ 100000000) {post : Int32 → SX → Prop}
    (H0 : (0 < nt_lf (nt_rm dd cc aa oo) x b → L (nt_tl dd cc b) + nt_w g b ≤ L (nt_hd dd cc b)) → post (-1) (nI N, nI m, nt_na dd, nt_na cc, nt_za aa, nt_za x, lo, nt_na oo, nt_za L, ar, re))
    (H1 : 0 < nt_lf (nt_rm dd cc aa oo) x b → L (nt_hd dd cc b) < L (nt_tl dd cc b) + nt_w g b → post (nI (nt_hd dd cc b)) (nI N, nI m, nt_na dd, nt_na cc, nt_za aa, nt_za x, lo, nt_na oo, nt_za (nt_u L (nt_hd dd cc b) (L (nt_tl dd cc b) + nt_w g b)), upd ar (nt_hd dd cc b) (nI b), re)) :
    wpX_relax post (nI N, nI m, nt_na dd, nt_na cc, nt_za aa, nt_za x, lo, nt_na oo, nt_za L, ar, re) (nI b) p1 := by
  obtain ⟨a1, a2, a3⟩ := nt_arcL ok hb
  obtain ⟨w1, w2⟩ := nt_wL hG hb
  obtain ⟨l1, l2⟩ := nt_lfL ok hx hb
  have b1 := hL _ a1
  have b2 := hL _ a2
  have n2 := ok.1.2.1
  have n3 := ok.1.2.2
  unfold wpX_relax
  dsimp only
  refine nt_Xleft ok hb ?_
  by_cases h : 0 < nt_lf (nt_rm dd cc aa oo) x b
  · refine br_t ((nt_z0lt (by omega) (by omega)).mpr h) ?_
    rw [nt_half (by omega)]
    refine hG.2 _ _ _ (by omega) rfl ?_
    refine nt_Xtail ok hb ?_
    refine nt_Xhead ok hb ?_
    refine ⟨vp_in_nI (by omega) (by omega), ?_⟩
    rw [nt_odd (by omega), nI_clamp (n := nt_tl dd cc b) (by omega)]
    by_cases e : b % 2 = 0
    · refine br_t (by rw [e]; exact nI_0) ?_
      refine nt_Xrelax52 (t := L (nt_tl dd cc b) + nt_w g b) (by omega) (by omega) (by omega) (by omega) (by omega) ?_ (fun z => H0 fun _ => z) (H1 h)
      show nt_z _ + nt_z _ = _
      rw [nt_zadd]
      unfold nt_w
      rw [if_pos e]
    · refine br_f (by rw [nt_n0 (by omega)]; exact e) ?_
      refine nt_Xrelax52 (t := L (nt_tl dd cc b) + nt_w g b) (by omega) (by omega) (by omega) (by omega) (by omega) ?_ (fun z => H0 fun _ => z) (H1 h)
      show nt_z _ + -nt_z _ = _
      rw [nt_zneg, nt_zadd]
      unfold nt_w
      rw [if_neg e]
  · exact br_f (fun z => h ((nt_z0lt (by omega) (by omega)).mp z)) (H0 fun z => absurd z h)
end
end
section
/-! findCircle -/
section
variable {N m : Nat} {dd cc : Nat → Nat} {aa : Nat → Int} {oo : Nat → Nat} {st lo le ar re : Nat → Int32} {x : Nat → Int} {g : Nat → Int}
/-- the pass invariant of the arcs -/
def nt_FI (N m : Nat) (dd cc : Nat → Nat) (rm x g : Nat → Int) (r a : Nat) (L : Nat → Int) (pr P : Nat → Nat) : Prop :=
  bf_I N (2 * m) (nt_tl dd cc) (nt_hd dd cc) (nt_w g) (fun b => 0 < nt_lf rm x b) r a L pr P
/-- the last firm whose length grew in this pass -/
def nt_La (N : Nat) (dd cc : Nat → Nat) (rm x g : Nat → Int) (r a : Nat) (L : Nat → Int) (P : Nat → Nat) (z : Int32) : Prop :=
  (z = -1 ∧ ∀ b, b < a → 0 < nt_lf rm x b → L (nt_tl dd cc b) + nt_w g b ≤ L (nt_hd dd cc b)) ∨ ∃ v, v < N ∧ z = nI v ∧ P v = r + 1
theorem nt_bfG (ok : nt_OK N m dd cc aa oo) {p1 : Int32} (hG : nt_G p1 m g) : bf_G N (2 * m) (nt_tl dd cc) (nt_hd dd cc) (nt_w g) := by
  intro b hb
  obtain ⟨a1, a2, a3⟩ := nt_arcL ok hb
  obtain ⟨w1, w2⟩ := nt_wL hG hb
  exact ⟨a1, a2, a3, w1, w2⟩
theorem nt_Xfc100 (ok : nt_OK N m dd cc aa oo) {c q : Nat → Nat} {post : Int32 → SX → Prop} (hc : ∀ i, i < N → c i < N ∧ ar (c i) = nI (q i) ∧ q i < 2 * m ∧ nt_tl dd cc (q i) = c (i + 1)) (H : post (nI (c N)) (nI N, nI m, nt_na dd, nt_na cc, nt_za aa, st, lo, nt_na oo, le, ar, re)) :
    ∀ e i n : Nat, i + e = N → e < n → wX_findCircle_100 post (nI N) (nI m) (nt_na dd) (nt_na cc) (nt_za aa) st lo (nt_na oo) le ar re n (nI (c i)) (nI i) := by
  have n2 := ok.1.2.1
  intro e
  induction e with
  | zero =>
    intro i n hi hn
    obtain ⟨k, rfl⟩ : ∃ k, n = k + 1 := ⟨n - 1, by omega⟩
    obtain rfl : i = N := by omega
    exact br_t (nI_le (Nat.le_refl _) (by omega)) H
  | succ e ih =>
    intro i n hi hn
    obtain ⟨k, rfl⟩ : ∃ k, n = k + 1 := ⟨n - 1, by omega⟩
    obtain ⟨c1, c2, c3, c4⟩ := hc i (by omega)
    refine br_f (nI_ge (by omega) (by omega)) ⟨vp_in_nI (by omega) (by omega), ?_⟩
    rw [nI_clamp (by omega), c2]
    refine nt_Xtail ok c3 ?_
    rw [c4]
    exact nm_r (nI_1 i) (ih (i + 1) k (by omega) (by omega))
theorem nt_Xfc47 (ok : nt_OK N m dd cc aa oo) {p1 : Int32} (hG : nt_G p1 m g) (hx : ∀ d, d < m → 0 ≤ x d ∧ x d ≤ nt_rm dd cc aa oo d)
    {post : Int32 → SX → Prop} {J : Int32 → Int32 → Int32 → Int32 → (Nat → Int32) → (Nat → Int32) → (Nat → Int32) → (Nat → Int32) → (Nat → Int32) → (Nat → Int32) → (Nat → Int32) → (Nat → Int32) → (Nat → Int32) → Prop} {r : Nat} {x3 : Int32} (hr : r ≤ N)
    (K : ∀ (L : Nat → Int) (pr P : Nat → Nat) (ar : Nat → Int32) (z : Int32), nt_FI N m dd cc (nt_rm dd cc aa oo) x g r (2 * m) L pr P → (∀ v, P v ≠ 0 → ar v = nI (pr v)) → nt_La N dd cc (nt_rm dd cc aa oo) x g r (2 * m) L P z →
      (z = -1 → post (-1) (nI N, nI m, nt_na dd, nt_na cc, nt_za aa, nt_za x, lo, nt_na oo, nt_za L, ar, re)) ∧ (¬ z = -1 → J z (x3 + 1) (nI N) (nI m) (nt_na dd) (nt_na cc) (nt_za aa) (nt_za x) lo (nt_na oo) (nt_za L) ar re)) :
    ∀ (e a n : Nat) (L : Nat → Int) (pr P : Nat → Nat) (ar : Nat → Int32) (z : Int32), a + e = 2 * m → e < n → nt_FI N m dd cc (nt_rm dd cc aa oo) x g r a L pr P → (∀ v, P v ≠ 0 → ar v = nI (pr v)) → nt_La N dd cc (nt_rm dd cc aa oo) x g r a L P z →
      wX_findCircle_47 post J p1 x3 n z (nI a) (nI N) (nI m) (nt_na dd) (nt_na cc) (nt_za aa) (nt_za x) lo (nt_na oo) (nt_za L) ar re := by
  obtain ⟨n1, n2, n3⟩ := ok.1
  intro e
  induction e with
  | zero =>
    intro a n L pr P ar z ha hn I ht hl
    obtain ⟨k, rfl⟩ : ∃ k, n = k + 1 := ⟨n - 1, by omega⟩
    obtain rfl : a = 2 * m := by omega
    obtain ⟨k1, k2⟩ := K L pr P ar z I ht hl
    exact br_t (by rw [nt_2m]; exact nI_le (Nat.le_refl _) (by omega)) ⟨k1, fun h => nm_e (k2 h)⟩
  | succ e ih =>
    intro a n L pr P ar z ha hn I ht hl
    obtain ⟨k, rfl⟩ : ∃ k, n = k + 1 := ⟨n - 1, by omega⟩
    have hb : a < 2 * m := by omega
    refine br_f (by rw [nt_2m]; exact nI_ge (by omega) (by omega)) ?_
    refine nt_Xrelax ok hG hb hx (fun v hv => ?_) (fun h0 => ?_) (fun h1 h2 => ?_)
    · have := I.1 v hv
      omega
    · refine br_t (by decide) (nm_r (nI_1 a) ?_)
      refine ih (a + 1) k L pr P ar z (by omega) (by omega) (bf_skip I h0) ht ?_
      rcases hl with ⟨l1, l2⟩ | l
      · refine Or.inl ⟨l1, fun b hb' h => ?_⟩
        by_cases e : b = a
        · subst e; exact h0 h
        · exact l2 b (by omega) h
      · exact Or.inr l
    · obtain ⟨a1, a2, a3⟩ := nt_arcL ok hb
      refine br_f (nI_pos (by omega)) (nm_r (nI_1 a) ?_)
      refine ih (a + 1) k _ (nt_u pr (nt_hd dd cc a) a) (nt_u P (nt_hd dd cc a) (r + 1)) _ _ (by omega) (by omega) (bf_set (nt_bfG ok hG) I hb h1 h2) (fun v hv => ?_) (Or.inr ⟨_, a2, rfl, nt_us⟩)
      by_cases e : v = nt_hd dd cc a
      · rw [e, pk_us, nt_us]
      · rw [nt_un e] at hv
        rw [pk_un e, nt_un e]
        exact ht v hv
/-- what findCircle leaves -/
theorem nt_Xfc34 (ok : nt_OK N m dd cc aa oo) {p1 : Int32} (hG : nt_G p1 m g) (hx : ∀ d, d < m → 0 ≤ x d ∧ x d ≤ nt_rm dd cc aa oo d) {post : Int32 → SX → Prop}
    (HN : ∀ (L : Nat → Int) (ar : Nat → Int32), (∀ b, b < 2 * m → 0 < nt_lf (nt_rm dd cc aa oo) x b → L (nt_tl dd cc b) + nt_w g b ≤ L (nt_hd dd cc b)) → post (-1) (nI N, nI m, nt_na dd, nt_na cc, nt_za aa, nt_za x, lo, nt_na oo, nt_za L, ar, re))
    (HC : ∀ (L : Nat → Int) (ar : Nat → Int32) (v T : Nat) (pr c q : Nat → Nat), v < N → nt_Cir N (2 * m) (nt_tl dd cc) (nt_hd dd cc) (nt_w g) (fun b => 0 < nt_lf (nt_rm dd cc aa oo) x b) pr v c q T → (∀ i, i < T → ar (c i) = nI (q i)) → post (nI v) (nI N, nI m, nt_na dd, nt_na cc, nt_za aa, nt_za x, lo, nt_na oo, nt_za L, ar, re)) :
    ∀ (e r n : Nat) (L : Nat → Int) (pr P : Nat → Nat) (ar : Nat → Int32) (z : Int32), r + e = N + 1 → e < n → nt_FI N m dd cc (nt_rm dd cc aa oo) x g r 0 L pr P → (∀ v, P v ≠ 0 → ar v = nI (pr v)) → (r = N + 1 → ∃ v, v < N ∧ z = nI v ∧ P v = N + 1) →
      wX_findCircle_34 post p1 n z (nI r) (nI N) (nI m) (nt_na dd) (nt_na cc) (nt_za aa) (nt_za x) lo (nt_na oo) (nt_za L) ar re := by
  obtain ⟨n1, n2, n3⟩ := ok.1
  intro e
  induction e with
  | zero =>
    intro r n L pr P ar z hr hn I ht hl
    obtain ⟨k, rfl⟩ : ∃ k, n = k + 1 := ⟨n - 1, by omega⟩
    obtain ⟨v, v1, v2, v3⟩ := hl (by omega)
    subst v2
    obtain ⟨hB, hP, hT, hQ, hC⟩ := I
    have bk := bf_back (nt_bfG ok hG) hT v1 v3
    obtain ⟨c, q, T, hc, hp⟩ := bf_cir (nt_bfG ok hG) hT hC v1 v3
    refine br_t (nI_lt (by omega) (by omega)) ⟨N + 1, ?_⟩
    refine nt_Xfc100 ok (c := nt_ch (fun y => nt_tl dd cc (pr y)) v) (q := fun i => pr (nt_ch (fun y => nt_tl dd cc (pr y)) v i)) (fun i hi => ?_) ?_ N 0 (N + 1) (by omega) (by omega)
    · obtain ⟨b1, b2⟩ := bk i (by omega)
      have b3 : P (nt_ch (fun y => nt_tl dd cc (pr y)) v i) ≠ 0 := by omega
      exact ⟨b1, ht _ b3, (hT _ b1 b3).1, rfl⟩
    · refine HC L ar _ T pr c q (bk N (Nat.le_refl _)).1 hc (fun i hi => ?_)
      rw [(hc.2.1 i hi).2.1]
      exact ht _ (hp i hi)
  | succ e ih =>
    intro r n L pr P ar z hr hn I ht hl
    obtain ⟨k, rfl⟩ : ∃ k, n = k + 1 := ⟨n - 1, by omega⟩
    refine br_f (nI_nlt (by omega) (by omega)) ⟨2 * m + 1, ?_⟩
    refine nt_Xfc47 ok hG hx (r := r) (by omega) (fun L pr P ar z I ht hl => ?_) (2 * m) 0 (2 * m + 1) L pr P ar (-1) (by omega) (by omega) I ht (Or.inl ⟨rfl, fun b hb => absurd hb (Nat.not_lt_zero _)⟩)
    refine ⟨fun h => ?_, fun h => ?_⟩
    · rcases hl with ⟨_, l⟩ | ⟨v, v1, v2, v3⟩
      · exact HN L ar l
      · rw [v2] at h
        exact absurd h (nt_nm1 (by omega))
    · rcases hl with ⟨l, _⟩ | ⟨v, v1, v2, v3⟩
      · exact absurd l h
      · rw [nI_1]
        refine ih (r + 1) k L pr P ar z (by omega) (by omega) (bf_next (by omega) I) ht (fun hr' => ⟨v, v1, v2, by omega⟩)
theorem nt_Xfind (ok : nt_OK N m dd cc aa oo) {p1 : Int32} (hG : nt_G p1 m g) (hx : ∀ d, d < m → 0 ≤ x d ∧ x d ≤ nt_rm dd cc aa oo d) {post : Int32 → SX → Prop}
    (HN : ∀ (L : Nat → Int) (ar : Nat → Int32), (∀ b, b < 2 * m → 0 < nt_lf (nt_rm dd cc aa oo) x b → L (nt_tl dd cc b) + nt_w g b ≤ L (nt_hd dd cc b)) → post (-1) (nI N, nI m, nt_na dd, nt_na cc, nt_za aa, nt_za x, lo, nt_na oo, nt_za L, ar, re))
    (HC : ∀ (L : Nat → Int) (ar : Nat → Int32) (v T : Nat) (pr c q : Nat → Nat), v < N → nt_Cir N (2 * m) (nt_tl dd cc) (nt_hd dd cc) (nt_w g) (fun b => 0 < nt_lf (nt_rm dd cc aa oo) x b) pr v c q T → (∀ i, i < T → ar (c i) = nI (q i)) → post (nI v) (nI N, nI m, nt_na dd, nt_na cc, nt_za aa, nt_za x, lo, nt_na oo, nt_za L, ar, re)) :
    wpX_findCircle post (nI N, nI m, nt_na dd, nt_na cc, nt_za aa, nt_za x, lo, nt_na oo, le, ar, re) p1 := by
  obtain ⟨n1, n2, n3⟩ := ok.1
  have key : ∀ (e i n : Nat) (le ar : Nat → Int32), i + e = N → e < n → (∀ f, f < i → le f = 0) → wX_findCircle_2 post p1 (nI N) (nI m) n (nI i) (nt_na dd) (nt_na cc) (nt_za aa) (nt_za x) lo (nt_na oo) le ar re := by
    intro e
    induction e with
    | zero =>
      intro i n le ar hi hn hl
      obtain ⟨k, rfl⟩ : ∃ k, n = k + 1 := ⟨n - 1, by omega⟩
      obtain rfl : i = N := by omega
      refine br_t (nI_le (Nat.le_refl _) (by omega)) ⟨i + 2, ?_⟩
      have hle : le = nt_za (fun j => (le j).toInt) := funext fun j => (Int32.ofInt_toInt (le j)).symm
      rw [hle]
      refine nt_Xfc34 ok hG hx HN HC (i + 1) 0 (i + 2) _ (fun _ => 0) (fun _ => 0) ar (-1) (by omega) (by omega) (bf_init (fun v hv => ?_)) (fun v hv => absurd rfl hv) (fun h => by omega)
      rw [hl v hv]
      rfl
    | succ e ih =>
      intro i n le ar hi hn hl
      obtain ⟨k, rfl⟩ : ∃ k, n = k + 1 := ⟨n - 1, by omega⟩
      have i0 : vp_in (nI i) 5 := vp_in_nI (by omega) (by omega)
      refine br_f (nI_ge (by omega) (by omega)) ⟨i0, nm_e ⟨i0, nm_e (nm_r (nI_1 i) ?_)⟩⟩
      refine ih (i + 1) k _ _ (by omega) (by omega) (fun f hf => ?_)
      rw [nI_clamp (by omega)]
      by_cases e : f = i
      · rw [e, pk_us]
      · rw [pk_un e]; exact hl f (by omega)
  unfold wpX_findCircle
  exact ⟨N + 1, key N 0 (N + 1) le ar (by omega) (by omega) (fun f hf => absurd hf (Nat.not_lt_zero _))⟩
end
end
section
/-! fillCircle -/
section
variable {N m : Nat} {dd cc : Nat → Nat} {aa : Nat → Int} {oo : Nat → Nat} {st lo le ar re : Nat → Int32} {x : Nat → Int} {g : Nat → Int}
theorem nt_z3 : (3 : Int32) = nt_z 3 := by decide +kernel
theorem nt_Xfill68 (ok : nt_OK N m dd cc aa oo) {c q : Nat → Nat} {v T : Nat} {am : Int} {post : SX → Prop} (hT : T ≤ 5) (cT : c T = v) (hv : v < N)
    (hc : ∀ i, i < T → c i < N ∧ ar (c i) = nI (q i) ∧ q i < 2 * m ∧ nt_tl dd cc (q i) = c (i + 1)) (hne : ∀ i, 0 < i → i < T → c i < N ∧ c i ≠ v) (H : post (nI N, nI m, nt_na dd, nt_na cc, nt_za aa, nt_za (nt_fill x q am T), lo, nt_na oo, le, ar, re)) :
    ∀ e k n : Nat, k + e + 1 = T → e < n → wX_fillCircle_68 post (nI v) (nt_z am) (nI N) (nI m) n (nI (c k)) (nI k) (nt_na dd) (nt_na cc) (nt_za aa) (nt_za (nt_fill x q am k)) lo (nt_na oo) le ar re := by
  obtain ⟨n1, n2, n3⟩ := ok.1
  intro e
  induction e with
  | zero =>
    intro k n hk hn
    obtain ⟨n, rfl⟩ : ∃ j, n = j + 1 := ⟨n - 1, by omega⟩
    obtain ⟨c1, c2, c3, c4⟩ := hc k (by omega)
    obtain rfl : T = k + 1 := by omega
    have e0 : (nI (q k / 2)).toNatClampNeg = q k / 2 := nI_clamp (by omega)
    have i0 : vp_in (nI (q k / 2)) 7 := vp_in_nI (by omega) (by omega)
    have last : ∀ z : Int32, z = nt_z (if q k % 2 = 0 then am else -am) → wX_fillCircle_105 post (wX_fillCircle_68 post (nI v) (nt_z am) (nI N) (nI m) n) (nI v) (nt_z am) (nI k) (nI (q k)) z (nt_za (nt_fill x q am k) (q k / 2)) (nI (q k / 2)) (nI N) (nI m) (nt_na dd) (nt_na cc) (nt_za aa) (nt_za (nt_fill x q am k)) lo (nt_na oo) le ar re := by
      intro z hz
      unfold wX_fillCircle_105
      refine ⟨i0, nm_r (e' := nt_za (nt_fill x q am (k + 1))) ?_ ?_⟩
      · rw [e0, hz, nt_fillS, ← nt_zaU, ← nt_zadd]; rfl
      · refine nt_Xtail ok c3 ?_
        rw [c4, cT]
        exact br_t rfl H
    refine br_f (nI_ge (b := 5) (by omega) (by decide)) ⟨vp_in_nI (by omega) (by omega), nm_r (e' := nI (q k)) ?_ ?_⟩
    · rw [nI_clamp (by omega)]; exact c2
    · rw [nt_half (by omega), nt_odd (by omega), e0]
      refine ⟨i0, ?_⟩
      by_cases z : q k % 2 = 0
      · exact br_t (by rw [z]; exact nI_0) (last _ (by rw [if_pos z]))
      · exact br_f (by rw [nt_n0 (by omega)]; exact z) (last _ (by rw [if_neg z, nt_zneg]))
  | succ e ih =>
    intro k n hk hn
    obtain ⟨n, rfl⟩ : ∃ j, n = j + 1 := ⟨n - 1, by omega⟩
    obtain ⟨c1, c2, c3, c4⟩ := hc k (by omega)
    obtain ⟨d1, d2⟩ := hne (k + 1) (by omega) (by omega)
    have e0 : (nI (q k / 2)).toNatClampNeg = q k / 2 := nI_clamp (by omega)
    have i0 : vp_in (nI (q k / 2)) 7 := vp_in_nI (by omega) (by omega)
    have last : ∀ z : Int32, z = nt_z (if q k % 2 = 0 then am else -am) → wX_fillCircle_105 post (wX_fillCircle_68 post (nI v) (nt_z am) (nI N) (nI m) n) (nI v) (nt_z am) (nI k) (nI (q k)) z (nt_za (nt_fill x q am k) (q k / 2)) (nI (q k / 2)) (nI N) (nI m) (nt_na dd) (nt_na cc) (nt_za aa) (nt_za (nt_fill x q am k)) lo (nt_na oo) le ar re := by
      intro z hz
      unfold wX_fillCircle_105
      refine ⟨i0, nm_r (e' := nt_za (nt_fill x q am (k + 1))) ?_ ?_⟩
      · rw [e0, hz, nt_fillS, ← nt_zaU, ← nt_zadd]; rfl
      · refine nt_Xtail ok c3 ?_
        rw [c4]
        exact br_f (by rw [nI_eq (by omega) (by omega)]; exact d2) (nm_r (nI_1 k) (ih (k + 1) n (by omega) (by omega)))
    refine br_f (nI_ge (b := 5) (by omega) (by decide)) ⟨vp_in_nI (by omega) (by omega), nm_r (e' := nI (q k)) ?_ ?_⟩
    · rw [nI_clamp (by omega)]; exact c2
    · rw [nt_half (by omega), nt_odd (by omega), e0]
      refine ⟨i0, ?_⟩
      by_cases z : q k % 2 = 0
      · exact br_t (by rw [z]; exact nI_0) (last _ (by rw [if_pos z]))
      · exact br_f (by rw [nt_n0 (by omega)]; exact z) (last _ (by rw [if_neg z, nt_zneg]))
theorem nt_Xfill7 (ok : nt_OK N m dd cc aa oo) (hx : ∀ d, d < m → 0 ≤ x d ∧ x d ≤ nt_rm dd cc aa oo d) {c q : Nat → Nat} {v T : Nat} {post : SX → Prop} (hT : T ≤ 5) (cT : c T = v) (hv : v < N)
    (hc : ∀ i, i < T → c i < N ∧ ar (c i) = nI (q i) ∧ q i < 2 * m ∧ nt_tl dd cc (q i) = c (i + 1)) (hp : ∀ i, i < T → 0 < nt_lf (nt_rm dd cc aa oo) x (q i)) (hne : ∀ i, 0 < i → i < T → c i < N ∧ c i ≠ v)
    (K : ∀ am : Int, 1 ≤ am → (∀ i, i < T → am ≤ nt_lf (nt_rm dd cc aa oo) x (q i)) → ∃ n, wX_fillCircle_68 post (nI v) (nt_z am) (nI N) (nI m) n (nI v) 0 (nt_na dd) (nt_na cc) (nt_za aa) (nt_za x) lo (nt_na oo) le ar re) :
    ∀ (e k n : Nat) (am : Int), k + e + 1 = T → e < n → 1 ≤ am → am ≤ 3 → (∀ i, i < k → am ≤ nt_lf (nt_rm dd cc aa oo) x (q i)) → wX_fillCircle_7 post (nI v) (nI N) (nI m) (nt_na dd) (nt_na cc) (nt_za aa) (nt_za x) lo (nt_na oo) le ar re n (nt_z am) (nI (c k)) (nI k) := by
  obtain ⟨n1, n2, n3⟩ := ok.1
  intro e
  induction e with
  | zero =>
    intro k n am hk hn a1 a3 ha
    obtain ⟨n, rfl⟩ : ∃ j, n = j + 1 := ⟨n - 1, by omega⟩
    obtain ⟨c1, c2, c3, c4⟩ := hc k (by omega)
    obtain ⟨l1, l2⟩ := nt_lfL ok hx c3
    have l3 := hp k (by omega)
    obtain rfl : T = k + 1 := by omega
    have last : ∀ am' : Int, 1 ≤ am' → am' ≤ am → am' ≤ nt_lf (nt_rm dd cc aa oo) x (q k) → wX_fillCircle_41 post (wX_fillCircle_7 post (nI v) (nI N) (nI m) (nt_na dd) (nt_na cc) (nt_za aa) (nt_za x) lo (nt_na oo) le ar re n) (nI v) (nI k) (nI (q k)) (nt_z am') (nI N) (nI m) (nt_na dd) (nt_na cc) (nt_za aa) (nt_za x) lo (nt_na oo) le ar re := by
      intro am' h1 h2 h3
      unfold wX_fillCircle_41
      refine nt_Xtail ok c3 ?_
      rw [c4, cT]
      refine br_t rfl (K am' h1 (fun i hi => ?_))
      by_cases e : i = k
      · rw [e]; exact h3
      · exact Int.le_trans h2 (ha i (by omega))
    refine br_f (nI_ge (b := 5) (by omega) (by decide)) ⟨vp_in_nI (by omega) (by omega), nm_r (e' := nI (q k)) ?_ ?_⟩
    · rw [nI_clamp (by omega)]; exact c2
    · refine nt_Xleft ok c3 ?_
      by_cases z : am ≤ nt_lf (nt_rm dd cc aa oo) x (q k)
      · exact br_t ((nt_zle (by omega) (by omega) (by omega) (by omega)).mpr z) (last am a1 (Int.le_refl _) z)
      · exact br_f (fun y => z ((nt_zle (by omega) (by omega) (by omega) (by omega)).mp y)) (last _ (by omega) (by omega) (Int.le_refl _))
  | succ e ih =>
    intro k n am hk hn a1 a3 ha
    obtain ⟨n, rfl⟩ : ∃ j, n = j + 1 := ⟨n - 1, by omega⟩
    obtain ⟨c1, c2, c3, c4⟩ := hc k (by omega)
    obtain ⟨d1, d2⟩ := hne (k + 1) (by omega) (by omega)
    obtain ⟨l1, l2⟩ := nt_lfL ok hx c3
    have l3 := hp k (by omega)
    have last : ∀ am' : Int, 1 ≤ am' → am' ≤ am → am' ≤ nt_lf (nt_rm dd cc aa oo) x (q k) → wX_fillCircle_41 post (wX_fillCircle_7 post (nI v) (nI N) (nI m) (nt_na dd) (nt_na cc) (nt_za aa) (nt_za x) lo (nt_na oo) le ar re n) (nI v) (nI k) (nI (q k)) (nt_z am') (nI N) (nI m) (nt_na dd) (nt_na cc) (nt_za aa) (nt_za x) lo (nt_na oo) le ar re := by
      intro am' h1 h2 h3
      unfold wX_fillCircle_41
      refine nt_Xtail ok c3 ?_
      rw [c4]
      refine br_f (by rw [nI_eq (by omega) (by omega)]; exact d2) (nm_r (nI_1 k) (ih (k + 1) n am' (by omega) (by omega) h1 (by omega) (fun i hi => ?_)))
      by_cases e : i = k
      · rw [e]; exact h3
      · exact Int.le_trans h2 (ha i (by omega))
    refine br_f (nI_ge (b := 5) (by omega) (by decide)) ⟨vp_in_nI (by omega) (by omega), nm_r (e' := nI (q k)) ?_ ?_⟩
    · rw [nI_clamp (by omega)]; exact c2
    · refine nt_Xleft ok c3 ?_
      by_cases z : am ≤ nt_lf (nt_rm dd cc aa oo) x (q k)
      · exact br_t ((nt_zle (by omega) (by omega) (by omega) (by omega)).mpr z) (last am a1 (Int.le_refl _) z)
      · exact br_f (fun y => z ((nt_zle (by omega) (by omega) (by omega) (by omega)).mp y)) (last _ (by omega) (by omega) (Int.le_refl _))
theorem nt_Xfillc (ok : nt_OK N m dd cc aa oo) (hx : nt_Cl m dd cc (nt_rm dd cc aa oo) x) {pr c q : Nat → Nat} {v T : Nat} {post : SX → Prop} (hv : v < N)
    (hc : nt_Cir N (2 * m) (nt_tl dd cc) (nt_hd dd cc) (nt_w g) (fun b => 0 < nt_lf (nt_rm dd cc aa oo) x b) pr v c q T) (ha : ∀ i, i < T → ar (c i) = nI (q i))
    (H : ∀ y : Nat → Int, nt_Cl m dd cc (nt_rm dd cc aa oo) y → nt_gs m g x < nt_gs m g y → post (nI N, nI m, nt_na dd, nt_na cc, nt_za aa, nt_za y, lo, nt_na oo, le, ar, re)) : wpX_fillCircle post (nI N, nI m, nt_na dd, nt_na cc, nt_za aa, nt_za x, lo, nt_na oo, le, ar, re) (nI v) := by
  have hc' := hc
  obtain ⟨⟨c0, cT, hT, hTN⟩, hcq, hne, hpos⟩ := hc
  obtain ⟨n1, n2, n3⟩ := ok.1
  have hq : ∀ i, i < T → c i < N ∧ ar (c i) = nI (q i) ∧ q i < 2 * m ∧ nt_tl dd cc (q i) = c (i + 1) := fun i hi => by
    obtain ⟨b1, b2, b3, b4, b5, b6⟩ := hcq i hi
    exact ⟨b1, ha i hi, b3, b6⟩
  have hn : ∀ i, 0 < i → i < T → c i < N ∧ c i ≠ v := fun i h0 hi => ⟨(hcq i hi).1, fun e => hne 0 i h0 hi (by rw [c0, e])⟩
  have hK : ∀ am : Int, 1 ≤ am → (∀ i, i < T → am ≤ nt_lf (nt_rm dd cc aa oo) x (q i)) → ∃ n, wX_fillCircle_68 post (nI v) (nt_z am) (nI N) (nI m) n (nI v) 0 (nt_na dd) (nt_na cc) (nt_za aa) (nt_za x) lo (nt_na oo) le ar re := by
    intro am h1 h2
    refine ⟨T, ?_⟩
    obtain ⟨f1, f2⟩ := nt_filled hx hc' h1 h2
    have h8 := nt_Xfill68 (post := post) (lo := lo) (le := le) (re := re) (x := x) (am := am) ok (T := T) (by omega) cT hv hq hn (H _ f1 f2) (T - 1) 0 T (by omega) (by omega)
    rw [c0] at h8
    exact h8
  have h7 := nt_Xfill7 (post := post) (lo := lo) (le := le) (re := re) ok hx.1 (T := T) (by omega) cT hv hq (fun i hi => (hcq i hi).2.2.2.1) hn hK (T - 1) 0 T 3 (by omega) (by omega) (by omega) (by omega) (fun i hi => absurd hi (Nat.not_lt_zero _))
  rw [c0] at h7
  unfold wpX_fillCircle
  refine ⟨T, ?_⟩
  rw [nt_z3]
  exact h7
end
end
section
/-! solve -/
section
variable {N m : Nat} {dd cc : Nat → Nat} {aa : Nat → Int} {oo : Nat → Nat} {st lo le ar re : Nat → Int32} {x : Nat → Int} {g : Nat → Int}
theorem nt_Xsolve23 (ok : nt_OK N m dd cc aa oo) {p1 : Int32} (hG : nt_G p1 m g) {post : SX → Prop}
    (H : ∀ (x : Nat → Int) (le ar : Nat → Int32), nt_Cl m dd cc (nt_rm dd cc aa oo) x → (∀ y, nt_Cl m dd cc (nt_rm dd cc aa oo) y → nt_gs m g y ≤ nt_gs m g x) → post (nI N, nI m, nt_na dd, nt_na cc, nt_za aa, nt_za x, lo, nt_na oo, le, ar, re)) :
    ∀ (n r : Nat) (x : Nat → Int) (le ar : Nat → Int32), nt_Cl m dd cc (nt_rm dd cc aa oo) x → nt_mu m g x < n → r + nt_mu m g x ≤ 16383 → wX_solve_23 post p1 n (nI r) (nI N) (nI m) (nt_na dd) (nt_na cc) (nt_za aa) (nt_za x) lo (nt_na oo) le ar re := by
  obtain ⟨n1, n2, n3⟩ := ok.1
  intro n
  induction n with
  | zero => intro r x le ar hx hm; omega
  | succ n ih =>
    intro r x le ar hx hm hr
    refine br_f (nI_ge (b := 16384) (by omega) (by decide)) ?_
    refine nt_Xfind ok hG hx.1 (fun L ar hL => ?_) (fun L ar v T pr c q hv hc ha => ?_)
    · exact br_t rfl (H x _ _ hx (fun y hy => nt_opt hx (nt_rest hL) hy))
    · refine br_f (nt_nm1 (by omega)) ?_
      refine nt_Xfillc ok hx hv hc ha (fun y hy hg => ?_)
      have mu := nt_muT (fun d hd => ⟨(hy.1 d hd).1, Int.le_trans (hy.1 d hd).2 (nt_rmL ok hd).2.1⟩) hg
      exact nm_r (nI_1 r) (ih (r + 1) y _ _ hy (by omega) (by omega))
theorem nt_Xsolve (ok : nt_OK N m dd cc aa oo) {p1 : Int32} (hG : nt_G p1 m g) {post : SX → Prop}
    (H : ∀ (x : Nat → Int) (le ar : Nat → Int32), nt_Cl m dd cc (nt_rm dd cc aa oo) x → (∀ y, nt_Cl m dd cc (nt_rm dd cc aa oo) y → nt_gs m g y ≤ nt_gs m g x) → post (nI N, nI m, nt_na dd, nt_na cc, nt_za aa, nt_za x, lo, nt_na oo, le, ar, re)) :
    wpX_solve post (nI N, nI m, nt_na dd, nt_na cc, nt_za aa, st, lo, nt_na oo, le, ar, re) p1 := by
  obtain ⟨n1, n2, n3⟩ := ok.1
  have key : ∀ (e i n : Nat) (st : Nat → Int32), i + e = 7 → e < n → (∀ f, f < i → st f = 0) → wX_solve_2 post p1 (nI N) (nI m) n (nI i) (nt_na dd) (nt_na cc) (nt_za aa) st lo (nt_na oo) le ar re := by
    intro e
    induction e with
    | zero =>
      intro i n st hi hn hl
      obtain ⟨k, rfl⟩ : ∃ k, n = k + 1 := ⟨n - 1, by omega⟩
      obtain rfl : i = 7 := by omega
      obtain ⟨F, hF⟩ : ∃ F : Nat, F = 16384 := ⟨_, rfl⟩
      refine br_t (nI_le (a := 7) (b := 7) (Nat.le_refl _) (by omega)) ⟨F, ?_⟩
      have hst : st = nt_za (fun j => (st j).toInt) := funext fun j => (Int32.ofInt_toInt (st j)).symm
      have h0 : ∀ d, d < m → (fun _ => 0 : Nat → Int) d = (st d).toInt := fun d hd => by
        rw [hl d (by omega)]
        rfl
      rw [hst]
      have hmu : nt_mu m g (fun j => (st j).toInt) ≤ 16383 := by
        unfold nt_mu
        rw [← nt_gsE h0]
        exact nt_mu0 n3
      exact nt_Xsolve23 ok hG H F 0 (fun j => (st j).toInt) _ _ (nt_clE h0 (nt_cl0 (fun d hd => (nt_rmL ok hd).1))) (by omega) (by omega)
    | succ e ih =>
      intro i n st hi hn hl
      obtain ⟨k, rfl⟩ : ∃ k, n = k + 1 := ⟨n - 1, by omega⟩
      have i0 : vp_in (nI i) 7 := vp_in_nI (by omega) (by omega)
      refine br_f (nI_ge (b := 7) (by omega) (by decide)) ⟨i0, nm_e (nm_r (nI_1 i) ?_)⟩
      refine ih (i + 1) k _ (by omega) (by omega) (fun f hf => ?_)
      rw [nI_clamp (by omega)]
      by_cases e : f = i
      · rw [e, pk_us]
      · rw [pk_un e]; exact hl f (by omega)
  unfold wpX_solve
  exact ⟨8, key 7 0 8 st (by omega) (by omega) (fun f hf => absurd hf (Nat.not_lt_zero _))⟩
/-- the best clearing, by its code -/
theorem nt_XsolveA (ok : nt_OK N m dd cc aa oo) {post : SX → Prop} (H : ∀ (c : Nat) (x : Nat → Int) (le ar : Nat → Int32), nt_Best m dd cc (nt_rm dd cc aa oo) c → (∀ d, d < m → x d = nt_D m c d) → post (nI N, nI m, nt_na dd, nt_na cc, nt_za aa, nt_za x, lo, nt_na oo, le, ar, re)) : wpX_solve post (nI N, nI m, nt_na dd, nt_na cc, nt_za aa, st, lo, nt_na oo, le, ar, re) (-1) := by
  refine nt_Xsolve ok (nt_GA ok.1.2.2) (fun x le ar hx ho => ?_)
  obtain ⟨c, hc, e⟩ := nt_bestA ok.1.2.2 (fun d hd => (nt_rmL ok hd).2.1) hx ho
  exact H c x le ar hc e
theorem nt_XsolveB (ok : nt_OK N m dd cc aa oo) {k : Nat} (hk : k < m) {post : SX → Prop} (H : ∀ (x : Nat → Int) (le ar : Nat → Int32), nt_Most m dd cc (nt_rm dd cc aa oo) k (x k) → post (nI N, nI m, nt_na dd, nt_na cc, nt_za aa, nt_za x, lo, nt_na oo, le, ar, re)) : wpX_solve post (nI N, nI m, nt_na dd, nt_na cc, nt_za aa, st, lo, nt_na oo, le, ar, re) (nI k) := by
  refine nt_Xsolve ok (nt_GB ok.1.2.2 hk) (fun x le ar hx ho => ?_)
  exact H x le ar (nt_mostB hk (fun d hd => (nt_rmL ok hd).2.1) hx ho)
/-- sums of the strikes -/
theorem nt_XtotalNow {post : Int32 → Prop} (hm : m ≤ 7) (H : post (nt_z (nt_sm x m))) : wpX_totalNow post (nI N, nI m, nt_na dd, nt_na cc, nt_za aa, nt_za x, lo, nt_na oo, le, ar, re) := by
  have key : ∀ e d n : Nat, d + e = m → e < n → wX_totalNow_4 post (nI N) (nI m) (nt_na dd) (nt_na cc) (nt_za aa) (nt_za x) lo (nt_na oo) le ar re n (nt_z (nt_sm x d)) (nI d) := by
    intro e
    induction e with
    | zero =>
      intro d n hd hn
      obtain ⟨k, rfl⟩ : ∃ k, n = k + 1 := ⟨n - 1, by omega⟩
      obtain rfl : d = m := by omega
      exact br_t (nI_le (Nat.le_refl _) (by omega)) H
    | succ e ih =>
      intro d n hd hn
      obtain ⟨k, rfl⟩ : ∃ k, n = k + 1 := ⟨n - 1, by omega⟩
      refine br_f (nI_ge (by omega) (by omega)) ⟨vp_in_nI (by omega) (by omega), nm_r (e' := nt_z (nt_sm x (d + 1))) ?_ (nm_r (nI_1 d) (ih (d + 1) k (by omega) (by omega)))⟩
      rw [nI_clamp (by omega), nt_smS, ← nt_zadd]
      rfl
  unfold wpX_totalNow
  have := key m 0 (m + 1) (by omega) (by omega)
  rw [nt_sm0, nt_z0] at this
  exact ⟨m + 1, this⟩
end
end
section
/-! the reference's total of a code -/
section
variable {N m : Nat} {dd cc : Nat → Nat} {aa : Nat → Int} {oo : Nat → Nat} {net : Nat → Int32}
theorem nt_Ydigit {c d : Nat} (hm : m ≤ 7) (hc : c < 2 ^ 31) (hd : d < m) {post : Int32 → Prop} (H : post (nI (nt_dg m c d))) : wpY_digit post (nI N, nI m, nt_na dd, nt_na cc, nt_za aa, nt_na oo, net) (nI c) (nI d) := by
  unfold wpY_digit
  dsimp only
  refine nm_r (nt_amt hd) (br_t (nI_pos' (by omega)) ?_)
  have h1 : c / 2 ^ (2 * (m - 1 - d)) ≤ c := Nat.div_le_self _ _
  rw [pk_shrN hc _ (2 * (m - 1 - d)) (s_l _ (by omega)), pk_andN (by omega) 2 (by decide)]
  exact H
theorem nt_netL {x : Nat → Int} (f : Nat) : ∀ k : Nat, (∀ d, d < k → 0 ≤ x d ∧ x d ≤ 3) → -(3 * (k : Int)) ≤ nt_net dd cc x f k ∧ nt_net dd cc x f k ≤ 3 * (k : Int) := by
  intro k
  induction k with
  | zero => intro _; exact ⟨Int.le_refl _, Int.le_refl _⟩
  | succ k ih =>
    intro h
    have h1 := h k (by omega)
    have h2 := ih (fun d hd => h d (by omega))
    rw [nt_netS]
    split <;> split <;> omega
theorem nt_Y157 {s : Int32} {nf : Nat → Int} {post : Int32 → SY → Prop} (hn : ∀ f, f < 5 → net f = nt_z (nf f) ∧ -1000 ≤ nf f ∧ nf f ≤ 1000) (H1 : (∀ f, f < 5 → nf f = 0) → post s (nI N, nI m, nt_na dd, nt_na cc, nt_za aa, nt_na oo, net)) (H2 : (∃ f, f < 5 ∧ nf f ≠ 0) → post (-1) (nI N, nI m, nt_na dd, nt_na cc, nt_za aa, nt_na oo, net)) :
    ∀ e i n : Nat, i + e = 5 → e < n → (∀ f, f < i → nf f = 0) → wY_total_157 post s (nI N) (nI m) (nt_na dd) (nt_na cc) (nt_za aa) (nt_na oo) net n (nI i) := by
  intro e
  induction e with
  | zero =>
    intro i n hi hn hz
    obtain ⟨k, rfl⟩ : ∃ k, n = k + 1 := ⟨n - 1, by omega⟩
    obtain rfl : i = 5 := by omega
    exact br_t (nI_le (a := 5) (b := 5) (Nat.le_refl _) (by omega)) (H1 hz)
  | succ e ih =>
    intro i n hi hn' hz
    obtain ⟨k, rfl⟩ : ∃ k, n = k + 1 := ⟨n - 1, by omega⟩
    obtain ⟨h1, h2, h3⟩ := hn i (by omega)
    refine br_f (nI_ge (b := 5) (by omega) (by decide)) ⟨vp_in_nI (by omega) (by omega), ?_⟩
    rw [nI_clamp (by omega), h1]
    by_cases z : nf i = 0
    · refine br_t (by rw [z]; exact nt_z0) (nm_r (nI_1 i) (ih (i + 1) k (by omega) (by omega) (fun f hf => ?_)))
      by_cases e : f = i
      · rw [e]; exact z
      · exact hz f (by omega)
    · exact br_f (fun y => z ((nt_zeq0 (by omega) (by omega)).mp y)) (H2 ⟨i, by omega, z⟩)
/-- one debt booked -/
theorem nt_Y112 (ok : nt_OK N m dd cc aa oo) {c d : Nat} (hd : d < m) {s : Int32} {s' : Int} {post : Int32 → SY → Prop} {J : Int32 → Int32 → (Nat → Int32) → (Nat → Int32) → (Nat → Int32) → (Nat → Int32) → (Nat → Int32) → Prop}
    (hs : s + nI (nt_dg m c d) = nt_z s') (hn : ∀ f, f < 5 → net f = nt_z (nt_net dd cc (nt_D m c) f d))
    (H : ∀ net : Nat → Int32, (∀ f, f < 5 → net f = nt_z (nt_net dd cc (nt_D m c) f (d + 1))) → J (nt_z s') (nI (d + 1)) (nt_na dd) (nt_na cc) (nt_za aa) (nt_na oo) net) : wY_total_112 post J (nI c) s (nI d) (nI (nt_dg m c d)) (nI N) (nI m) (nt_na dd) (nt_na cc) (nt_za aa) (nt_na oo) net := by
  obtain ⟨n1, n2, n3⟩ := ok.1
  obtain ⟨d1, d2, d3, d4, d5⟩ := ok.2.1 d hd
  have e0 : (nI d).toNatClampNeg = d := nI_clamp (by omega)
  have e1 : (nI (dd d)).toNatClampNeg = dd d := nI_clamp (by omega)
  have e2 : (nI (cc d)).toNatClampNeg = cc d := nI_clamp (by omega)
  have i0 : vp_in (nI d) 7 := vp_in_nI (by omega) (by omega)
  have i1 : vp_in (nI (dd d)) 5 := vp_in_nI (by omega) (by omega)
  have i2 : vp_in (nI (cc d)) 5 := vp_in_nI (by omega) (by omega)
  have ed : nt_na dd (nI d).toNatClampNeg = nI (dd d) := by rw [e0]; rfl
  have ec : nt_na cc (nI d).toNatClampNeg = nI (cc d) := by rw [e0]; rfl
  unfold wY_total_112
  rw [ed, ec, e1, e2]
  refine ⟨i0, i1, i1, nm_e ⟨i0, i2, i2, nm_e (nm_r hs (nm_r (nI_1 d) (H _ (fun f hf => ?_))))⟩⟩
  rw [nt_netS, ← nt_zn]
  by_cases a : f = cc d
  · subst a
    rw [pk_us, pk_un (fun z => d3 z.symm), hn _ hf, nt_zadd, if_pos rfl, if_neg d3, Int.sub_zero]
    rfl
  · rw [pk_un a, if_neg (fun z => a z.symm)]
    by_cases b : f = dd d
    · subst b
      rw [pk_us, hn _ hf, nt_zsub, if_pos rfl]
      exact congrArg nt_z (by show _ - nt_D m c d = _ + (0 - nt_D m c d); omega)
    · rw [pk_un b, hn _ hf, if_neg (fun z => b z.symm), Int.sub_zero, Int.add_zero]
theorem nt_Y42 (ok : nt_OK N m dd cc aa oo) {c : Nat} (hc : c < 4 ^ m) {post : Int32 → SY → Prop}
    (H1 : nt_Cl m dd cc (nt_rm dd cc aa oo) (nt_D m c) → ∀ net, post (nt_z (nt_S m c)) (nI N, nI m, nt_na dd, nt_na cc, nt_za aa, nt_na oo, net)) (H2 : ¬ nt_Cl m dd cc (nt_rm dd cc aa oo) (nt_D m c) → ∀ net, post (-1) (nI N, nI m, nt_na dd, nt_na cc, nt_za aa, nt_na oo, net)) :
    ∀ (e d n : Nat) (net : Nat → Int32), d + e = m → e < n → (∀ f, f < 5 → net f = nt_z (nt_net dd cc (nt_D m c) f d)) → (∀ i, i < d → nt_D m c i ≤ nt_rm dd cc aa oo i) →
      wY_total_42 post (nI c) (nI N) (nI m) n (nt_z (nt_sm (nt_D m c) d)) (nI d) (nt_na dd) (nt_na cc) (nt_za aa) (nt_na oo) net := by
  obtain ⟨n1, n2, n3⟩ := ok.1
  have hp := (nt_pow4 n3).2
  intro e
  induction e with
  | zero =>
    intro d n net hd hn hne hdg
    obtain ⟨k, rfl⟩ : ∃ k, n = k + 1 := ⟨n - 1, by omega⟩
    obtain rfl : d = m := by omega
    refine br_t (nI_le (Nat.le_refl _) (by omega)) ⟨6, ?_⟩
    refine nt_Y157 (nf := fun f => nt_net dd cc (nt_D d c) f d) (fun f hf => ?_) (fun hz => ?_) (fun hz => ?_) 5 0 6 (by omega) (by omega) (fun f hf => absurd hf (Nat.not_lt_zero _))
    · have := nt_netL (dd := dd) (cc := cc) (x := nt_D d c) f d (fun i _ => nt_DL d c i)
      exact ⟨hne f hf, by omega, by omega⟩
    · refine H1 ⟨fun i hi => ⟨(nt_DL d c i).1, hdg i hi⟩, nt_coI (N := 5) (fun i hi => ?_) hz⟩ net
      have := ok.2.1 i hi
      omega
    · obtain ⟨f, hf, z⟩ := hz
      exact H2 (fun hcl => z (nt_coE hcl.2 f)) net
  | succ e ih =>
    intro d n net hd hn hne hdg
    obtain ⟨k, rfl⟩ : ∃ k, n = k + 1 := ⟨n - 1, by omega⟩
    have hdm : d < m := by omega
    obtain ⟨d1, d2, d3, d4, d5⟩ := ok.2.1 d hdm
    have z1 := ok.2.2 (dd d)
    have z2 := ok.2.2 (cc d)
    have g1 := nt_DL m c d
    have e0 : (nI d).toNatClampNeg = d := nI_clamp (by omega)
    have e1 : (nI (dd d)).toNatClampNeg = dd d := nI_clamp (by omega)
    have e2 : (nI (cc d)).toNatClampNeg = cc d := nI_clamp (by omega)
    have i0 : vp_in (nI d) 7 := vp_in_nI (by omega) (by omega)
    have i1 : vp_in (nI (dd d)) 5 := vp_in_nI (by omega) (by omega)
    have i2 : vp_in (nI (cc d)) 5 := vp_in_nI (by omega) (by omega)
    have book : nt_D m c d ≤ nt_rm dd cc aa oo d → wY_total_112 post (wY_total_42 post (nI c) (nI N) (nI m) k) (nI c) (nt_z (nt_sm (nt_D m c) d)) (nI d) (nI (nt_dg m c d)) (nI N) (nI m) (nt_na dd) (nt_na cc) (nt_za aa) (nt_na oo) net := by
      intro hle
      refine nt_Y112 ok hdm (s' := nt_sm (nt_D m c) (d + 1)) ?_ hne (fun net' hn' => ih (d + 1) k net' (by omega) (by omega) hn' (fun i hi => ?_))
      · rw [← nt_zn, nt_zadd]; rfl
      · by_cases e : i = d
        · rw [e]; exact hle
        · exact hdg i (by omega)
    have bad : ¬ nt_D m c d ≤ nt_rm dd cc aa oo d → post (-1) (nI N, nI m, nt_na dd, nt_na cc, nt_za aa, nt_na oo, net) := fun h => H2 (fun hcl => h (hcl.1 d hdm).2) net
    refine br_f (nI_ge (by omega) (by omega)) (br_f (nI_ge (b := 7) (by omega) (by decide)) ?_)
    refine nt_Ydigit n3 (by omega) hdm ⟨i0, ?_⟩
    have ed : nt_na dd (nI d).toNatClampNeg = nI (dd d) := by rw [e0]; rfl
    have ec : nt_na cc (nI d).toNatClampNeg = nI (cc d) := by rw [e0]; rfl
    have ea : nt_za aa (nI d).toNatClampNeg = nt_z (aa d) := by rw [e0]; rfl
    have er : nI (nt_dg m c d) = nt_z (nt_D m c d) := (nt_zn _).symm
    rw [ed, ec, ea, e1, e2]
    by_cases a : nt_D m c d ≤ aa d
    · refine br_t (by rw [er]; exact (nt_zle (by omega) (by omega) (by omega) (by omega)).mpr a) ?_
      by_cases b : nt_D m c d ≤ 0
      · refine br_t (by rw [er]; exact (nt_zle0 (by omega) (by omega)).mpr b) (book ?_)
        have := (nt_rmL ok hdm).1
        omega
      · refine br_f (fun y => b ((nt_zle0 (by omega) (by omega)).mp (by rw [← er]; exact y))) ⟨i0, i1, ?_⟩
        by_cases o1 : oo (dd d) = 0
        · refine br_t (by show nI (oo (dd d)) = 0; rw [o1]; exact nI_0) ⟨i0, i2, ?_⟩
          by_cases o2 : oo (cc d) = 0
          · refine br_t (by show nI (oo (cc d)) = 0; rw [o2]; exact nI_0) (book ?_)
            unfold nt_rm
            rw [if_pos ⟨o1, o2⟩]
            exact a
          · refine br_f (by show ¬ nI (oo (cc d)) = 0; rw [nt_n0 (by omega)]; exact o2) (bad ?_)
            unfold nt_rm
            rw [if_neg (fun z => o2 z.2)]
            exact b
        · refine br_f (by show ¬ nI (oo (dd d)) = 0; rw [nt_n0 (by omega)]; exact o1) (bad ?_)
          unfold nt_rm
          rw [if_neg (fun z => o1 z.1)]
          exact b
    · refine br_f (fun y => a ((nt_zle (by omega) (by omega) (by omega) (by omega)).mp (by rw [← er]; exact y))) (bad ?_)
      have := (nt_rmL ok hdm).2.2
      omega
theorem nt_Ytot (ok : nt_OK N m dd cc aa oo) (p0 : Int32) {post : Int32 → SY → Prop}
    (H1 : ∀ c, c < 4 ^ m → p0 = nI c → nt_Cl m dd cc (nt_rm dd cc aa oo) (nt_D m c) → ∀ net, post (nt_z (nt_S m c)) (nI N, nI m, nt_na dd, nt_na cc, nt_za aa, nt_na oo, net))
    (H2 : (∀ c, c < 4 ^ m → p0 = nI c → ¬ nt_Cl m dd cc (nt_rm dd cc aa oo) (nt_D m c)) → ∀ net, post (-1) (nI N, nI m, nt_na dd, nt_na cc, nt_za aa, nt_na oo, net)) : wpY_total post (nI N, nI m, nt_na dd, nt_na cc, nt_za aa, nt_na oo, net) p0 := by
  obtain ⟨n1, n2, n3⟩ := ok.1
  have hp := (nt_pow4 n3).2
  unfold wpY_total
  dsimp only
  by_cases h0 : p0 < 0
  · exact br_t h0 (H2 (fun c hc e => absurd h0 (by rw [e]; exact nI_pos (by omega))) net)
  · refine br_f h0 ?_
    obtain ⟨c, hc31, rfl⟩ := nI_of h0
    rw [nt_sh4 m (by omega)]
    by_cases hc : c < 4 ^ m
    · refine br_t (nI_lt hc (by omega)) ?_
      have key : ∀ (e i n : Nat) (net : Nat → Int32), i + e = 5 → e < n → (∀ f, f < i → net f = 0) → wY_total_20 post (nI c) (nI N) (nI m) n (nI i) (nt_na dd) (nt_na cc) (nt_za aa) (nt_na oo) net := by
        intro e
        induction e with
        | zero =>
          intro i n net hi hn hz
          obtain ⟨k, rfl⟩ : ∃ k, n = k + 1 := ⟨n - 1, by omega⟩
          obtain rfl : i = 5 := by omega
          refine br_t (nI_le (a := 5) (b := 5) (Nat.le_refl _) (by omega)) ⟨m + 1, ?_⟩
          have := nt_Y42 (post := post) ok hc (fun h => H1 c hc rfl h) (fun h => H2 (fun c' hc' e => by
            rw [nI_eq (by omega) (by omega)] at e
            subst e
            exact h)) m 0 (m + 1) net (by omega) (by omega) (fun f hf => by rw [hz f hf]; exact nt_z0.symm) (fun i hi => absurd hi (Nat.not_lt_zero _))
          rw [nt_sm0, nt_z0] at this
          exact this
        | succ e ih =>
          intro i n net hi hn hz
          obtain ⟨k, rfl⟩ : ∃ k, n = k + 1 := ⟨n - 1, by omega⟩
          have i0 : vp_in (nI i) 5 := vp_in_nI (by omega) (by omega)
          refine br_f (nI_ge (b := 5) (by omega) (by decide)) ⟨i0, nm_e (nm_r (nI_1 i) ?_)⟩
          refine ih (i + 1) k _ (by omega) (by omega) (fun f hf => ?_)
          rw [nI_clamp (by omega)]
          by_cases e : f = i
          · rw [e, pk_us]
          · rw [pk_un e]; exact hz f (by omega)
      exact ⟨6, key 5 0 6 net (by omega) (by omega) (fun f hf => absurd hf (Nat.not_lt_zero _))⟩
    · refine br_f (nI_nlt (by omega) (by omega)) (H2 (fun c' hc' e => ?_) net)
      rw [nI_eq (by omega) (by omega)] at e
      omega
end
end
section
/-! the reference's searches -/
section
variable {N m : Nat} {dd cc : Nat → Nat} {aa : Nat → Int} {oo : Nat → Nat} {net : Nat → Int32}
theorem nt_clz (ok : nt_OK N m dd cc aa oo) : nt_Cl m dd cc (nt_rm dd cc aa oo) (nt_D m 0) :=
  nt_clE (x := fun _ => 0) (fun d _ => (nt_D0 m d).symm) (nt_cl0 (fun d hd => (nt_rmL ok hd).1))
theorem nt_S0 (m : Nat) : nt_S m 0 = 0 := nt_smZ m (fun d _ => nt_D0 m d)
/-- total at a code below 4^m -/
theorem nt_YtotN (ok : nt_OK N m dd cc aa oo) {c : Nat} (hc : c < 4 ^ m) {post : Int32 → SY → Prop}
    (H1 : nt_Cl m dd cc (nt_rm dd cc aa oo) (nt_D m c) → ∀ net, post (nt_z (nt_S m c)) (nI N, nI m, nt_na dd, nt_na cc, nt_za aa, nt_na oo, net))
    (H2 : ¬ nt_Cl m dd cc (nt_rm dd cc aa oo) (nt_D m c) → ∀ net, post (-1) (nI N, nI m, nt_na dd, nt_na cc, nt_za aa, nt_na oo, net)) : wpY_total post (nI N, nI m, nt_na dd, nt_na cc, nt_za aa, nt_na oo, net) (nI c) := by
  have hp := (nt_pow4 ok.1.2.2).2
  refine nt_Ytot ok (nI c) (fun c' hc' e h net => ?_) (fun h net => H2 (h c hc rfl) net)
  rw [nI_eq (by omega) (by omega)] at e
  subst e
  exact H1 h net
theorem nt_Ysearch (ok : nt_OK N m dd cc aa oo) {post : Int32 → SY → Prop} (H : ∀ (c : Nat) (net : Nat → Int32), nt_Best m dd cc (nt_rm dd cc aa oo) c → post (nI c) (nI N, nI m, nt_na dd, nt_na cc, nt_za aa, nt_na oo, net)) : wpY_search post (nI N, nI m, nt_na dd, nt_na cc, nt_za aa, nt_na oo, net) := by
  obtain ⟨n1, n2, n3⟩ := ok.1
  obtain ⟨hp0, hp⟩ := nt_pow4 n3
  have key : ∀ (e k n c : Nat) (net : Nat → Int32), k + e = 4 ^ m → e < n → c < 4 ^ m → c ≤ k → nt_Cl m dd cc (nt_rm dd cc aa oo) (nt_D m c) →
      (∀ j, j < k → nt_Cl m dd cc (nt_rm dd cc aa oo) (nt_D m j) → nt_S m j < nt_S m c ∨ (nt_S m j = nt_S m c ∧ c ≤ j)) → wY_search_6 post n (nI c) (nt_z (nt_S m c)) (nI k) (nI N) (nI m) (nt_na dd) (nt_na cc) (nt_za aa) (nt_na oo) net := by
    intro e
    induction e with
    | zero =>
      intro k n c net hk hn hc hck hcl hb
      obtain ⟨n, rfl⟩ : ∃ j, n = j + 1 := ⟨n - 1, by omega⟩
      exact br_t (by rw [nt_sh4 m (by omega)]; exact nI_le (by omega) (by omega)) (H c net ⟨hc, hcl, fun j hj => hb j (by omega)⟩)
    | succ e ih =>
      intro k n c net hk hn hc hck hcl hb
      obtain ⟨n, rfl⟩ : ∃ j, n = j + 1 := ⟨n - 1, by omega⟩
      have s1 := nt_SL m c
      have s2 := nt_SL m k
      refine br_f (by rw [nt_sh4 m (by omega)]; exact nI_ge (by omega) (by omega)) ?_
      refine nt_YtotN ok (c := k) (by omega) (fun h net => ?_) (fun h net => ?_)
      · by_cases z : nt_S m k ≤ nt_S m c
        · refine br_t ((nt_zle (by omega) (by omega) (by omega) (by omega)).mpr z) (nm_r (nI_1 k) (ih (k + 1) n c net (by omega) (by omega) hc (by omega) hcl (fun j hj hj' => ?_)))
          by_cases e : j = k
          · subst e; omega
          · exact hb j (by omega) hj'
        · refine br_f (fun y => z ((nt_zle (by omega) (by omega) (by omega) (by omega)).mp y)) (nm_r (nI_1 k) (ih (k + 1) n k net (by omega) (by omega) (by omega) (by omega) h (fun j hj hj' => ?_)))
          by_cases e : j = k
          · subst e; omega
          · have := hb j (by omega) hj'
            omega
      · refine br_t ?_ (nm_r (nI_1 k) (ih (k + 1) n c net (by omega) (by omega) hc (by omega) hcl (fun j hj hj' => ?_)))
        · rw [← nt_zm1]
          exact (nt_zle (by omega) (by omega) (by omega) (by omega)).mpr (by omega)
        · by_cases e : j = k
          · subst e; exact absurd hj' h
          · exact hb j (by omega) hj'
  unfold wpY_search
  have := key (4 ^ m) 0 (4 ^ m + 1) 0 net (by omega) (by omega) hp0 (Nat.le_refl _) (nt_clz ok) (fun j hj => absurd hj (Nat.not_lt_zero _))
  rw [nt_S0, nt_z0] at this
  exact ⟨4 ^ m + 1, this⟩
theorem nt_Ygreatest (ok : nt_OK N m dd cc aa oo) {post : Int32 → SY → Prop} (H : ∀ (c : Nat) (net : Nat → Int32), nt_Best m dd cc (nt_rm dd cc aa oo) c → post (nt_z (nt_S m c)) (nI N, nI m, nt_na dd, nt_na cc, nt_za aa, nt_na oo, net)) : wpY_greatest post (nI N, nI m, nt_na dd, nt_na cc, nt_za aa, nt_na oo, net) := by
  unfold wpY_greatest
  refine nt_Ysearch ok (fun c net hb => ?_)
  exact nt_YtotN ok hb.1 (fun _ net => H c net hb) (fun h => absurd hb.2.1 h)
theorem nt_Ymost14 (ok : nt_OK N m dd cc aa oo) {d : Nat} (hd : d < m) {post : Int32 → SY → Prop} (H : ∀ (v : Int) (net : Nat → Int32), nt_Most m dd cc (nt_rm dd cc aa oo) d v → post (nt_z v) (nI N, nI m, nt_na dd, nt_na cc, nt_za aa, nt_na oo, net)) : ∃ n, wY_most_14 post (nI d) n 0 0 (nI N) (nI m) (nt_na dd) (nt_na cc) (nt_za aa) (nt_na oo) net := by
  obtain ⟨n1, n2, n3⟩ := ok.1
  obtain ⟨hp0, hp⟩ := nt_pow4 n3
  have key : ∀ (e k n : Nat) (v : Int) (net : Nat → Int32), k + e = 4 ^ m → e < n → 0 ≤ v → v ≤ 3 → (∃ c, c < 4 ^ m ∧ nt_Cl m dd cc (nt_rm dd cc aa oo) (nt_D m c) ∧ nt_D m c d = v) →
      (∀ j, j < k → nt_Cl m dd cc (nt_rm dd cc aa oo) (nt_D m j) → nt_D m j d ≤ v) → wY_most_14 post (nI d) n (nt_z v) (nI k) (nI N) (nI m) (nt_na dd) (nt_na cc) (nt_za aa) (nt_na oo) net := by
    intro e
    induction e with
    | zero =>
      intro k n v net hk hn v0 v3 hv hb
      obtain ⟨n, rfl⟩ : ∃ j, n = j + 1 := ⟨n - 1, by omega⟩
      exact br_t (by rw [nt_sh4 m (by omega)]; exact nI_le (by omega) (by omega)) (H v net ⟨hv, fun j hj => hb j (by omega)⟩)
    | succ e ih =>
      intro k n v net hk hn v0 v3 hv hb
      obtain ⟨n, rfl⟩ : ∃ j, n = j + 1 := ⟨n - 1, by omega⟩
      have g1 := nt_DL m k d
      have er : nI (nt_dg m k d) = nt_z (nt_D m k d) := (nt_zn _).symm
      refine br_f (by rw [nt_sh4 m (by omega)]; exact nI_ge (by omega) (by omega)) ?_
      refine nt_Ydigit n3 (by omega) hd ?_
      rw [er]
      by_cases z : nt_D m k d ≤ v
      · refine br_t ((nt_zle (by omega) (by omega) (by omega) (by omega)).mpr z) (nm_r (nI_1 k) (ih (k + 1) n v net (by omega) (by omega) v0 v3 hv (fun j hj hj' => ?_)))
        by_cases e : j = k
        · subst e; exact z
        · exact hb j (by omega) hj'
      · refine br_f (fun y => z ((nt_zle (by omega) (by omega) (by omega) (by omega)).mp y)) ?_
        refine nt_YtotN ok (c := k) (by omega) (fun h net => ?_) (fun h net => ?_)
        · have s2 := nt_SL m k
          refine br_f (fun y => ?_) (nm_r (nI_1 k) (ih (k + 1) n (nt_D m k d) net (by omega) (by omega) g1.1 g1.2 ⟨k, by omega, h, rfl⟩ (fun j hj hj' => ?_)))
          · have := (nt_zlt0 (by omega) (by omega)).mp y
            omega
          · by_cases e : j = k
            · subst e; exact Int.le_refl _
            · have := hb j (by omega) hj'
              omega
        · refine br_t (by decide) (nm_r (nI_1 k) (ih (k + 1) n v net (by omega) (by omega) v0 v3 hv (fun j hj hj' => ?_)))
          by_cases e : j = k
          · subst e; exact absurd hj' h
          · exact hb j (by omega) hj'
  have := key (4 ^ m) 0 (4 ^ m + 1) 0 net (by omega) (by omega) (by omega) (by omega) ⟨0, hp0, nt_clz ok, nt_D0 m d⟩ (fun j hj => absurd hj (Nat.not_lt_zero _))
  rw [nt_z0] at this
  exact ⟨4 ^ m + 1, this⟩
/-- amounts less strikes, the first k debts -/
def nt_su (a x : Nat → Int) (k : Nat) (j : Nat) : Int := if j < k then a j - x j else a j
theorem nt_su0 (a x : Nat → Int) : nt_su a x 0 = a := funext fun j => if_neg (Nat.not_lt_zero j)
theorem nt_suS (a x : Nat → Int) (k : Nat) : nt_u (nt_su a x k) k (a k - x k) = nt_su a x (k + 1) := by
  funext j
  by_cases e : j = k
  · rw [e, nt_us]
    exact (if_pos (by omega)).symm
  · rw [nt_un e]
    unfold nt_su
    by_cases z : j < k
    · rw [if_pos z, if_pos (by omega)]
    · rw [if_neg z, if_neg (by omega)]
theorem nt_suE {a x y : Nat → Int} {k : Nat} (h : ∀ j, j < k → x j = y j) : nt_su a x k = nt_su a y k := by
  funext j
  unfold nt_su
  by_cases z : j < k
  · rw [if_pos z, if_pos z, h j z]
  · rw [if_neg z, if_neg z]
theorem nt_suk (a x : Nat → Int) (k : Nat) : nt_su a x k k = a k := if_neg (Nat.lt_irrefl k)
/-- a sum of naturals that is 0 -/
theorem nt_smN {x : Nat → Int} : ∀ n : Nat, (∀ d, d < n → 0 ≤ x d) → 0 ≤ nt_sm x n ∧ (nt_sm x n ≤ 0 → ∀ d, d < n → x d = 0) := by
  intro n
  induction n with
  | zero => intro _; exact ⟨Int.le_refl _, fun _ d hd => absurd hd (Nat.not_lt_zero _)⟩
  | succ n ih =>
    intro h
    obtain ⟨h1, h2⟩ := ih (fun d hd => h d (by omega))
    have h3 := h n (by omega)
    rw [nt_smS]
    refine ⟨by omega, fun z d hd => ?_⟩
    by_cases e : d = n
    · subst e; omega
    · exact h2 (by omega) d (by omega)
theorem nt_Yperform (ok : nt_OK N m dd cc aa oo) (p0 : Int32) {post : Int32 → SY → Prop}
    (H1 : ∀ c, c < 4 ^ m → p0 = nI c → nt_Cl m dd cc (nt_rm dd cc aa oo) (nt_D m c) → ∀ net, post (nt_z (nt_S m c)) (nI N, nI m, nt_na dd, nt_na cc, nt_za (nt_su aa (nt_D m c) m), nt_na oo, net))
    (H2 : (∀ c, c < 4 ^ m → p0 = nI c → ¬ nt_Cl m dd cc (nt_rm dd cc aa oo) (nt_D m c)) → ∀ net, post (-1) (nI N, nI m, nt_na dd, nt_na cc, nt_za aa, nt_na oo, net)) : wpY_perform post (nI N, nI m, nt_na dd, nt_na cc, nt_za aa, nt_na oo, net) p0 := by
  obtain ⟨n1, n2, n3⟩ := ok.1
  obtain ⟨hp0, hp⟩ := nt_pow4 n3
  unfold wpY_perform
  refine nt_Ytot ok p0 (fun c hc e hcl net => ?_) (fun h net => ?_)
  · subst e
    have s1 := nt_SL m c
    have key : 0 < nt_S m c → ∀ e d n : Nat, d + e = m → e < n → wY_perform_8 post (nI c) (nt_z (nt_S m c)) (nI N) (nI m) n (nI d) (nt_na dd) (nt_na cc) (nt_za (nt_su aa (nt_D m c) d)) (nt_na oo) net := by
      intro hS e
      induction e with
      | zero =>
        intro d n hd hn
        obtain ⟨n, rfl⟩ : ∃ j, n = j + 1 := ⟨n - 1, by omega⟩
        obtain rfl : d = m := by omega
        exact br_t (nI_le (Nat.le_refl _) (by omega)) (H1 c hc rfl hcl net)
      | succ e ih =>
        intro d n hd hn
        obtain ⟨n, rfl⟩ : ∃ j, n = j + 1 := ⟨n - 1, by omega⟩
        have i0 : vp_in (nI d) 7 := vp_in_nI (by omega) (by omega)
        refine br_f (nI_ge (by omega) (by omega)) (br_f (nI_ge (b := 7) (by omega) (by decide)) (br_f (fun y => ?_) ⟨i0, ?_⟩))
        · have := (nt_zle0 (by omega) (by omega)).mp y
          omega
        · refine nt_Ydigit n3 (by omega) (by omega) ⟨i0, nm_r (e' := nt_za (nt_su aa (nt_D m c) (d + 1))) ?_ (nm_r (nI_1 d) (ih (d + 1) n (by omega) (by omega)))⟩
          rw [nI_clamp (by omega), ← nt_suS, ← nt_zaU, ← nt_zsub, ← nt_zn]
          show upd _ d (nt_z (nt_su aa (nt_D m c) d d) - _) = _
          rw [nt_suk]
          rfl
    by_cases hS : 0 < nt_S m c
    · have := key hS m 0 (m + 1) (by omega) (by omega)
      rw [nt_su0] at this
      exact ⟨m + 1, this⟩
    · have h0 := (nt_smN (x := nt_D m c) m (fun d _ => (nt_DL m c d).1)).2 (by unfold nt_S at hS; omega)
      have hsame : nt_su aa (nt_D m c) m = aa := by
        funext j
        unfold nt_su
        by_cases z : j < m
        · rw [if_pos z, h0 j z, Int.sub_zero]
        · rw [if_neg z]
      have h1 := H1 c hc rfl hcl net
      rw [hsame] at h1
      refine ⟨1, ?_⟩
      by_cases z : m = 0
      · exact br_t (by rw [z]; exact nI_le (a := 0) (b := 0) (Nat.le_refl _) (by omega)) h1
      · exact br_f (nI_ge (a := 0) (by omega) (by omega)) (br_f (nI_ge (a := 0) (b := 7) (by omega) (by decide)) (br_t ((nt_zle0 (by omega) (by omega)).mpr (by omega)) h1))
  · have h1 := H2 h net
    refine ⟨1, ?_⟩
    by_cases z : m = 0
    · exact br_t (by rw [z]; exact nI_le (a := 0) (b := 0) (Nat.le_refl _) (by omega)) h1
    · exact br_f (nI_ge (a := 0) (by omega) (by omega)) (br_f (nI_ge (a := 0) (b := 7) (by omega) (by decide)) (br_t (by decide) h1))
end
end
section
/-! load, and the component's sums -/
section
variable {N m : Nat} {dd cc : Nat → Nat} {aa : Nat → Int} {oo : Nat → Nat} {st lo le ar re : Nat → Int32} {x : Nat → Int}
/-- a firm's net, as load reckons it -/
theorem nt_Xload70 (ok : nt_OK N m dd cc aa oo) {f : Nat} (hf : f < N) {post : Int32 → SX → Prop} {J : Int32 → Prop} {x2 : Int32} (hx : ∀ d, d < m → 0 ≤ x d ∧ x d ≤ 3) (hr : ∀ d, d < m → re d = nt_z (x d))
    (K1 : nt_net dd cc x f m = 0 → J (nI (f + 1))) (K2 : nt_net dd cc x f m ≠ 0 → post 0 (nI N, nI m, nt_na dd, nt_na cc, nt_za aa, st, lo, nt_na oo, le, ar, re)) :
    ∀ e d n : Nat, d + e = m → e < n → wX_load_70 post J x2 (nI f) (nI N) (nI m) (nt_na dd) (nt_na cc) (nt_za aa) st lo (nt_na oo) le ar re n (nt_z (nt_net dd cc x f d)) (nI d) := by
  obtain ⟨n1, n2, n3⟩ := ok.1
  intro e
  induction e with
  | zero =>
    intro d n hd hn
    obtain ⟨n, rfl⟩ : ∃ j, n = j + 1 := ⟨n - 1, by omega⟩
    obtain rfl : d = m := by omega
    have hl := nt_netL (dd := dd) (cc := cc) f d hx
    refine br_t (nI_le (Nat.le_refl _) (by omega)) ?_
    by_cases z : nt_net dd cc x f d = 0
    · exact br_t (by rw [z]; exact nt_z0) (nm_r (nI_1 f) (K1 z))
    · exact br_f (fun y => z ((nt_zeq0 (by omega) (by omega)).mp y)) (K2 z)
  | succ e ih =>
    intro d n hd hn
    obtain ⟨n, rfl⟩ : ∃ j, n = j + 1 := ⟨n - 1, by omega⟩
    obtain ⟨d1, d2, d3, d4, d5⟩ := ok.2.1 d (by omega)
    have e0 : (nI d).toNatClampNeg = d := nI_clamp (by omega)
    have i0 : vp_in (nI d) 7 := vp_in_nI (by omega) (by omega)
    have ed : nt_na dd (nI d).toNatClampNeg = nI (dd d) := by rw [e0]; rfl
    have ec : nt_na cc (nI d).toNatClampNeg = nI (cc d) := by rw [e0]; rfl
    have er : re (nI d).toNatClampNeg = nt_z (x d) := by rw [e0]; exact hr d (by omega)
    have rest : ∀ (z : Int32) (t : Int), z = nt_z t → t = (if cc d = f then x d else 0) → wX_load_103 post J (wX_load_70 post J x2 (nI f) (nI N) (nI m) (nt_na dd) (nt_na cc) (nt_za aa) st lo (nt_na oo) le ar re n) x2 (nI f) (nI d) z (nt_z (nt_net dd cc x f d)) (nI N) (nI m) (nt_na dd) (nt_na cc) (nt_za aa) st lo (nt_na oo) le ar re := by
      intro z t hz ht
      unfold wX_load_103
      rw [ed, er, hz]
      refine nm_r (nt_zadd _ _) ⟨i0, ?_⟩
      by_cases b : dd d = f
      · refine br_t (by rw [b]) ⟨i0, nm_r (e' := nt_z (nt_net dd cc x f (d + 1))) ?_ (nm_r (nI_1 d) (ih (d + 1) n (by omega) (by omega)))⟩
        rw [nt_zsub, nt_netS, ht, if_pos b]
        exact congrArg nt_z (by omega)
      · refine br_f (by rw [nI_eq (by omega) (by omega)]; exact b) (nm_r (e' := nt_z (nt_net dd cc x f (d + 1))) ?_ (nm_r (nI_1 d) (ih (d + 1) n (by omega) (by omega))))
        rw [← nt_z0, nt_zsub, nt_netS, ht, if_neg b]
        exact congrArg nt_z (by omega)
    refine br_f (nI_ge (by omega) (by omega)) ⟨i0, ?_⟩
    rw [ec, er]
    by_cases a : cc d = f
    · exact br_t (by rw [a]) ⟨i0, rest _ _ rfl (by rw [if_pos a])⟩
    · exact br_f (by rw [nI_eq (by omega) (by omega)]; exact a) (rest _ 0 nt_z0.symm (by rw [if_neg a]))
theorem nt_Xload56 (ok : nt_OK N m dd cc aa oo) {post : Int32 → SX → Prop} {x2 : Int32} (hx : ∀ d, d < m → 0 ≤ x d ∧ x d ≤ 3) (hr : ∀ d, d < m → re d = nt_z (x d))
    (K1 : (∀ f, f < N → nt_net dd cc x f m = 0) → (x2 = 0 → post 1 (nI N, nI m, nt_na dd, nt_na cc, nt_za aa, st, lo, nt_na oo, le, ar, re)) ∧ (¬ x2 = 0 → post 0 (nI N, nI m, nt_na dd, nt_na cc, nt_za aa, st, lo, nt_na oo, le, ar, re))) (K2 : (∃ f, f < N ∧ nt_net dd cc x f m ≠ 0) → post 0 (nI N, nI m, nt_na dd, nt_na cc, nt_za aa, st, lo, nt_na oo, le, ar, re)) :
    ∀ e f n : Nat, f + e = N → e < n → (∀ i, i < f → nt_net dd cc x i m = 0) → wX_load_56 post x2 (nI N) (nI m) (nt_na dd) (nt_na cc) (nt_za aa) st lo (nt_na oo) le ar re n (nI f) := by
  obtain ⟨n1, n2, n3⟩ := ok.1
  intro e
  induction e with
  | zero =>
    intro f n hf hn hz
    obtain ⟨n, rfl⟩ : ∃ j, n = j + 1 := ⟨n - 1, by omega⟩
    obtain rfl : f = N := by omega
    exact br_t (nI_le (Nat.le_refl _) (by omega)) (K1 hz)
  | succ e ih =>
    intro f n hf hn hz
    obtain ⟨n, rfl⟩ : ∃ j, n = j + 1 := ⟨n - 1, by omega⟩
    refine br_f (nI_ge (by omega) (by omega)) ⟨m + 1, ?_⟩
    have h := nt_Xload70 (post := post) (J := wX_load_56 post x2 (nI N) (nI m) (nt_na dd) (nt_na cc) (nt_za aa) st lo (nt_na oo) le ar re n) (x2 := x2) ok (f := f) (by omega) hx hr (fun z => ih (f + 1) n (by omega) (by omega) (fun i hi => by
      by_cases e : i = f
      · rw [e]; exact z
      · exact hz i (by omega))) (fun z => K2 ⟨f, by omega, z⟩) m 0 (m + 1) (by omega) (by omega)
    have e0 : nt_z (nt_net dd cc x f 0) = 0 := nt_z0
    rw [e0] at h
    exact h
theorem nt_Xload (ok : nt_OK N m dd cc aa oo) (p0 : Int32) {post : Int32 → SX → Prop}
    (H1 : ∀ c, c < 4 ^ m → p0 = nI c → nt_Cl m dd cc (nt_rm dd cc aa oo) (nt_D m c) → ∀ re : Nat → Int32, (∀ d, d < m → re d = nt_z (nt_D m c d)) → post 1 (nI N, nI m, nt_na dd, nt_na cc, nt_za aa, st, lo, nt_na oo, le, ar, re))
    (H2 : (∀ c, c < 4 ^ m → p0 = nI c → ¬ nt_Cl m dd cc (nt_rm dd cc aa oo) (nt_D m c)) → ∀ re, post 0 (nI N, nI m, nt_na dd, nt_na cc, nt_za aa, st, lo, nt_na oo, le, ar, re)) : wpX_load post (nI N, nI m, nt_na dd, nt_na cc, nt_za aa, st, lo, nt_na oo, le, ar, re) p0 := by
  obtain ⟨n1, n2, n3⟩ := ok.1
  have hp := (nt_pow4 n3).2
  have h4 : 2 ^ (2 * m) = 4 ^ m := Nat.pow_mul 2 2 m
  unfold wpX_load
  dsimp only
  by_cases h0 : 0 ≤ p0
  · refine br_t h0 ?_
    obtain ⟨c, hc31, rfl⟩ := nI_of (x := p0) (Int32.not_lt.mpr h0)
    have key : ∀ (j n : Nat) (re : Nat → Int32), j ≤ m → j < n → (∀ d, j ≤ d → d < m → re d = nt_z (nt_D m c d) ∧ nt_D m c d ≤ nt_rm dd cc aa oo d) → wX_load_15 post (nI N) (nI m) n (nI (c / 2 ^ (2 * (m - j)))) (nt_z ((j : Int) - 1)) (nt_na dd) (nt_na cc) (nt_za aa) st lo (nt_na oo) le ar re := by
      intro j
      induction j with
      | zero =>
        intro n re hj hn hd
        obtain ⟨n, rfl⟩ : ∃ j, n = j + 1 := ⟨n - 1, by omega⟩
        have hle : c / 2 ^ (2 * (m - 0)) ≤ c := Nat.div_le_self _ _
        refine br_t (by decide) ⟨N + 1, ?_⟩
        refine nt_Xload56 (x := nt_D m c) ok (fun d _ => nt_DL m c d) (fun d hdm => (hd d (Nat.zero_le _) hdm).1) (fun hz => ?_) (fun hz => ?_) N 0 (N + 1) (by omega) (by omega) (fun f hf => absurd hf (Nat.not_lt_zero _))
        · rw [nt_n0 (by omega), Nat.sub_zero, h4]
          refine ⟨fun hq => ?_, fun hq => ?_⟩
          · have hc : c < 4 ^ m := (Nat.div_eq_zero_iff_lt (nt_pow4 n3).1).mp hq
            exact H1 c hc rfl ⟨fun d hdm => ⟨(nt_DL m c d).1, (hd d (Nat.zero_le _) hdm).2⟩, nt_coI (N := N) (fun d hdm => ⟨(ok.2.1 d hdm).1, (ok.2.1 d hdm).2.1⟩) hz⟩ re (fun d hdm => (hd d (Nat.zero_le _) hdm).1)
          · refine H2 (fun c' hc' e => ?_) re
            rw [nI_eq (by omega) (by omega)] at e
            subst e
            exact absurd (Nat.div_eq_of_lt hc') hq
        · obtain ⟨f, hf, z⟩ := hz
          refine H2 (fun c' hc' e hcl => ?_) re
          rw [nI_eq (by omega) (by omega)] at e
          subst e
          exact z (nt_coE hcl.2 f)
      | succ j ih =>
        intro n re hj hn hd
        obtain ⟨n, rfl⟩ : ∃ j, n = j + 1 := ⟨n - 1, by omega⟩
        have hle : c / 2 ^ (2 * (m - (j + 1))) ≤ c := Nat.div_le_self _ _
        have e0 : (nI j).toNatClampNeg = j := nI_clamp (by omega)
        have i0 : vp_in (nI j) 7 := vp_in_nI (by omega) (by omega)
        have ej : nt_z (((j + 1 : Nat) : Int) - 1) = nI j := by
          rw [← nt_zn]
          exact congrArg nt_z (by omega)
        have eg : c / 2 ^ (2 * (m - (j + 1))) % 4 = nt_dg m c j := by
          unfold nt_dg
          rw [show m - (j + 1) = m - 1 - j from by omega]
        have ea : nI (c / 2 ^ (2 * (m - (j + 1)))) &&& 3 = nt_z (nt_D m c j) := by
          rw [pk_andN (by omega) 2 (by decide)]
          show nI (c / 2 ^ (2 * (m - (j + 1))) % 4) = _
          rw [eg]
          exact (nt_zn _).symm
        have es : nI (c / 2 ^ (2 * (m - (j + 1)))) >>> ((2 : Int32) &&& 31) = nI (c / 2 ^ (2 * (m - j))) := by
          rw [pk_shrN (by omega) _ 2 (by decide), Nat.div_div_eq_div_mul, ← Nat.pow_add]
          rw [show 2 * (m - (j + 1)) + 2 = 2 * (m - j) from by omega]
        have g1 := nt_DL m c j
        have g2 := nt_rmL ok (d := j) (by omega)
        rw [ej]
        refine br_f (nI_pos (by omega)) ⟨i0, ?_⟩
        rw [e0, ea]
        refine nm_e (nm_r es ⟨i0, nt_Xroom ok (by omega) ?_⟩)
        rw [pk_us]
        by_cases z : nt_D m c j ≤ nt_rm dd cc aa oo j
        · refine br_t ((nt_zle (by omega) (by omega) (by omega) (by omega)).mpr z) (nm_r (e' := nt_z ((j : Int) - 1)) ?_ (ih n _ (by omega) (by omega) (fun d hjd hdm => ?_)))
          · rw [← nt_zn, ← nt_zm1, nt_zadd]
            rfl
          · by_cases e : d = j
            · subst e
              exact ⟨pk_us, z⟩
            · rw [pk_un e]
              exact hd d (by omega) hdm
        · refine br_f (fun y => z ((nt_zle (by omega) (by omega) (by omega) (by omega)).mp y)) (H2 (fun c' hc' e hcl => ?_) _)
          rw [nI_eq (by omega) (by omega)] at e
          subst e
          exact z (hcl.1 j (by omega)).2
    have h := key m (m + 1) re (Nat.le_refl _) (by omega) (fun d h1 h2 => by omega)
    rw [Nat.sub_self, Nat.mul_zero, Nat.pow_zero, Nat.div_one] at h
    refine nm_r (e' := nt_z ((m : Int) - 1)) ?_ ⟨m + 1, h⟩
    rw [← nt_zsub, nt_zn, nt_z1]
  · exact br_f h0 (H2 (fun c hc e => absurd (nI_pos' (n := c) (by omega)) (by rw [← e]; exact h0)) re)
/-- what clear does behind solve -/
theorem nt_Xclear9 {post : Int32 → SX → Prop} (hm : m ≤ 7) (H : post (nt_z (nt_sm x m)) (nI N, nI m, nt_na dd, nt_na cc, nt_za (nt_su aa x m), nt_za x, lo, nt_na oo, le, ar, re)) :
    ∃ n, wX_clear_9 post (nI N) (nI m) n 0 0 (nt_na dd) (nt_na cc) (nt_za aa) (nt_za x) lo (nt_na oo) le ar re := by
  have key : ∀ e d n : Nat, d + e = m → e < n → wX_clear_9 post (nI N) (nI m) n (nt_z (nt_sm x d)) (nI d) (nt_na dd) (nt_na cc) (nt_za (nt_su aa x d)) (nt_za x) lo (nt_na oo) le ar re := by
    intro e
    induction e with
    | zero =>
      intro d n hd hn
      obtain ⟨n, rfl⟩ : ∃ j, n = j + 1 := ⟨n - 1, by omega⟩
      obtain rfl : d = m := by omega
      exact br_t (nI_le (Nat.le_refl _) (by omega)) H
    | succ e ih =>
      intro d n hd hn
      obtain ⟨n, rfl⟩ : ∃ j, n = j + 1 := ⟨n - 1, by omega⟩
      have i0 : vp_in (nI d) 7 := vp_in_nI (by omega) (by omega)
      refine br_f (nI_ge (by omega) (by omega)) ⟨i0, i0, i0, nm_r (e' := nt_za (nt_su aa x (d + 1))) ?_ ⟨i0, nm_r (e' := nt_z (nt_sm x (d + 1))) ?_ (nm_r (nI_1 d) (ih (d + 1) n (by omega) (by omega)))⟩⟩
      · rw [nI_clamp (by omega), ← nt_suS, ← nt_zaU, ← nt_zsub]
        show upd _ d (nt_z (nt_su aa x d d) - _) = _
        rw [nt_suk]
        rfl
      · rw [nI_clamp (by omega), nt_smS, ← nt_zadd]
        rfl
  have h := key m 0 (m + 1) (by omega) (by omega)
  rw [nt_su0, nt_sm0, nt_z0] at h
  exact ⟨m + 1, h⟩
theorem nt_Xcarry14 {post : Int32 → SX → Prop} (hm : m ≤ 7) (hr : ∀ d, d < m → re d = nt_z (x d)) (H : post (nt_z (nt_sm x m)) (nI N, nI m, nt_na dd, nt_na cc, nt_za (nt_su aa x m), st, lo, nt_na oo, le, ar, re)) :
    ∃ n, wX_carryOut_14 post (nI N) (nI m) n 0 0 (nt_na dd) (nt_na cc) (nt_za aa) st lo (nt_na oo) le ar re := by
  have key : ∀ e d n : Nat, d + e = m → e < n → wX_carryOut_14 post (nI N) (nI m) n (nt_z (nt_sm x d)) (nI d) (nt_na dd) (nt_na cc) (nt_za (nt_su aa x d)) st lo (nt_na oo) le ar re := by
    intro e
    induction e with
    | zero =>
      intro d n hd hn
      obtain ⟨n, rfl⟩ : ∃ j, n = j + 1 := ⟨n - 1, by omega⟩
      obtain rfl : d = m := by omega
      exact br_t (nI_le (Nat.le_refl _) (by omega)) H
    | succ e ih =>
      intro d n hd hn
      obtain ⟨n, rfl⟩ : ∃ j, n = j + 1 := ⟨n - 1, by omega⟩
      have i0 : vp_in (nI d) 7 := vp_in_nI (by omega) (by omega)
      refine br_f (nI_ge (by omega) (by omega)) ⟨i0, i0, i0, nm_r (e' := nt_za (nt_su aa x (d + 1))) ?_ ⟨i0, nm_r (e' := nt_z (nt_sm x (d + 1))) ?_ (nm_r (nI_1 d) (ih (d + 1) n (by omega) (by omega)))⟩⟩
      · rw [nI_clamp (by omega), hr d (by omega), ← nt_suS, ← nt_zaU, ← nt_zsub]
        show upd _ d (nt_z (nt_su aa x d d) - _) = _
        rw [nt_suk]
      · rw [nI_clamp (by omega), hr d (by omega), nt_smS, ← nt_zadd]
  have h := key m 0 (m + 1) (by omega) (by omega)
  rw [nt_su0, nt_sm0, nt_z0] at h
  exact ⟨m + 1, h⟩
theorem nt_Xcode9 {post : Int32 → SX → Prop} {c : Nat} (hm : m ≤ 7) (hc : c < 4 ^ m) (hx : ∀ d, d < m → x d = nt_D m c d) (H : post (nI c) (nI N, nI m, nt_na dd, nt_na cc, nt_za aa, nt_za x, lo, nt_na oo, le, ar, re)) : ∃ n, wX_bestCode_9 post (nI N) (nI m) (nt_na dd) (nt_na cc) (nt_za aa) (nt_za x) lo (nt_na oo) le ar re n 0 0 := by
  have key : ∀ e d n : Nat, d + e = m → e < n → wX_bestCode_9 post (nI N) (nI m) (nt_na dd) (nt_na cc) (nt_za aa) (nt_za x) lo (nt_na oo) le ar re n (nI (nt_cn (nt_dg m c) d)) (nI d) := by
    intro e
    induction e with
    | zero =>
      intro d n hd hn
      obtain ⟨n, rfl⟩ : ∃ j, n = j + 1 := ⟨n - 1, by omega⟩
      obtain rfl : d = m := by omega
      rw [nt_cndg d c hc]
      exact br_t (nI_le (Nat.le_refl _) (by omega)) H
    | succ e ih =>
      intro d n hd hn
      obtain ⟨n, rfl⟩ : ∃ j, n = j + 1 := ⟨n - 1, by omega⟩
      refine br_f (nI_ge (by omega) (by omega)) ⟨vp_in_nI (by omega) (by omega), nm_r (e' := nI (nt_cn (nt_dg m c) (d + 1))) ?_ (nm_r (nI_1 d) (ih (d + 1) n (by omega) (by omega)))⟩
      have e4 : (4 : Int32) * nI (nt_cn (nt_dg m c) d) = nI (4 * nt_cn (nt_dg m c) d) := pk_mul 4 _
      have ex : nt_za x d = nI (nt_dg m c d) := by
        show nt_z (x d) = _
        rw [hx d (by omega)]
        exact nt_zn _
      rw [nI_clamp (by omega), nt_cnS, e4, ex, nI_add]
  exact ⟨m + 1, key m 0 (m + 1) (by omega) (by omega)⟩
end
end
section
/-! balances and sums, both sides -/
section
variable {N m : Nat} {dd cc : Nat → Nat} {aa : Nat → Int} {oo : Nat → Nat} {st lo le ar re net : Nat → Int32}
theorem nt_Xbal (ok : nt_OK N m dd cc aa oo) {f : Nat} (hf : f < N) {post : Int32 → Prop} (H : post (nt_z (nt_net dd cc aa f m))) : wpX_balanceOf post (nI N, nI m, nt_na dd, nt_na cc, nt_za aa, st, lo, nt_na oo, le, ar, re) (nI f) := by
  obtain ⟨n1, n2, n3⟩ := ok.1
  have key : ∀ e d n : Nat, d + e = m → e < n → wX_balanceOf_4 post (nI f) (nI N) (nI m) (nt_na dd) (nt_na cc) (nt_za aa) st lo (nt_na oo) le ar re n (nt_z (nt_net dd cc aa f d)) (nI d) := by
    intro e
    induction e with
    | zero =>
      intro d n hd hn
      obtain ⟨n, rfl⟩ : ∃ j, n = j + 1 := ⟨n - 1, by omega⟩
      obtain rfl : d = m := by omega
      exact br_t (nI_le (Nat.le_refl _) (by omega)) H
    | succ e ih =>
      intro d n hd hn
      obtain ⟨n, rfl⟩ : ∃ j, n = j + 1 := ⟨n - 1, by omega⟩
      obtain ⟨d1, d2, d3, d4, d5⟩ := ok.2.1 d (by omega)
      have e0 : (nI d).toNatClampNeg = d := nI_clamp (by omega)
      have i0 : vp_in (nI d) 7 := vp_in_nI (by omega) (by omega)
      have ed : nt_na dd (nI d).toNatClampNeg = nI (dd d) := by rw [e0]; rfl
      have ec : nt_na cc (nI d).toNatClampNeg = nI (cc d) := by rw [e0]; rfl
      have er : nt_za aa (nI d).toNatClampNeg = nt_z (aa d) := by rw [e0]; rfl
      have rest : ∀ (z : Int32) (t : Int), z = nt_z t → t = (if cc d = f then aa d else 0) → wX_balanceOf_33 post (wX_balanceOf_4 post (nI f) (nI N) (nI m) (nt_na dd) (nt_na cc) (nt_za aa) st lo (nt_na oo) le ar re n) (nI f) (nI d) z (nt_z (nt_net dd cc aa f d)) (nI N) (nI m) (nt_na dd) (nt_na cc) (nt_za aa) st lo (nt_na oo) le ar re := by
        intro z t hz ht
        unfold wX_balanceOf_33
        rw [ed, er, hz]
        refine nm_r (nt_zadd _ _) ⟨i0, ?_⟩
        by_cases b : dd d = f
        · refine br_t (by rw [b]) ⟨i0, nm_r (e' := nt_z (nt_net dd cc aa f (d + 1))) ?_ (nm_r (nI_1 d) (ih (d + 1) n (by omega) (by omega)))⟩
          rw [nt_zsub, nt_netS, ht, if_pos b]
          exact congrArg nt_z (by omega)
        · refine br_f (by rw [nI_eq (by omega) (by omega)]; exact b) (nm_r (e' := nt_z (nt_net dd cc aa f (d + 1))) ?_ (nm_r (nI_1 d) (ih (d + 1) n (by omega) (by omega))))
          rw [← nt_z0, nt_zsub, nt_netS, ht, if_neg b]
          exact congrArg nt_z (by omega)
      refine br_f (nI_ge (by omega) (by omega)) ⟨i0, ?_⟩
      rw [ec, er]
      by_cases a : cc d = f
      · exact br_t (by rw [a]) ⟨i0, rest _ _ rfl (by rw [if_pos a])⟩
      · exact br_f (by rw [nI_eq (by omega) (by omega)]; exact a) (rest _ 0 nt_z0.symm (by rw [if_neg a]))
  have h := key m 0 (m + 1) (by omega) (by omega)
  have e0 : nt_z (nt_net dd cc aa f 0) = 0 := nt_z0
  rw [e0] at h
  unfold wpX_balanceOf
  exact ⟨m + 1, h⟩
theorem nt_Ybal (ok : nt_OK N m dd cc aa oo) {f : Nat} (hf : f < N) {post : Int32 → Prop} (H : post (nt_z (nt_net dd cc aa f m))) : wpY_saldo post (nI N, nI m, nt_na dd, nt_na cc, nt_za aa, nt_na oo, net) (nI f) := by
  obtain ⟨n1, n2, n3⟩ := ok.1
  have key : ∀ e d n : Nat, d + e = m → e < n → wY_saldo_4 post (nI f) (nI N) (nI m) (nt_na dd) (nt_na cc) (nt_za aa) (nt_na oo) net n (nt_z (nt_net dd cc aa f d)) (nI d) := by
    intro e
    induction e with
    | zero =>
      intro d n hd hn
      obtain ⟨n, rfl⟩ : ∃ j, n = j + 1 := ⟨n - 1, by omega⟩
      obtain rfl : d = m := by omega
      exact br_t (nI_le (Nat.le_refl _) (by omega)) H
    | succ e ih =>
      intro d n hd hn
      obtain ⟨n, rfl⟩ : ∃ j, n = j + 1 := ⟨n - 1, by omega⟩
      obtain ⟨d1, d2, d3, d4, d5⟩ := ok.2.1 d (by omega)
      have e0 : (nI d).toNatClampNeg = d := nI_clamp (by omega)
      have i0 : vp_in (nI d) 7 := vp_in_nI (by omega) (by omega)
      have ed : nt_na dd (nI d).toNatClampNeg = nI (dd d) := by rw [e0]; rfl
      have ec : nt_na cc (nI d).toNatClampNeg = nI (cc d) := by rw [e0]; rfl
      have er : nt_za aa (nI d).toNatClampNeg = nt_z (aa d) := by rw [e0]; rfl
      have rest : ∀ t : Int, t = nt_net dd cc aa f d + (if cc d = f then aa d else 0) → wY_saldo_37 post (wY_saldo_4 post (nI f) (nI N) (nI m) (nt_na dd) (nt_na cc) (nt_za aa) (nt_na oo) net n) (nI f) (nt_z t) (nI d) (nI N) (nI m) (nt_na dd) (nt_na cc) (nt_za aa) (nt_na oo) net := by
        intro t ht
        unfold wY_saldo_37
        rw [ed, er]
        refine ⟨i0, ?_⟩
        by_cases b : dd d = f
        · refine br_t (by rw [b]) ⟨i0, nm_r (e' := nt_z (nt_net dd cc aa f (d + 1))) ?_ (nm_r (nI_1 d) (ih (d + 1) n (by omega) (by omega)))⟩
          rw [nt_zsub, nt_netS, ht, if_pos b]
          exact congrArg nt_z (by omega)
        · refine br_f (by rw [nI_eq (by omega) (by omega)]; exact b) (nm_r (nI_1 d) ?_)
          have et : t = nt_net dd cc aa f (d + 1) := by
            rw [nt_netS, ht, if_neg b]
            omega
          rw [et]
          exact ih (d + 1) n (by omega) (by omega)
      refine br_f (nI_ge (by omega) (by omega)) (br_f (nI_ge (b := 7) (by omega) (by decide)) ⟨i0, ?_⟩)
      rw [ec, er]
      by_cases a : cc d = f
      · exact br_t (by rw [a]) ⟨i0, nm_r (nt_zadd _ _) (rest _ (by rw [if_pos a]))⟩
      · exact br_f (by rw [nI_eq (by omega) (by omega)]; exact a) (rest _ (by rw [if_neg a, Int.add_zero]))
  have h := key m 0 (m + 1) (by omega) (by omega)
  have e0 : nt_z (nt_net dd cc aa f 0) = 0 := nt_z0
  rw [e0] at h
  unfold wpY_saldo
  exact ⟨m + 1, h⟩
theorem nt_Xout {post : Int32 → Prop} (hm : m ≤ 7) (H : post (nt_z (nt_sm aa m))) : wpX_outstanding post (nI N, nI m, nt_na dd, nt_na cc, nt_za aa, st, lo, nt_na oo, le, ar, re) := by
  have key : ∀ e d n : Nat, d + e = m → e < n → wX_outstanding_4 post (nI N) (nI m) (nt_na dd) (nt_na cc) (nt_za aa) st lo (nt_na oo) le ar re n (nt_z (nt_sm aa d)) (nI d) := by
    intro e
    induction e with
    | zero =>
      intro d n hd hn
      obtain ⟨n, rfl⟩ : ∃ j, n = j + 1 := ⟨n - 1, by omega⟩
      obtain rfl : d = m := by omega
      exact br_t (nI_le (Nat.le_refl _) (by omega)) H
    | succ e ih =>
      intro d n hd hn
      obtain ⟨n, rfl⟩ : ∃ j, n = j + 1 := ⟨n - 1, by omega⟩
      refine br_f (nI_ge (by omega) (by omega)) ⟨vp_in_nI (by omega) (by omega), nm_r (e' := nt_z (nt_sm aa (d + 1))) ?_ (nm_r (nI_1 d) (ih (d + 1) n (by omega) (by omega)))⟩
      rw [nI_clamp (by omega), nt_smS, ← nt_zadd]
      rfl
  unfold wpX_outstanding
  have h := key m 0 (m + 1) (by omega) (by omega)
  rw [nt_sm0, nt_z0] at h
  exact ⟨m + 1, h⟩
theorem nt_Yout {post : Int32 → Prop} (hm : m ≤ 7) (H : post (nt_z (nt_sm aa m))) : wpY_outstanding post (nI N, nI m, nt_na dd, nt_na cc, nt_za aa, nt_na oo, net) := by
  have key : ∀ e d n : Nat, d + e = m → e < n → wY_outstanding_4 post (nI N) (nI m) (nt_na dd) (nt_na cc) (nt_za aa) (nt_na oo) net n (nt_z (nt_sm aa d)) (nI d) := by
    intro e
    induction e with
    | zero =>
      intro d n hd hn
      obtain ⟨n, rfl⟩ : ∃ j, n = j + 1 := ⟨n - 1, by omega⟩
      obtain rfl : d = m := by omega
      exact br_t (nI_le (Nat.le_refl _) (by omega)) H
    | succ e ih =>
      intro d n hd hn
      obtain ⟨n, rfl⟩ : ∃ j, n = j + 1 := ⟨n - 1, by omega⟩
      refine br_f (nI_ge (by omega) (by omega)) (br_f (nI_ge (b := 7) (by omega) (by decide)) ⟨vp_in_nI (by omega) (by omega), nm_r (e' := nt_z (nt_sm aa (d + 1))) ?_ (nm_r (nI_1 d) (ih (d + 1) n (by omega) (by omega)))⟩)
      rw [nI_clamp (by omega), nt_smS, ← nt_zadd]
      rfl
  unfold wpY_outstanding
  have h := key m 0 (m + 1) (by omega) (by omega)
  rw [nt_sm0, nt_z0] at h
  exact ⟨m + 1, h⟩
/-- what the firms are owed above what they owe -/
def nt_ls (dd cc : Nat → Nat) (aa : Nat → Int) (m : Nat) (k : Nat) : Int := nt_sm (fun f => if 0 < nt_net dd cc aa f m then nt_net dd cc aa f m else 0) k
theorem nt_lsS (dd cc : Nat → Nat) (aa : Nat → Int) (m k : Nat) : nt_ls dd cc aa m (k + 1) = nt_ls dd cc aa m k + (if 0 < nt_net dd cc aa k m then nt_net dd cc aa k m else 0) := rfl
theorem nt_netA (ok : nt_OK N m dd cc aa oo) (f : Nat) : -1000 ≤ nt_net dd cc aa f m ∧ nt_net dd cc aa f m ≤ 1000 := by
  have n3 := ok.1.2.2
  have := nt_netL (dd := dd) (cc := cc) (x := aa) f m (fun d hd => (ok.2.1 d hd).2.2.2)
  omega
theorem nt_Xleast (ok : nt_OK N m dd cc aa oo) {post : Int32 → Prop} (H : post (nt_z (nt_ls dd cc aa m N))) : wpX_least post (nI N, nI m, nt_na dd, nt_na cc, nt_za aa, st, lo, nt_na oo, le, ar, re) := by
  obtain ⟨n1, n2, n3⟩ := ok.1
  have key : ∀ e f n : Nat, f + e = N → e < n → wX_least_4 post (nI N) (nI m) (nt_na dd) (nt_na cc) (nt_za aa) st lo (nt_na oo) le ar re n (nt_z (nt_ls dd cc aa m f)) (nI f) := by
    intro e
    induction e with
    | zero =>
      intro f n hd hn
      obtain ⟨n, rfl⟩ : ∃ j, n = j + 1 := ⟨n - 1, by omega⟩
      obtain rfl : f = N := by omega
      exact br_t (nI_le (Nat.le_refl _) (by omega)) H
    | succ e ih =>
      intro f n hd hn
      obtain ⟨n, rfl⟩ : ∃ j, n = j + 1 := ⟨n - 1, by omega⟩
      have hl := nt_netA ok f
      refine br_f (nI_ge (by omega) (by omega)) (nt_Xbal ok (by omega) ?_)
      by_cases z : nt_net dd cc aa f m ≤ 0
      · refine br_t ((nt_zle0 (by omega) (by omega)).mpr z) (nm_r (e' := nt_z (nt_ls dd cc aa m (f + 1))) ?_ (nm_r (nI_1 f) (ih (f + 1) n (by omega) (by omega))))
        rw [← nt_z0, nt_zadd, nt_lsS, if_neg (by omega)]
      · refine br_f (fun y => z ((nt_zle0 (by omega) (by omega)).mp y)) (nm_r (e' := nt_z (nt_ls dd cc aa m (f + 1))) ?_ (nm_r (nI_1 f) (ih (f + 1) n (by omega) (by omega))))
        rw [nt_zadd, nt_lsS, if_pos (by omega)]
  unfold wpX_least
  have h := key N 0 (N + 1) (by omega) (by omega)
  have e0 : nt_z (nt_ls dd cc aa m 0) = 0 := nt_z0
  rw [e0] at h
  exact ⟨N + 1, h⟩
theorem nt_Yleast (ok : nt_OK N m dd cc aa oo) {post : Int32 → Prop} (H : post (nt_z (nt_ls dd cc aa m N))) : wpY_least post (nI N, nI m, nt_na dd, nt_na cc, nt_za aa, nt_na oo, net) := by
  obtain ⟨n1, n2, n3⟩ := ok.1
  have key : ∀ e f n : Nat, f + e = N → e < n → wY_least_4 post (nI N) (nI m) (nt_na dd) (nt_na cc) (nt_za aa) (nt_na oo) net n (nt_z (nt_ls dd cc aa m f)) (nI f) := by
    intro e
    induction e with
    | zero =>
      intro f n hd hn
      obtain ⟨n, rfl⟩ : ∃ j, n = j + 1 := ⟨n - 1, by omega⟩
      obtain rfl : f = N := by omega
      exact br_t (nI_le (Nat.le_refl _) (by omega)) H
    | succ e ih =>
      intro f n hd hn
      obtain ⟨n, rfl⟩ : ∃ j, n = j + 1 := ⟨n - 1, by omega⟩
      have hl := nt_netA ok f
      have h2 := ih (f + 1) n (by omega) (by omega)
      refine br_f (nI_ge (by omega) (by omega)) (nt_Ybal ok (by omega) ?_)
      by_cases z : nt_net dd cc aa f m ≤ 0
      · rw [nt_lsS, if_neg (by omega), Int.add_zero] at h2
        exact br_t ((nt_zle0 (by omega) (by omega)).mpr z) (nm_r (nI_1 f) h2)
      · refine br_f (fun y => z ((nt_zle0 (by omega) (by omega)).mp y)) (nm_r (e' := nt_z (nt_ls dd cc aa m (f + 1))) ?_ (nm_r (nI_1 f) h2))
        rw [nt_zadd, nt_lsS, if_pos (by omega)]
  unfold wpY_least
  have h := key N 0 (N + 1) (by omega) (by omega)
  have e0 : nt_z (nt_ls dd cc aa m 0) = 0 := nt_z0
  rw [e0] at h
  exact ⟨N + 1, h⟩
/-- firms and debts asked for -/
def nt_Out (z : Int32) (n : Nat) : Prop := z < 0 ∨ nI n ≤ z
theorem nt_ix (z : Int32) {n : Nat} (hn : n < 2 ^ 31) : nt_Out z n ∨ ∃ j : Nat, j < n ∧ z = nI j := by
  rcases pk_ix z hn with h | h | h
  · exact Or.inl (Or.inl h)
  · exact Or.inl (Or.inr h)
  · exact Or.inr h
theorem nt_Xfirm1 {f : Nat} (h5 : N ≤ 5) (hf : f < N) {post : Int32 → Prop} (H : post 1) : wpX_isFirm post (nI N, nI m, nt_na dd, nt_na cc, nt_za aa, st, lo, nt_na oo, le, ar, re) (nI f) := by
  unfold wpX_isFirm
  exact br_f (nI_pos (by omega)) (br_f (nI_ge (by omega) (by omega)) H)
theorem nt_Xfirm0 {z : Int32} (h : nt_Out z N) {post : Int32 → Prop} (H : post 0) : wpX_isFirm post (nI N, nI m, nt_na dd, nt_na cc, nt_za aa, st, lo, nt_na oo, le, ar, re) z := by
  unfold wpX_isFirm
  exact br_c (fun _ => H) (fun y => br_t (h.resolve_left y) H)
theorem nt_Yfirm1 {f : Nat} (h5 : N ≤ 5) (hf : f < N) {post : Int32 → Prop} (H : post 0) : wpY_badFirm post (nI N, nI m, nt_na dd, nt_na cc, nt_za aa, nt_na oo, net) (nI f) := by
  unfold wpY_badFirm
  exact br_f (nI_pos (by omega)) (br_f (nI_ge (by omega) (by omega)) (br_t (nI_le (b := 4) (by omega) (by decide)) H))
theorem nt_Yfirm0 {z : Int32} (h : nt_Out z N) {post : Int32 → Prop} (H : post 1) : wpY_badFirm post (nI N, nI m, nt_na dd, nt_na cc, nt_za aa, nt_na oo, net) z := by
  unfold wpY_badFirm
  exact br_c (fun _ => H) (fun y => br_t (h.resolve_left y) H)
theorem nt_Xdebt1 {d : Nat} (h7 : m ≤ 7) (hd : d < m) {post : Int32 → Prop} (H : post 1) : wpX_isDebt post (nI N, nI m, nt_na dd, nt_na cc, nt_za aa, st, lo, nt_na oo, le, ar, re) (nI d) := by
  unfold wpX_isDebt
  exact br_f (nI_pos (by omega)) (br_f (nI_ge (by omega) (by omega)) H)
theorem nt_Xdebt0 {z : Int32} (h : nt_Out z m) {post : Int32 → Prop} (H : post 0) : wpX_isDebt post (nI N, nI m, nt_na dd, nt_na cc, nt_za aa, st, lo, nt_na oo, le, ar, re) z := by
  unfold wpX_isDebt
  exact br_c (fun _ => H) (fun y => br_t (h.resolve_left y) H)
theorem nt_Ydebt1 {d : Nat} (h7 : m ≤ 7) (hd : d < m) {post : Int32 → Prop} (H : post 0) : wpY_bad post (nI N, nI m, nt_na dd, nt_na cc, nt_za aa, nt_na oo, net) (nI d) := by
  unfold wpY_bad
  exact br_f (nI_pos (by omega)) (br_f (nI_ge (by omega) (by omega)) (br_t (nI_le (b := 6) (by omega) (by decide)) H))
theorem nt_Ydebt0 {z : Int32} (h : nt_Out z m) {post : Int32 → Prop} (H : post 1) : wpY_bad post (nI N, nI m, nt_na dd, nt_na cc, nt_za aa, nt_na oo, net) z := by
  unfold wpY_bad
  exact br_c (fun _ => H) (fun y => br_t (h.resolve_left y) H)
end
end
section
/-! the relation, and what keeps it -/
/-- both sides hold the same firms, debts, amounts and flags -/
def i_Rel (k : Nat) (u : SX) (v : SY) : Prop := ∃ (N m : Nat) (dd cc : Nat → Nat) (aa : Nat → Int) (oo : Nat → Nat) (st lo le ar re net : Nat → Int32), u = (nI N, nI m, nt_na dd, nt_na cc, nt_za aa, st, lo, nt_na oo, le, ar, re) ∧ v = (nI N, nI m, nt_na dd, nt_na cc, nt_za aa, nt_na oo, net) ∧ nt_OK N m dd cc aa oo
section
variable {N m : Nat} {dd cc : Nat → Nat} {aa : Nat → Int} {oo : Nat → Nat} {st lo le ar re net : Nat → Int32} {x : Nat → Int}
theorem nt_rel (k : Nat) (ok : nt_OK N m dd cc aa oo) : i_Rel k (nI N, nI m, nt_na dd, nt_na cc, nt_za aa, st, lo, nt_na oo, le, ar, re) (nI N, nI m, nt_na dd, nt_na cc, nt_za aa, nt_na oo, net) := ⟨N, m, dd, cc, aa, oo, st, lo, le, ar, re, net, rfl, rfl, ok⟩
theorem nt_okA (ok : nt_OK N m dd cc aa oo) {bb : Nat → Int} (h : ∀ d, d < m → 0 ≤ bb d ∧ bb d ≤ 3) : nt_OK N m dd cc bb oo :=
  ⟨ok.1, fun d hd => ⟨(ok.2.1 d hd).1, (ok.2.1 d hd).2.1, (ok.2.1 d hd).2.2.1, h d hd⟩, ok.2.2⟩
theorem nt_okS (ok : nt_OK N m dd cc aa oo) (hx : nt_Cl m dd cc (nt_rm dd cc aa oo) x) : nt_OK N m dd cc (nt_su aa x m) oo := by
  refine nt_okA ok (fun d hd => ?_)
  have h1 := hx.1 d hd
  have h2 := nt_rmL ok hd
  have h3 := (ok.2.1 d hd).2.2.2
  unfold nt_su
  rw [if_pos hd]
  omega
theorem nt_okO (ok : nt_OK N m dd cc aa oo) (f : Nat) {b : Nat} (hb : b ≤ 1) : nt_OK N m dd cc aa (nt_u oo f b) := by
  refine ⟨ok.1, ok.2.1, fun j => ?_⟩
  by_cases e : j = f
  · rw [e, nt_us]; exact hb
  · rw [nt_un e]; exact ok.2.2 j
theorem nt_okC (ok : nt_OK N m dd cc aa oo) (k : Nat) {a : Int} (h0 : 0 ≤ a) (h3 : a ≤ 3) : nt_OK N m dd cc (nt_u aa k a) oo := by
  refine nt_okA ok (fun d hd => ?_)
  by_cases e : d = k
  · rw [e, nt_us]; exact ⟨h0, h3⟩
  · rw [nt_un e]; exact (ok.2.1 d hd).2.2.2
theorem nt_okN (ok : nt_OK N m dd cc aa oo) {a b : Nat} {z : Int} (hm : m < 7) (ha : a < N) (hb : b < N) (hab : a ≠ b) (h0 : 0 ≤ z) (h3 : z ≤ 3) : nt_OK N (m + 1) (nt_u dd m a) (nt_u cc m b) (nt_u aa m z) oo := by
  refine ⟨⟨ok.1.1, ok.1.2.1, by omega⟩, fun d hd => ?_, ok.2.2⟩
  by_cases e : d = m
  · rw [e, nt_us, nt_us, nt_us]; exact ⟨ha, hb, hab, h0, h3⟩
  · rw [nt_un e, nt_un e, nt_un e]; exact ok.2.1 d (by omega)
/-- the debts from d to k - 1 moved down by one -/
def nt_sf {α : Type} (f : Nat → α) (d k : Nat) (j : Nat) : α := if d ≤ j ∧ j < k then f (j + 1) else f j
theorem nt_sf0 {α : Type} (f : Nat → α) (d : Nat) : nt_sf f d d = f := funext fun j => if_neg (by omega)
theorem nt_sfS {α : Type} (f : Nat → α) {d k : Nat} (h : d ≤ k) : nt_u (nt_sf f d k) k (f (k + 1)) = nt_sf f d (k + 1) := by
  funext j
  by_cases e : j = k
  · rw [e, nt_us]
    exact (if_pos (by omega)).symm
  · rw [nt_un e]
    unfold nt_sf
    by_cases z : d ≤ j ∧ j < k
    · rw [if_pos z, if_pos (by omega)]
    · rw [if_neg z, if_neg (by omega)]
theorem nt_sfk {α : Type} (f : Nat → α) (d k : Nat) : nt_sf f d k (k + 1) = f (k + 1) := if_neg (by omega)
theorem nt_okP (ok : nt_OK N m dd cc aa oo) {d : Nat} (hd : d < m) : nt_OK N (m - 1) (nt_sf dd d (m - 1)) (nt_sf cc d (m - 1)) (nt_sf aa d (m - 1)) oo := by
  refine ⟨⟨ok.1.1, ok.1.2.1, by have := ok.1.2.2; omega⟩, fun j hj => ?_, ok.2.2⟩
  unfold nt_sf
  by_cases z : d ≤ j ∧ j < m - 1
  · rw [if_pos z, if_pos z, if_pos z]; exact ok.2.1 (j + 1) (by omega)
  · rw [if_neg z, if_neg z, if_neg z]; exact ok.2.1 j (by omega)
theorem nt_naP (f : Nat → Nat) {d k : Nat} (h : d ≤ k) : upd (nt_na (nt_sf f d k)) k (nt_na (nt_sf f d k) (k + 1)) = nt_na (nt_sf f d (k + 1)) := by
  show upd _ k (nI (nt_sf f d k (k + 1))) = _
  rw [nt_sfk, nt_naU, nt_sfS f h]
theorem nt_zaP (f : Nat → Int) {d k : Nat} (h : d ≤ k) : upd (nt_za (nt_sf f d k)) k (nt_za (nt_sf f d k) (k + 1)) = nt_za (nt_sf f d (k + 1)) := by
  show upd _ k (nt_z (nt_sf f d k (k + 1))) = _
  rw [nt_sfk, nt_zaU, nt_sfS f h]
theorem nt_Xpay14 {d : Nat} (hm : m ≤ 7) (hd : d < m) {post : Int32 → SX → Prop} (H : post (nI (m - 1)) (nI N, nI (m - 1), nt_na (nt_sf dd d (m - 1)), nt_na (nt_sf cc d (m - 1)), nt_za (nt_sf aa d (m - 1)), st, lo, nt_na oo, le, ar, re)) :
    ∃ n, wX_pay_14 post (nI N) (nI m) n (nI (d + 1)) (nt_na dd) (nt_na cc) (nt_za aa) st lo (nt_na oo) le ar re := by
  have key : ∀ e k n : Nat, d ≤ k → k + 1 + e = m → e < n → wX_pay_14 post (nI N) (nI m) n (nI (k + 1)) (nt_na (nt_sf dd d k)) (nt_na (nt_sf cc d k)) (nt_za (nt_sf aa d k)) st lo (nt_na oo) le ar re := by
    intro e
    induction e with
    | zero =>
      intro k n hk hke hn
      obtain ⟨n, rfl⟩ : ∃ j, n = j + 1 := ⟨n - 1, by omega⟩
      obtain rfl : m = k + 1 := by omega
      exact br_t (nI_le (Nat.le_refl _) (by omega)) (nm_r (nI_pred k) H)
    | succ e ih =>
      intro k n hk hke hn
      obtain ⟨n, rfl⟩ : ∃ j, n = j + 1 := ⟨n - 1, by omega⟩
      have i0 : vp_in (nI k) 7 := vp_in_nI (by omega) (by omega)
      have i1 : vp_in (nI (k + 1)) 7 := vp_in_nI (by omega) (by omega)
      have e0 : (nI k).toNatClampNeg = k := nI_clamp (by omega)
      have e1 : (nI (k + 1)).toNatClampNeg = k + 1 := nI_clamp (by omega)
      refine br_f (nI_ge (by omega) (by omega)) ?_
      rw [nI_pred, e0, e1]
      exact ⟨i1, i0, nm_r (nt_naP dd hk) ⟨i1, i0, nm_r (nt_naP cc hk) ⟨i1, i0, nm_r (nt_zaP aa hk) (nm_r (nI_1 (k + 1)) (ih (k + 1) n (by omega) (by omega) (by omega)))⟩⟩⟩
  have h := key (m - 1 - d) d (m - d) (Nat.le_refl _) (by omega) (by omega)
  rw [nt_sf0, nt_sf0, nt_sf0] at h
  exact ⟨m - d, h⟩
theorem nt_Ypay12 {d : Nat} (hm : m ≤ 7) (hd : d < m) {post : Int32 → SY → Prop} (H : post (nI (m - 1)) (nI N, nI (m - 1), nt_na (nt_sf dd d (m - 1)), nt_na (nt_sf cc d (m - 1)), nt_za (nt_sf aa d (m - 1)), nt_na oo, net)) :
    ∃ n, wY_pay_12 post (nI N) (nI m) n (nI d) (nt_na dd) (nt_na cc) (nt_za aa) (nt_na oo) net := by
  have em : nI m - 1 = nI (m - 1) := by
    obtain ⟨k, rfl⟩ : ∃ k, m = k + 1 := ⟨m - 1, by omega⟩
    rw [nI_pred]
    rfl
  have key : ∀ e k n : Nat, d ≤ k → k + 1 + e = m → e < n → wY_pay_12 post (nI N) (nI m) n (nI k) (nt_na (nt_sf dd d k)) (nt_na (nt_sf cc d k)) (nt_za (nt_sf aa d k)) (nt_na oo) net := by
    intro e
    induction e with
    | zero =>
      intro k n hk hke hn
      obtain ⟨n, rfl⟩ : ∃ j, n = j + 1 := ⟨n - 1, by omega⟩
      obtain rfl : m = k + 1 := by omega
      refine br_t (by rw [em]; exact nI_le (Nat.le_refl _) (by omega)) ?_
      unfold wY_pay_76
      exact nm_r em H
    | succ e ih =>
      intro k n hk hke hn
      obtain ⟨n, rfl⟩ : ∃ j, n = j + 1 := ⟨n - 1, by omega⟩
      have i0 : vp_in (nI k) 7 := vp_in_nI (by omega) (by omega)
      have i1 : vp_in (nI (k + 1)) 7 := vp_in_nI (by omega) (by omega)
      have e0 : (nI k).toNatClampNeg = k := nI_clamp (by omega)
      have e1 : (nI (k + 1)).toNatClampNeg = k + 1 := nI_clamp (by omega)
      refine br_f (by rw [em]; exact nI_ge (by omega) (by omega)) (br_f (nI_ge (b := 6) (by omega) (by decide)) ?_)
      rw [nI_1 k, e0, e1]
      exact ⟨i1, i0, nm_r (nt_naP dd hk) ⟨i1, i0, nm_r (nt_naP cc hk) ⟨i1, i0, nm_r (nt_zaP aa hk) (nm_e (ih (k + 1) n (by omega) (by omega) (by omega)))⟩⟩⟩
  have h := key (m - 1 - d) d (m - d) (Nat.le_refl _) (by omega) (by omega)
  rw [nt_sf0, nt_sf0, nt_sf0] at h
  exact ⟨m - d, h⟩
theorem nt_Xbest (ok : nt_OK N m dd cc aa oo) {post : Int32 → SX → Prop} (H : ∀ (c : Nat) (st le ar : Nat → Int32), nt_Best m dd cc (nt_rm dd cc aa oo) c → post (nt_z (nt_S m c)) (nI N, nI m, nt_na dd, nt_na cc, nt_za aa, st, lo, nt_na oo, le, ar, re)) : wpX_best post (nI N, nI m, nt_na dd, nt_na cc, nt_za aa, st, lo, nt_na oo, le, ar, re) := by
  unfold wpX_best
  dsimp only
  refine nt_XsolveA ok (fun c x le ar hb hx => ?_)
  refine nt_XtotalNow ok.1.2.2 ?_
  rw [nt_smC m hx]
  exact H c _ _ _ hb
theorem nt_nar0 : vp_nar .boolean 0 = nI 0 := rfl
theorem nt_nar1 : vp_nar .boolean 1 = nI 1 := rfl
theorem nt_narN {b : Nat} (h : b ≤ 1) : vp_nar .boolean (nI b) = nI b := by
  rcases (show b = 0 ∨ b = 1 by omega) with e | e <;> rw [e] <;> rfl
theorem nt_uu {α : Type} (f : Nat → α) (k : Nat) (y : α) : nt_u (nt_u f k y) k (f k) = f := by
  funext j
  by_cases e : j = k
  · rw [e, nt_us]
  · rw [nt_un e, nt_un e]
theorem nt_small {z : Int32} (h0 : ¬ z < 0) (h3 : z ≤ 3) : ∃ a : Int, 0 ≤ a ∧ a ≤ 3 ∧ z = nt_z a := by
  obtain ⟨j, hj, e⟩ := nI_of2 (n := 3) (by decide) h0 h3
  exact ⟨j, by omega, by omega, by rw [e, nt_zn]⟩
end
end
section
theorem i_up {k : Nat} {u : SX} {v : SY} (h : i_Rel k u v) : i_Rel (k + 4) u v := h
theorem nt_rel0 (N : Nat) (h2 : 2 ≤ N) (h5 : N ≤ 5) : i_Rel 1 (nI N, 0, (fun _ => 0), (fun _ => 0), (fun _ => 0), (fun _ => 0), (fun _ => 0), (fun _ => 0), (fun _ => 0), (fun _ => 0), (fun _ => 0)) (nI N, 0, (fun _ => 0), (fun _ => 0), (fun _ => 0), (fun _ => 0), (fun _ => 0)) := by
  refine ⟨N, 0, (fun _ => 0), (fun _ => 0), (fun _ => 0), (fun _ => 0), (fun _ => 0), (fun _ => 0), (fun _ => 0), (fun _ => 0), (fun _ => 0), (fun _ => 0), ?_, ?_, ⟨⟨h2, h5, Nat.zero_le _⟩, fun d hd => absurd hd (Nat.not_lt_zero _), fun _ => Nat.zero_le _⟩⟩
  · rw [← nt_na0, ← nt_za0, nI_0]
  · rw [← nt_na0, ← nt_za0, nI_0]
theorem i_vc0 (k0 : Int32) : wpX_init (fun u => wpY_init (fun v => i_Rel 1 u v) k0) k0 := by
  unfold wpX_init wX_init_84 wpY_init
  by_cases h2 : 2 ≤ k0
  · refine br_t h2 ?_
    by_cases h5 : k0 ≤ 5
    · refine br_t h5 (br_t h2 (br_t h5 ?_))
      have h0 : ¬ k0 < 0 := Int32.not_lt.mpr (Int32.le_trans (by decide) h2)
      obtain ⟨j, hj, rfl⟩ := nI_of2 (n := 5) (by decide) h0 h5
      have h2' : nI 2 ≤ nI j := h2
      rw [nI_leI (by omega) (by omega)] at h2'
      exact nt_rel0 j h2' hj
    · exact br_f h5 (br_t h2 (br_f h5 (nt_rel0 5 (by omega) (by omega))))
  · exact br_f h2 (br_t (by decide) (br_f h2 (nt_rel0 2 (by omega) (by omega))))
theorem i_vc_owe {k : Nat} {u : SX} {v : SY} (I : i_Rel k u v) (hk : k + 4 ≤ 2049) (v1 : Int32) (v2 : Int32) (v3 : Int32) : wpX_owe (fun r u' => wpY_owe (fun r' v' => r' = r ∧ i_Rel (k + 4) u' v') v v1 v2 v3) u v1 v2 v3 := by
  obtain ⟨N, m, dd, cc, aa, oo, st, lo, le, ar, re, net, rfl, rfl, ok⟩ := I
  obtain ⟨n1, n2, n3⟩ := ok.1
  unfold wpX_owe wpY_owe
  dsimp only
  rcases nt_ix v1 (n := N) (by omega) with h | ⟨a, ha, rfl⟩
  · exact nt_Xfirm0 h (br_t rfl (nt_Yfirm0 h (br_f (by decide) ⟨rfl, nt_rel _ ok⟩)))
  refine nt_Xfirm1 n2 ha (br_f (by decide) ?_)
  rcases nt_ix v2 (n := N) (by omega) with h | ⟨b, hb, rfl⟩
  · exact nt_Xfirm0 h (br_t rfl (nt_Yfirm1 n2 ha (br_t rfl (nt_Yfirm0 h (br_f (by decide) ⟨rfl, nt_rel _ ok⟩)))))
  refine nt_Xfirm1 n2 hb (br_f (by decide) ?_)
  by_cases e : nI a = nI b
  · exact br_t e (nt_Yfirm1 n2 ha (br_t rfl (nt_Yfirm1 n2 hb (br_t rfl (br_t e ⟨rfl, nt_rel _ ok⟩)))))
  refine br_f e ?_
  by_cases h0 : v3 < 0
  · exact br_t h0 (nt_Yfirm1 n2 ha (br_t rfl (nt_Yfirm1 n2 hb (br_t rfl (br_f e (br_t h0 ⟨rfl, nt_rel _ ok⟩))))))
  refine br_f h0 ?_
  by_cases h3 : v3 ≤ 3
  · refine br_t h3 ?_
    obtain ⟨z, z0, z3, rfl⟩ := nt_small h0 h3
    by_cases h7 : m = 7
    · subst h7
      exact br_t rfl (nt_Yfirm1 n2 ha (br_t rfl (nt_Yfirm1 n2 hb (br_t rfl (br_f e (br_f h0 (br_t h3 (br_f (nI_ge (a := 6) (b := 7) (by omega) (by decide)) ⟨rfl, nt_rel _ ok⟩))))))))
    · have i0 : vp_in (nI m) 7 := vp_in_nI (by omega) (by omega)
      have e0 : (nI m).toNatClampNeg = m := nI_clamp (by omega)
      have hab : a ≠ b := fun z => e (by rw [z])
      refine br_f (fun y => h7 ((nI_eq (by omega) (by omega)).mp y)) ?_
      rw [e0]
      refine ⟨i0, nm_r (nt_naU dd m a) ⟨i0, nm_r (nt_naU cc m b) ⟨i0, nm_r (nt_zaU aa m z) (nm_r (nI_1 m) ?_)⟩⟩⟩
      refine nt_Yfirm1 n2 ha (br_t rfl (nt_Yfirm1 n2 hb (br_t rfl (br_f e (br_f h0 (br_t h3 (br_t (nI_le (b := 6) (by omega) (by decide)) ⟨i0, nm_r (nt_naU dd m a) ⟨i0, nm_r (nt_naU cc m b) ⟨i0, nm_r (nt_zaU aa m z) (nm_r (nI_1 m) ?_)⟩⟩⟩)))))))
      exact ⟨(nI_pred m).symm, nt_rel _ (nt_okN ok (by omega) ha hb hab z0 z3)⟩
  · exact br_f h3 (nt_Yfirm1 n2 ha (br_t rfl (nt_Yfirm1 n2 hb (br_t rfl (br_f e (br_f h0 (br_f h3 ⟨rfl, nt_rel _ ok⟩)))))))
theorem i_vc_change {k : Nat} {u : SX} {v : SY} (I : i_Rel k u v) (hk : k + 4 ≤ 2049) (v1 : Int32) (v2 : Int32) : wpX_change (fun r u' => wpY_change (fun r' v' => r' = r ∧ i_Rel (k + 4) u' v') v v1 v2) u v1 v2 := by
  obtain ⟨N, m, dd, cc, aa, oo, st, lo, le, ar, re, net, rfl, rfl, ok⟩ := I
  obtain ⟨n1, n2, n3⟩ := ok.1
  unfold wpX_change wpY_change
  dsimp only
  rcases nt_ix v1 (n := m) (by omega) with h | ⟨d, hd, rfl⟩
  · exact nt_Xdebt0 h (br_t rfl (nt_Ydebt0 h (br_f (by decide) ⟨rfl, nt_rel _ ok⟩)))
  refine nt_Xdebt1 n3 hd (br_f (by decide) ?_)
  by_cases h0 : v2 < 0
  · exact br_t h0 (nt_Ydebt1 n3 hd (br_t rfl (br_t h0 ⟨rfl, nt_rel _ ok⟩)))
  refine br_f h0 ?_
  by_cases h3 : v2 ≤ 3
  · refine br_t h3 ?_
    obtain ⟨z, z0, z3, rfl⟩ := nt_small h0 h3
    have i0 : vp_in (nI d) 7 := vp_in_nI (by omega) (by omega)
    have e0 : (nI d).toNatClampNeg = d := nI_clamp (by omega)
    rw [e0]
    exact ⟨i0, nm_e ⟨i0, nm_r (nt_zaU aa d z) (nt_Ydebt1 n3 hd (br_t rfl (br_f h0 (br_t h3 ⟨i0, nm_e ⟨i0, nm_r (nt_zaU aa d z) ⟨rfl, nt_rel _ (nt_okC ok d z0 z3)⟩⟩⟩))))⟩⟩
  · exact br_f h3 (nt_Ydebt1 n3 hd (br_t rfl (br_f h0 (br_f h3 ⟨rfl, nt_rel _ ok⟩))))
theorem i_vc_pay {k : Nat} {u : SX} {v : SY} (I : i_Rel k u v) (hk : k + 4 ≤ 2049) (v1 : Int32) : wpX_pay (fun r u' => wpY_pay (fun r' v' => r' = r ∧ i_Rel (k + 4) u' v') v v1) u v1 := by
  obtain ⟨N, m, dd, cc, aa, oo, st, lo, le, ar, re, net, rfl, rfl, ok⟩ := I
  obtain ⟨n1, n2, n3⟩ := ok.1
  unfold wpX_pay wpY_pay
  dsimp only
  rcases nt_ix v1 (n := m) (by omega) with h | ⟨d, hd, rfl⟩
  · exact nt_Xdebt0 h (br_t rfl (nt_Ydebt0 h (br_f (by decide) ⟨rfl, nt_rel _ ok⟩)))
  refine nt_Xdebt1 n3 hd (br_f (by decide) (nm_r (nI_1 d) ?_))
  refine nt_Xpay14 n3 hd ?_
  refine nt_Ydebt1 n3 hd (br_t rfl ?_)
  refine nt_Ypay12 n3 hd ?_
  exact ⟨rfl, nt_rel _ (nt_okP ok hd)⟩
theorem i_vc_exclude {k : Nat} {u : SX} {v : SY} (I : i_Rel k u v) (hk : k + 4 ≤ 2049) (v1 : Int32) (v2 : Int32) : wpX_exclude (fun r u' => wpY_exclude (fun r' v' => r' = r ∧ i_Rel (k + 4) u' v') v v1 v2) u v1 v2 := by
  obtain ⟨N, m, dd, cc, aa, oo, st, lo, le, ar, re, net, rfl, rfl, ok⟩ := I
  obtain ⟨n1, n2, n3⟩ := ok.1
  unfold wpX_exclude wpY_exclude wX_exclude_24 wY_exclude_24
  dsimp only
  rcases nt_ix v1 (n := N) (by omega) with h | ⟨f, hf, rfl⟩
  · exact nt_Xfirm0 h (br_t rfl (nt_Yfirm0 h (br_f (by decide) ⟨rfl, nt_rel _ ok⟩)))
  have i0 : vp_in (nI f) 5 := vp_in_nI (by omega) (by omega)
  have e0 : (nI f).toNatClampNeg = f := nI_clamp (by omega)
  refine nt_Xfirm1 n2 hf (br_f (by decide) ?_)
  rw [e0, nt_nar0, nt_nar1, nt_naU, nt_naU]
  by_cases a : nt_na oo f = 0
  · refine ⟨i0, br_t a ?_⟩
    by_cases b : v2 = 0
    · exact br_t b ⟨i0, nm_e (nt_Yfirm1 n2 hf (br_t rfl ⟨i0, br_t a (br_t b ⟨i0, nm_e ⟨rfl, nt_rel _ (nt_okO ok f (by decide))⟩⟩)⟩))⟩
    · exact br_f b ⟨i0, nm_e (nt_Yfirm1 n2 hf (br_t rfl ⟨i0, br_t a (br_f b ⟨i0, nm_e ⟨rfl, nt_rel _ (nt_okO ok f (by decide))⟩⟩)⟩))⟩
  · refine ⟨i0, br_f a ?_⟩
    by_cases b : v2 = 0
    · exact br_t b ⟨i0, nm_e (nt_Yfirm1 n2 hf (br_t rfl ⟨i0, br_f a (br_t b ⟨i0, nm_e ⟨rfl, nt_rel _ (nt_okO ok f (by decide))⟩⟩)⟩))⟩
    · exact br_f b ⟨i0, nm_e (nt_Yfirm1 n2 hf (br_t rfl ⟨i0, br_f a (br_f b ⟨i0, nm_e ⟨rfl, nt_rel _ (nt_okO ok f (by decide))⟩⟩)⟩))⟩
theorem i_vc_clear {k : Nat} {u : SX} {v : SY} (I : i_Rel k u v) (hk : k + 4 ≤ 2049) : wpX_clear (fun r u' => wpY_clear (fun r' v' => r' = r ∧ i_Rel (k + 4) u' v') v) u := by
  obtain ⟨N, m, dd, cc, aa, oo, st, lo, le, ar, re, net, rfl, rfl, ok⟩ := I
  have n3 := ok.1.2.2
  have hp := (nt_pow4 n3).2
  unfold wpX_clear wpY_clear
  dsimp only
  refine nt_XsolveA ok (fun c x le ar hb hx => ?_)
  refine nt_Xclear9 n3 ?_
  refine nt_Ysearch ok (fun c' net hb' => ?_)
  obtain rfl := nt_bestU hb hb'
  refine nt_Yperform ok _ (fun c2 hc2 e hcl net => ?_) (fun h net => absurd hb.2.1 (h c hb.1 rfl))
  have hb1 := hb.1
  rw [nI_eq (by omega) (by omega)] at e
  subst e
  rw [nt_smC m hx, nt_suE hx]
  exact ⟨rfl, nt_rel _ (nt_okS ok hb.2.1)⟩
theorem i_vc_carryOut {k : Nat} {u : SX} {v : SY} (I : i_Rel k u v) (hk : k + 4 ≤ 2049) (v1 : Int32) : wpX_carryOut (fun r u' => wpY_carryOut (fun r' v' => r' = r ∧ i_Rel (k + 4) u' v') v v1) u v1 := by
  obtain ⟨N, m, dd, cc, aa, oo, st, lo, le, ar, re, net, rfl, rfl, ok⟩ := I
  have n3 := ok.1.2.2
  have hp := (nt_pow4 n3).2
  unfold wpX_carryOut wpY_carryOut
  dsimp only
  refine nt_Xload ok v1 (fun c hc e hcl re hre => ?_) (fun h re => ?_)
  · subst e
    refine br_f (by decide) (nt_Xcarry14 n3 hre ?_)
    refine nt_Yperform ok _ (fun c2 hc2 e hcl2 net => ?_) (fun h net => absurd hcl (h c hc rfl))
    rw [nI_eq (by omega) (by omega)] at e
    subst e
    exact ⟨rfl, nt_rel _ (nt_okS ok hcl)⟩
  · refine br_t rfl ?_
    exact nt_Yperform ok _ (fun c2 hc2 e hcl2 net => absurd hcl2 (h c2 hc2 e)) (fun _ net => ⟨rfl, nt_rel _ ok⟩)
theorem i_vc_debts {k : Nat} {u : SX} {v : SY} (I : i_Rel k u v) (hk : k + 4 ≤ 2049) : wpX_debts (fun r => wpY_debts (fun r' => r' = r ∧ i_Rel (k + 4) u v) v) u := by
  obtain ⟨N, m, dd, cc, aa, oo, st, lo, le, ar, re, net, rfl, rfl, ok⟩ := I
  unfold wpX_debts wpY_debts
  exact ⟨rfl, nt_rel _ ok⟩
theorem i_vc_amount {k : Nat} {u : SX} {v : SY} (I : i_Rel k u v) (hk : k + 4 ≤ 2049) (v1 : Int32) : wpX_amount (fun r => wpY_amount (fun r' => r' = r ∧ i_Rel (k + 4) u v) v v1) u v1 := by
  obtain ⟨N, m, dd, cc, aa, oo, st, lo, le, ar, re, net, rfl, rfl, ok⟩ := I
  obtain ⟨n1, n2, n3⟩ := ok.1
  unfold wpX_amount wpY_amount
  dsimp only
  rcases nt_ix v1 (n := m) (by omega) with h | ⟨d, hd, rfl⟩
  · exact nt_Xdebt0 h (br_t rfl (nt_Ydebt0 h (br_f (by decide) ⟨rfl, nt_rel _ ok⟩)))
  have i0 : vp_in (nI d) 7 := vp_in_nI (by omega) (by omega)
  exact nt_Xdebt1 n3 hd (br_f (by decide) ⟨i0, nt_Ydebt1 n3 hd (br_t rfl ⟨i0, rfl, nt_rel _ ok⟩)⟩)
theorem i_vc_balance {k : Nat} {u : SX} {v : SY} (I : i_Rel k u v) (hk : k + 4 ≤ 2049) (v1 : Int32) : wpX_balance (fun r => wpY_balance (fun r' => r' = r ∧ i_Rel (k + 4) u v) v v1) u v1 := by
  obtain ⟨N, m, dd, cc, aa, oo, st, lo, le, ar, re, net, rfl, rfl, ok⟩ := I
  obtain ⟨n1, n2, n3⟩ := ok.1
  unfold wpX_balance wpY_balance
  dsimp only
  rcases nt_ix v1 (n := N) (by omega) with h | ⟨f, hf, rfl⟩
  · exact nt_Xfirm0 h (br_t rfl (nt_Yfirm0 h (br_f (by decide) ⟨rfl, nt_rel _ ok⟩)))
  refine nt_Xfirm1 n2 hf (br_f (by decide) ?_)
  refine nt_Xbal ok hf ?_
  refine nt_Yfirm1 n2 hf (br_t rfl ?_)
  exact nt_Ybal ok hf ⟨rfl, nt_rel _ ok⟩
theorem i_vc_outstanding {k : Nat} {u : SX} {v : SY} (I : i_Rel k u v) (hk : k + 4 ≤ 2049) : wpX_outstanding (fun r => wpY_outstanding (fun r' => r' = r ∧ i_Rel (k + 4) u v) v) u := by
  obtain ⟨N, m, dd, cc, aa, oo, st, lo, le, ar, re, net, rfl, rfl, ok⟩ := I
  exact nt_Xout ok.1.2.2 (nt_Yout ok.1.2.2 ⟨rfl, nt_rel _ ok⟩)
theorem i_vc_best {k : Nat} {u : SX} {v : SY} (I : i_Rel k u v) (hk : k + 4 ≤ 2049) : wpX_best (fun r u' => wpY_best (fun r' v' => r' = r ∧ i_Rel (k + 4) u' v') v) u := by
  obtain ⟨N, m, dd, cc, aa, oo, st, lo, le, ar, re, net, rfl, rfl, ok⟩ := I
  refine nt_Xbest ok (fun c st le ar hb => ?_)
  unfold wpY_best
  dsimp only
  refine nt_Ygreatest ok (fun c' net hb' => ?_)
  obtain rfl := nt_bestU hb hb'
  exact ⟨rfl, nt_rel _ ok⟩
theorem i_vc_bestCode {k : Nat} {u : SX} {v : SY} (I : i_Rel k u v) (hk : k + 4 ≤ 2049) : wpX_bestCode (fun r u' => wpY_bestCode (fun r' v' => r' = r ∧ i_Rel (k + 4) u' v') v) u := by
  obtain ⟨N, m, dd, cc, aa, oo, st, lo, le, ar, re, net, rfl, rfl, ok⟩ := I
  unfold wpX_bestCode wpY_bestCode
  dsimp only
  refine nt_XsolveA ok (fun c x le ar hb hx => ?_)
  refine nt_Xcode9 ok.1.2.2 hb.1 hx ?_
  refine nt_Ysearch ok (fun c' net hb' => ?_)
  obtain rfl := nt_bestU hb hb'
  exact ⟨rfl, nt_rel _ ok⟩
theorem i_vc_isClearing {k : Nat} {u : SX} {v : SY} (I : i_Rel k u v) (hk : k + 4 ≤ 2049) (v1 : Int32) : wpX_isClearing (fun r u' => wpY_isClearing (fun r' v' => r' = r ∧ i_Rel (k + 4) u' v') v v1) u v1 := by
  obtain ⟨N, m, dd, cc, aa, oo, st, lo, le, ar, re, net, rfl, rfl, ok⟩ := I
  have n3 := ok.1.2.2
  unfold wpX_isClearing wpY_isClearing
  dsimp only
  refine nt_Xload ok v1 (fun c hc e hcl re hre => ?_) (fun h re => ?_)
  · subst e
    refine br_f (by decide) ?_
    refine nt_Ytot ok _ (fun c2 hc2 e hcl2 net => ?_) (fun h net => absurd hcl (h c hc rfl))
    have s := nt_SL m c2
    exact br_t ((nt_z0le (by omega) (by omega)).mpr s.1) ⟨rfl, nt_rel _ ok⟩
  · refine br_t rfl ?_
    exact nt_Ytot ok _ (fun c2 hc2 e hcl2 net => absurd hcl2 (h c2 hc2 e)) (fun _ net => br_f (by decide) ⟨rfl, nt_rel _ ok⟩)
theorem i_vc_weight {k : Nat} {u : SX} {v : SY} (I : i_Rel k u v) (hk : k + 4 ≤ 2049) (v1 : Int32) : wpX_weight (fun r u' => wpY_weight (fun r' v' => r' = r ∧ i_Rel (k + 4) u' v') v v1) u v1 := by
  obtain ⟨N, m, dd, cc, aa, oo, st, lo, le, ar, re, net, rfl, rfl, ok⟩ := I
  obtain ⟨n1, n2, n3⟩ := ok.1
  unfold wpX_weight wpY_weight
  dsimp only
  rcases nt_ix v1 (n := N) (by omega) with h | ⟨f, hf, rfl⟩
  · exact nt_Xfirm0 h (br_t rfl (nt_Yfirm0 h (br_f (by decide) ⟨rfl, nt_rel _ ok⟩)))
  have i0 : vp_in (nI f) 5 := vp_in_nI (by omega) (by omega)
  have e0 : (nI f).toNatClampNeg = f := nI_clamp (by omega)
  have ok' := nt_okO ok f (b := 1) (by decide)
  have eo : nt_na oo (nI f).toNatClampNeg = nI (oo f) := by rw [e0]; rfl
  have e1 : upd (nt_na oo) (nI f).toNatClampNeg (vp_nar .boolean 1) = nt_na (nt_u oo f 1) := by rw [e0, nt_nar1, nt_naU]
  have e2 : upd (nt_na (nt_u oo f 1)) (nI f).toNatClampNeg (vp_nar .boolean (nI (oo f))) = nt_na oo := by rw [e0, nt_narN (ok.2.2 f), nt_naU, nt_uu]
  refine nt_Xfirm1 n2 hf (br_f (by decide) ?_)
  refine nt_Xbest ok (fun c st le ar hb => ?_)
  refine ⟨i0, nm_r eo ⟨i0, nm_r e1 ?_⟩⟩
  refine nt_Xbest ok' (fun c2 st le ar hb2 => ?_)
  refine ⟨i0, nm_r e2 ?_⟩
  refine nt_Yfirm1 n2 hf (br_t rfl ?_)
  refine nt_Ygreatest ok (fun c' net hb' => ?_)
  obtain rfl := nt_bestU hb hb'
  refine ⟨i0, nm_r eo ⟨i0, nm_r e1 ?_⟩⟩
  refine nt_Ygreatest ok' (fun c2' net hb2' => ?_)
  obtain rfl := nt_bestU hb2 hb2'
  exact ⟨i0, nm_r e2 ⟨rfl, nt_rel _ ok⟩⟩
theorem i_vc_most {k : Nat} {u : SX} {v : SY} (I : i_Rel k u v) (hk : k + 4 ≤ 2049) (v1 : Int32) : wpX_most (fun r u' => wpY_most (fun r' v' => r' = r ∧ i_Rel (k + 4) u' v') v v1) u v1 := by
  obtain ⟨N, m, dd, cc, aa, oo, st, lo, le, ar, re, net, rfl, rfl, ok⟩ := I
  obtain ⟨n1, n2, n3⟩ := ok.1
  unfold wpX_most wpY_most
  dsimp only
  rcases nt_ix v1 (n := m) (by omega) with h | ⟨d, hd, rfl⟩
  · exact nt_Xdebt0 h (br_t rfl (nt_Ydebt0 h (br_f (by decide) ⟨rfl, nt_rel _ ok⟩)))
  have i0 : vp_in (nI d) 7 := vp_in_nI (by omega) (by omega)
  have e0 : (nI d).toNatClampNeg = d := nI_clamp (by omega)
  refine nt_Xdebt1 n3 hd (br_f (by decide) ?_)
  refine nt_XsolveB ok hd (fun x le ar hx => ?_)
  refine ⟨i0, ?_⟩
  rw [e0]
  refine nt_Ydebt1 n3 hd (br_t rfl ?_)
  refine nt_Ymost14 ok hd (fun w net hw => ?_)
  obtain rfl := nt_mostU hw hx
  exact ⟨rfl, nt_rel _ ok⟩
theorem i_vc_possible {k : Nat} {u : SX} {v : SY} (I : i_Rel k u v) (hk : k + 4 ≤ 2049) : wpX_possible (fun r u' => wpY_possible (fun r' v' => r' = r ∧ i_Rel (k + 4) u' v') v) u := by
  obtain ⟨N, m, dd, cc, aa, oo, st, lo, le, ar, re, net, rfl, rfl, ok⟩ := I
  have n3 := ok.1.2.2
  unfold wpX_possible wpY_possible
  dsimp only
  refine nt_XsolveA ok (fun c x le ar hb hx => ?_)
  refine nt_XtotalNow n3 ?_
  rw [nt_smC m hx]
  by_cases z : nt_z (nt_S m c) ≤ 0
  · refine br_t z ?_
    refine nt_Ygreatest ok (fun c' net hb' => ?_)
    obtain rfl := nt_bestU hb hb'
    exact br_t z ⟨rfl, nt_rel _ ok⟩
  · refine br_f z ?_
    refine nt_Ygreatest ok (fun c' net hb' => ?_)
    obtain rfl := nt_bestU hb hb'
    exact br_f z ⟨rfl, nt_rel _ ok⟩
theorem i_vc_least {k : Nat} {u : SX} {v : SY} (I : i_Rel k u v) (hk : k + 4 ≤ 2049) : wpX_least (fun r => wpY_least (fun r' => r' = r ∧ i_Rel (k + 4) u v) v) u := by
  obtain ⟨N, m, dd, cc, aa, oo, st, lo, le, ar, re, net, rfl, rfl, ok⟩ := I
  exact nt_Xleast ok (nt_Yleast ok ⟨rfl, nt_rel _ ok⟩)
end
