section
theorem pk_us {f : Nat → Int32} {k : Nat} {x : Int32} : upd f k x k = x := if_pos rfl
theorem pk_un {f : Nat → Int32} {k j : Nat} {x : Int32} (h : j ≠ k) : upd f k x j = f j := if_neg h
theorem pk_sub {a b : Nat} (h : b ≤ a) : nI a - nI b = nI (a - b) := by
  obtain ⟨c, rfl⟩ : ∃ c, a = c + b := ⟨a - b, by omega⟩
  rw [← nI_add, Int32.add_sub_cancel, Nat.add_sub_cancel]
theorem pk_m1 (n : Nat) : nI (n + 1) + (-1) = nI n := by
  rw [← nI_1, Int32.add_assoc, show (1 : Int32) + (-1) = 0 from rfl, Int32.add_zero]
theorem pk_mul (a b : Nat) : nI a * nI b = nI (a * b) := (Int32.ofNat_mul a b).symm
theorem pk_le {x y : Int32} {A B : Prop} (a b : Nat) (f : a ≤ b → A) (g : b < a → B) (hx : x = nI a := by rfl) (hy : y = nI b := by rfl) (ha : a < 2 ^ 31 := by omega) (hb : b < 2 ^ 31 := by omega) : (x ≤ y → A) ∧ (¬ x ≤ y → B) := by
  subst hx hy
  rw [nI_leI ha hb]
  exact ⟨f, fun z => g (by omega)⟩
theorem pk_lt {x y : Int32} {A B : Prop} (a b : Nat) (f : a < b → A) (g : b ≤ a → B) (hx : x = nI a := by rfl) (hy : y = nI b := by rfl) (ha : a < 2 ^ 31 := by omega) (hb : b < 2 ^ 31 := by omega) : (x < y → A) ∧ (¬ x < y → B) := by
  subst hx hy
  rw [nI_ltI ha hb]
  exact ⟨f, fun z => g (by omega)⟩
theorem pk_eq {x y : Int32} {A B : Prop} (a b : Nat) (f : a = b → A) (g : a ≠ b → B) (hx : x = nI a := by rfl) (hy : y = nI b := by rfl) (ha : a < 2 ^ 31 := by omega) (hb : b < 2 ^ 31 := by omega) : (x = y → A) ∧ (¬ x = y → B) := by
  subst hx hy
  rw [nI_eq ha hb]
  exact ⟨f, g⟩
theorem pk_in {x : Int32} (n N : Nat) (h : n < N) (hx : x = nI n := by rfl) (hN : N < 2 ^ 31 := by omega) : vp_in x N := by
  subst hx
  exact vp_in_nI h hN
theorem pk_cl {x : Int32} (n : Nat) (hx : x = nI n := by rfl) (h : n < 2 ^ 31 := by omega) : x.toNatClampNeg = n := by
  subst hx
  exact nI_clamp h
theorem pk_tn {n : Nat} (h : n < 2 ^ 32) : (nI n).toBitVec.toNat = n := Nat.mod_eq_of_lt h
theorem pk_and (x : Int32) {m : Int32} (k : Nat) (hm : m.toBitVec.toNat = 2 ^ k - 1) : x &&& m = nI (x.toBitVec.toNat % 2 ^ k) := by
  apply Int32.toBitVec_inj.mp
  apply BitVec.eq_of_toNat_eq
  rw [Int32.toBitVec_and, BitVec.toNat_and, hm, Nat.and_two_pow_sub_one_eq_mod]
  show _ = (BitVec.ofNat 32 _).toNat
  rw [BitVec.toNat_ofNat]
  exact (Nat.mod_eq_of_lt (Nat.lt_of_le_of_lt (Nat.mod_le _ _) x.toBitVec.isLt)).symm
theorem pk_andN {n : Nat} (h : n < 2 ^ 32) {m : Int32} (k : Nat) (hm : m.toBitVec.toNat = 2 ^ k - 1) : nI n &&& m = nI (n % 2 ^ k) := by
  rw [pk_and _ k hm, pk_tn h]
theorem pk_shl (a s : Int32) (k : Nat) (hs : (s.toBitVec.smod 32).toNat = k) : (a <<< s).toBitVec.toNat = a.toBitVec.toNat * 2 ^ k % 2 ^ 32 := by
  show (a.toBitVec <<< (s.toBitVec.smod 32).toNat).toNat = _
  rw [hs, BitVec.toNat_shiftLeft, Nat.shiftLeft_eq]
theorem pk_shlN {n : Nat} (s : Int32) (k : Nat) (hs : (s.toBitVec.smod 32).toNat = k) (h : n * 2 ^ k < 2 ^ 32) : nI n <<< s = nI (n * 2 ^ k) := by
  apply Int32.toBitVec_inj.mp
  apply BitVec.eq_of_toNat_eq
  have hn : n < 2 ^ 32 := Nat.lt_of_le_of_lt (Nat.le_mul_of_pos_right n (Nat.two_pow_pos k)) h
  rw [pk_shl _ _ k hs, pk_tn hn, pk_tn h, Nat.mod_eq_of_lt h]
theorem pk_shr (a s : Int32) (k : Nat) (hs : (s.toBitVec.smod 32).toNat = k) : (a >>> s).toInt = a.toInt >>> k := by
  show (a.toBitVec.sshiftRight (s.toBitVec.smod 32).toNat).toInt = _
  rw [hs, BitVec.toInt_sshiftRight]
  rfl
theorem pk_shrN {n : Nat} (h : n < 2 ^ 31) (s : Int32) (k : Nat) (hs : (s.toBitVec.smod 32).toNat = k) : nI n >>> s = nI (n / 2 ^ k) := by
  apply Int32.toInt_inj.mp
  have h2 : n / 2 ^ k ≤ n := Nat.div_le_self _ _
  rw [pk_shr _ _ k hs, nI_toInt h, nI_toInt (by omega), Int.shiftRight_eq_div_pow]
  rfl
theorem pk_vb (z : Int32) : vp_nar .byte z.toInt8.toInt32 = z.toInt8.toInt32 := by rw [vp_nar_byte]; simp
def bt (x : Int32) (i : Nat) : Bool := x.toBitVec.getLsbD i
theorem b_ext {x y : Int32} (h : ∀ i, i < 32 → bt x i = bt y i) : x = y := Int32.toBitVec_inj.mp (BitVec.eq_of_getLsbD_eq (fun i hi => h i hi))
theorem b_or (x y : Int32) (i : Nat) : bt (x ||| y) i = (bt x i || bt y i) := by unfold bt; rw [Int32.toBitVec_or, BitVec.getLsbD_or]
theorem b_and (x y : Int32) (i : Nat) : bt (x &&& y) i = (bt x i && bt y i) := by unfold bt; rw [Int32.toBitVec_and, BitVec.getLsbD_and]
theorem b_xor (x y : Int32) (i : Nat) : bt (x ^^^ y) i = (bt x i ^^ bt y i) := by unfold bt; rw [Int32.toBitVec_xor, BitVec.getLsbD_xor]
theorem b_big {x : Int32} {i : Nat} (h : 32 ≤ i) : bt x i = false := BitVec.getLsbD_of_ge _ _ h
theorem b_m1 : ∀ i, i < 32 → bt (-1) i = true := by decide +kernel
theorem b_0 (i : Nat) : bt 0 i = false := BitVec.getLsbD_zero
theorem s_l : ∀ n, n < 32 → ((nI n &&& 31).toBitVec.smod 32).toNat = n := by decide +kernel
theorem b_shl (n : Nat) (hn : n < 32) (x : Int32) {i : Nat} (hi : i < 32) : bt (x <<< (nI n &&& 31)) i = (decide (n ≤ i) && bt x (i - n)) := by
  unfold bt
  rw [Int32.toBitVec_shiftLeft]
  show (x.toBitVec <<< ((nI n &&& 31).toBitVec.smod 32).toNat).getLsbD i = _
  rw [s_l n hn, BitVec.getLsbD_shiftLeft]
  rcases Nat.lt_or_ge i n with h | h
  · simp [h, Nat.not_le.mpr h]
  · simp [hi, h, Nat.not_lt.mpr h]
theorem b_sshr (n : Nat) (hn : n < 32) (x : Int32) {i : Nat} (hi : i < 32) : bt (x >>> (nI n &&& 31)) i = if n + i < 32 then bt x (n + i) else bt x 31 := by
  unfold bt
  rw [Int32.toBitVec_shiftRight]
  show (x.toBitVec.sshiftRight ((nI n &&& 31).toBitVec.smod 32).toNat).getLsbD i = _
  rw [s_l n hn, BitVec.getLsbD_sshiftRight, BitVec.msb_eq_getLsbD_last]
  simp [hi]
end
section
/-! cells of the model, words and places of the component: tables -/
def rt_cell (a b : Nat) : Nat := 2 ^ b - 1 + a / 2 ^ (8 - b)
def rt_pl (c : Nat) : Nat := if c < 15 then c else 2 ^ ((c + 1).log2 - 4) - 1 + (c + 1 - 2 ^ (c + 1).log2) % 2 ^ ((c + 1).log2 - 4)
def rt_wd (c : Nat) : Nat := if c < 15 then 0 else (c + 1 - 2 ^ (c + 1).log2) / 2 ^ ((c + 1).log2 - 4) + 1
def rt_iv (w p : Nat) : Nat := if w = 0 then p else 2 ^ ((p + 1).log2 + 4) - 1 + (w - 1) * 2 ^ (p + 1).log2 + (p + 1 - 2 ^ (p + 1).log2)
theorem rt_t1 : ∀ c, c < 511 → rt_iv (rt_wd c) (rt_pl c) = c ∧ rt_pl c < 31 ∧ rt_wd c < 17 := by decide +kernel
theorem rt_t2 : ∀ a, a < 256 → ∀ b, b < 9 → rt_cell a b < 511 ∧ (rt_cell a b + 1).log2 = b := by decide +kernel
theorem rt_t3 : ∀ a, a < 256 → ∀ b, b < 4 → rt_wd (rt_cell a b) = 0 ∧ rt_pl (rt_cell a b) = rt_cell a b ∧ rt_cell a b < 15 := by decide +kernel
theorem rt_t4 : ∀ a, a < 256 → ∀ o, o < 5 → rt_wd (rt_cell a (4 + o)) = a / 16 + 1 ∧ rt_pl (rt_cell a (4 + o)) = 2 ^ o - 1 + a % 16 / 2 ^ (4 - o) := by decide +kernel
theorem rt_t5 : ∀ a, a < 256 → ∀ b, b < 4 → 2 ^ b ≤ rt_cell a b + 1 ∧ rt_cell a b + 1 < 2 ^ (b + 1) := by decide +kernel
theorem rt_t6 : ∀ a, a < 256 → ∀ o, o < 5 → 2 ^ o ≤ rt_pl (rt_cell a (4 + o)) + 1 ∧ rt_pl (rt_cell a (4 + o)) + 1 < 2 ^ (o + 1) := by decide +kernel
theorem rt_inj {c c' : Nat} (h : c < 511) (h' : c' < 511) (e1 : rt_wd c = rt_wd c') (e2 : rt_pl c = rt_pl c') : c = c' := by
  have a := (rt_t1 c h).1
  rw [e1, e2, (rt_t1 c' h').1] at a
  exact a.symm
theorem rt_cell_inj {a b a' b' : Nat} (ha : a < 256) (hb : b < 9) (ha' : a' < 256) (hb' : b' < 9) (h : rt_cell a b = rt_cell a' b') : b = b' ∧ a / 2 ^ (8 - b) = a' / 2 ^ (8 - b') := by
  have e : b = b' := (rt_t2 a ha b hb).2.symm.trans ((congrArg (fun c => (c + 1).log2) h).trans (rt_t2 a' ha' b' hb').2)
  subst e
  exact ⟨rfl, Nat.add_left_cancel h⟩
theorem rt_cell_sh {a a' b k : Nat} (hb : b < 9) (hk : k ≤ b) (h : a / 2 ^ (8 - b) = a' / 2 ^ (8 - b)) : rt_cell a k = rt_cell a' k := by
  have e : 2 ^ (8 - k) = 2 ^ (8 - b) * 2 ^ (b - k) := by
    rw [← Nat.pow_add]
    congr 1
    omega
  unfold rt_cell
  rw [e, ← Nat.div_div_eq_div_mul, ← Nat.div_div_eq_div_mul, h]
/-! is there a route; the longest below a limit, its goal -/
def rt_p (g : Nat → Int32) (c : Nat) : Bool := decide (¬ g c < 0)
theorem rt_p_t {g : Nat → Int32} {c : Nat} (h : rt_p g c = true) : ¬ g c < 0 := of_decide_eq_true h
theorem rt_p_f {g : Nat → Int32} {c : Nat} (h : rt_p g c = false) : g c < 0 := Decidable.not_not.mp (of_decide_eq_false h)
theorem rt_p_eq {g g' : Nat → Int32} {c c' : Nat} (h : g' c' = g c) : rt_p g' c' = rt_p g c := by
  unfold rt_p
  rw [h]
theorem rt_nt {x : Bool} (h : ¬ x = true) : x = false := by
  cases x
  · rfl
  · exact absurd rfl h
theorem rt_ft {x : Bool} (h : x = false) : ¬ x = true := by
  rw [h]
  decide
def rt_bb (g : Nat → Int32) (a : Nat) : Nat → Int32
  | 0 => -1
  | L + 1 => if rt_p g (rt_cell a L) = true then nI L else rt_bb g a L
def rt_gb (g : Nat → Int32) (a : Nat) : Nat → Int32
  | 0 => -1
  | L + 1 => if rt_p g (rt_cell a L) = true then g (rt_cell a L) else rt_gb g a L
theorem rt_bb_1 {g : Nat → Int32} {a L : Nat} (h : rt_p g (rt_cell a L) = true) : rt_bb g a (L + 1) = nI L := by
  show (if rt_p g (rt_cell a L) = true then nI L else rt_bb g a L) = _
  exact if_pos h
theorem rt_bb_0 {g : Nat → Int32} {a L : Nat} (h : rt_p g (rt_cell a L) = false) : rt_bb g a (L + 1) = rt_bb g a L := by
  show (if rt_p g (rt_cell a L) = true then nI L else rt_bb g a L) = _
  exact if_neg (rt_ft h)
theorem rt_gb_1 {g : Nat → Int32} {a L : Nat} (h : rt_p g (rt_cell a L) = true) : rt_gb g a (L + 1) = g (rt_cell a L) := by
  show (if rt_p g (rt_cell a L) = true then g (rt_cell a L) else rt_gb g a L) = _
  exact if_pos h
theorem rt_gb_0 {g : Nat → Int32} {a L : Nat} (h : rt_p g (rt_cell a L) = false) : rt_gb g a (L + 1) = rt_gb g a L := by
  show (if rt_p g (rt_cell a L) = true then g (rt_cell a L) else rt_gb g a L) = _
  exact if_neg (rt_ft h)
theorem rt_bb_dn {g : Nat → Int32} {a L : Nat} : ∀ M, L ≤ M → (∀ k, L ≤ k → k < M → rt_p g (rt_cell a k) = false) → rt_bb g a M = rt_bb g a L ∧ rt_gb g a M = rt_gb g a L := by
  intro M
  induction M with
  | zero =>
    intro h _
    have e : L = 0 := by omega
    subst e
    exact ⟨rfl, rfl⟩
  | succ M ih =>
    intro h hk
    by_cases e : L = M + 1
    · subst e
      exact ⟨rfl, rfl⟩
    · have z := hk M (by omega) (by omega)
      have r := ih (by omega) (fun k a1 a2 => hk k a1 (by omega))
      exact ⟨(rt_bb_0 z).trans r.1, (rt_gb_0 z).trans r.2⟩
theorem rt_bb_of {g : Nat → Int32} {a b L : Nat} (h1 : b < L) (h2 : rt_p g (rt_cell a b) = true) (h3 : ∀ k, b < k → k < L → rt_p g (rt_cell a k) = false) : rt_bb g a L = nI b ∧ rt_gb g a L = g (rt_cell a b) := by
  have r := rt_bb_dn (g := g) (a := a) (L := b + 1) L h1 (fun k a1 a2 => h3 k a1 a2)
  exact ⟨r.1.trans (rt_bb_1 h2), r.2.trans (rt_gb_1 h2)⟩
theorem rt_bb_no {g : Nat → Int32} {a L : Nat} (h : ∀ k, k < L → rt_p g (rt_cell a k) = false) : rt_bb g a L = -1 ∧ rt_gb g a L = -1 := by
  have r := rt_bb_dn (g := g) (a := a) (L := 0) L (Nat.zero_le _) (fun k _ a2 => h k a2)
  exact ⟨r.1, r.2⟩
theorem rt_bb_cs (g : Nat → Int32) (a : Nat) : ∀ L, (rt_bb g a L = -1 ∧ rt_gb g a L = -1 ∧ ∀ k, k < L → rt_p g (rt_cell a k) = false) ∨ (∃ b, b < L ∧ rt_p g (rt_cell a b) = true ∧ (∀ k, b < k → k < L → rt_p g (rt_cell a k) = false) ∧ rt_bb g a L = nI b ∧ rt_gb g a L = g (rt_cell a b)) := by
  intro L
  induction L with
  | zero => exact Or.inl ⟨rfl, rfl, fun k hk => absurd hk (Nat.not_lt_zero _)⟩
  | succ L ih =>
    by_cases h : rt_p g (rt_cell a L) = true
    · exact Or.inr ⟨L, Nat.lt_succ_self L, h, fun k a1 a2 => absurd a1 (by omega), rt_bb_1 h, rt_gb_1 h⟩
    · have z := rt_nt h
      rcases ih with ⟨e1, e2, e3⟩ | ⟨b, e1, e2, e3, e4, e5⟩
      · refine Or.inl ⟨(rt_bb_0 z).trans e1, (rt_gb_0 z).trans e2, fun k hk => ?_⟩
        by_cases e : k = L
        · rw [e]; exact z
        · exact e3 k (by omega)
      · refine Or.inr ⟨b, by omega, e2, fun k a1 a2 => ?_, (rt_bb_0 z).trans e4, (rt_gb_0 z).trans e5⟩
        by_cases e : k = L
        · rw [e]; exact z
        · exact e3 k a1 (by omega)
theorem rt_gb_cg {g g' : Nat → Int32} {a a' : Nat} : ∀ L, (∀ k, k < L → g' (rt_cell a' k) = g (rt_cell a k)) → rt_gb g' a' L = rt_gb g a L := by
  intro L
  induction L with
  | zero => intro _; rfl
  | succ L ih =>
    intro h
    have e := h L (Nat.lt_succ_self L)
    have r := ih (fun k hk => h k (by omega))
    by_cases z : rt_p g (rt_cell a L) = true
    · rw [rt_gb_1 z, rt_gb_1 ((rt_p_eq e).trans z), e]
    · have z' := rt_nt z
      rw [rt_gb_0 z', rt_gb_0 ((rt_p_eq e).trans z'), r]
/-! counts -/
def rt_cn (f : Nat → Bool) : Nat → Nat
  | 0 => 0
  | n + 1 => rt_cn f n + (if f n = true then 1 else 0)
theorem rt_cn_1 {f : Nat → Bool} {n : Nat} (h : f n = true) : rt_cn f (n + 1) = rt_cn f n + 1 := by
  show rt_cn f n + (if f n = true then 1 else 0) = _
  rw [if_pos h]
theorem rt_cn_0 {f : Nat → Bool} {n : Nat} (h : f n = false) : rt_cn f (n + 1) = rt_cn f n := by
  show rt_cn f n + (if f n = true then 1 else 0) = _
  rw [if_neg (rt_ft h)]
  rfl
theorem rt_cn_le (f : Nat → Bool) : ∀ n, rt_cn f n ≤ n := by
  intro n
  induction n with
  | zero => exact Nat.le_refl 0
  | succ n ih =>
    by_cases h : f n = true
    · rw [rt_cn_1 h]; omega
    · rw [rt_cn_0 (rt_nt h)]; omega
theorem rt_cn_eq {f f' : Nat → Bool} : ∀ n, (∀ j, j < n → f' j = f j) → rt_cn f' n = rt_cn f n := by
  intro n
  induction n with
  | zero => intro _; rfl
  | succ n ih =>
    intro h
    have e := h n (Nat.lt_succ_self n)
    have r := ih (fun j hj => h j (by omega))
    by_cases z : f n = true
    · rw [rt_cn_1 z, rt_cn_1 (e.trans z), r]
    · have z' := rt_nt z
      rw [rt_cn_0 z', rt_cn_0 (e.trans z'), r]
theorem rt_cn_dn {f : Nat → Bool} {m : Nat} : ∀ n, m ≤ n → (∀ j, m ≤ j → j < n → f j = false) → rt_cn f n = rt_cn f m := by
  intro n
  induction n with
  | zero =>
    intro h _
    have e : m = 0 := by omega
    rw [e]
  | succ n ih =>
    intro h hj
    by_cases e : m = n + 1
    · rw [e]
    · rw [rt_cn_0 (hj n (by omega) (by omega)), ih (by omega) (fun j a1 a2 => hj j a1 (by omega))]
theorem rt_cn_z {f : Nat → Bool} {n : Nat} (h : ∀ j, j < n → f j = false) : rt_cn f n = 0 := rt_cn_dn (m := 0) n (Nat.zero_le _) (fun j _ a2 => h j a2)
theorem rt_cn_iz {f : Nat → Bool} : ∀ n, rt_cn f n = 0 → ∀ j, j < n → f j = false := by
  intro n
  induction n with
  | zero => intro _ j hj; exact absurd hj (Nat.not_lt_zero _)
  | succ n ih =>
    intro h j hj
    by_cases z : f n = true
    · rw [rt_cn_1 z] at h
      exact absurd h (by omega)
    · have z' := rt_nt z
      rw [rt_cn_0 z'] at h
      by_cases e : j = n
      · rw [e]; exact z'
      · exact ih h j (by omega)
theorem rt_cn_add (f : Nat → Bool) (m : Nat) : ∀ n, rt_cn f (m + n) = rt_cn f m + rt_cn (fun o => f (m + o)) n := by
  intro n
  induction n with
  | zero => rfl
  | succ n ih =>
    by_cases z : f (m + n) = true
    · rw [rt_cn_1 (f := fun o => f (m + o)) z, ← Nat.add_assoc m n 1, rt_cn_1 z, ih]
      omega
    · have z' := rt_nt z
      rw [rt_cn_0 (f := fun o => f (m + o)) z', ← Nat.add_assoc m n 1, rt_cn_0 z', ih]
/-- one point more: where f' is true at k, f is not, and they agree elsewhere -/
theorem rt_cn_up {f f' : Nat → Bool} {k : Nat} (h : ∀ j, j ≠ k → f' j = f j) (h0 : f k = false) (h1 : f' k = true) : ∀ n, k < n → rt_cn f' n = rt_cn f n + 1 := by
  intro n
  induction n with
  | zero => intro z; exact absurd z (Nat.not_lt_zero _)
  | succ n ih =>
    intro hk
    by_cases e : k = n
    · subst e
      rw [rt_cn_1 h1, rt_cn_0 h0, rt_cn_eq k (fun j hj => h j (by omega))]
    · have r := ih (by omega)
      have q := h n (fun z => e z.symm)
      by_cases z : f n = true
      · rw [rt_cn_1 z, rt_cn_1 (q.trans z), r]
      · have z' := rt_nt z
        rw [rt_cn_0 z', rt_cn_0 (q.trans z'), r]
/-- a set of places, given by an injection: its count -/
theorem rt_cn_im {pp : Nat → Nat} {qq : Nat → Bool} {N : Nat} : ∀ (M : Nat) (f : Nat → Bool), (∀ o, o < M → pp o < N) → (∀ o o', o < o' → o' < M → pp o ≠ pp o') → (∀ i, i < N → (f i = true ↔ ∃ o, o < M ∧ i = pp o ∧ qq o = true)) → rt_cn f N = rt_cn qq M := by
  intro M
  induction M with
  | zero =>
    intro f _ _ hf
    exact rt_cn_z (fun j hj => rt_nt (fun z => by
      obtain ⟨o, ho, _⟩ := (hf j hj).mp z
      exact absurd ho (Nat.not_lt_zero _)))
  | succ M ih =>
    intro f hN hi hf
    have hM := hN M (Nat.lt_succ_self M)
    have r := ih (fun i => f i && decide (i ≠ pp M)) (fun o ho => hN o (by omega)) (fun o o' a1 a2 => hi o o' a1 (by omega)) (by
      intro i hi'
      constructor
      · intro z
        have z1 : f i = true ∧ i ≠ pp M := by simpa using z
        obtain ⟨o, ho, e1, e2⟩ := (hf i hi').mp z1.1
        refine ⟨o, ?_, e1, e2⟩
        have : o ≠ M := fun z => z1.2 (by rw [e1, z])
        omega
      · rintro ⟨o, ho, e1, e2⟩
        have z1 : f i = true := (hf i hi').mpr ⟨o, by omega, e1, e2⟩
        have z2 : i ≠ pp M := by
          rw [e1]
          exact hi o M ho (Nat.lt_succ_self M)
        simp [z1, z2])
    by_cases z : qq M = true
    · rw [rt_cn_1 z, ← r]
      refine rt_cn_up (k := pp M) (fun j hj => ?_) ?_ ?_ N hM
      · simp [hj]
      · simp
      · exact (hf _ hM).mpr ⟨M, Nat.lt_succ_self M, rfl, z⟩
    · have z' := rt_nt z
      rw [rt_cn_0 z', ← r]
      refine rt_cn_eq N (fun j hj => ?_)
      by_cases e : j = pp M
      · have w : f j = false := rt_nt (fun y => by
          obtain ⟨o, ho, e1, e2⟩ := (hf j hj).mp y
          by_cases e3 : o = M
          · rw [e3, z'] at e2
            exact absurd e2 (by decide)
          · exact hi o M (by omega) (Nat.lt_succ_self M) (e1.symm.trans e))
        rw [w]
        rfl
      · simp [e]
/-! the law of idle -/
theorem rt_p_un {g : Nat → Int32} {c c' : Nat} {x : Int32} (h : c' ≠ c) : rt_p (upd g c x) c' = rt_p g c' := rt_p_eq (pk_un h)
theorem rt_p_um {g : Nat → Int32} {c : Nat} : rt_p (upd g c (-1)) c = false := by
  unfold rt_p
  rw [pk_us]
  decide
theorem rt_p_uj {g : Nat → Int32} {c j : Nat} (h : j < 100) : rt_p (upd g c (nI j)) c = true := by
  unfold rt_p
  rw [pk_us]
  exact decide_eq_true (nI_pos (by omega))
def rt_lf (g : Nat → Int32) (a b : Nat) (x : Nat) : Bool := decide (x / 2 ^ (8 - b) = a / 2 ^ (8 - b)) && decide (rt_bb g x 9 = nI b)
theorem rt_lf_t {g : Nat → Int32} {a b x : Nat} (h1 : x / 2 ^ (8 - b) = a / 2 ^ (8 - b)) (h2 : rt_bb g x 9 = nI b) : rt_lf g a b x = true := by
  unfold rt_lf
  rw [decide_eq_true h1, decide_eq_true h2]
  rfl
theorem rt_lf_f1 {g : Nat → Int32} {a b x : Nat} (h1 : ¬ x / 2 ^ (8 - b) = a / 2 ^ (8 - b)) : rt_lf g a b x = false := by
  unfold rt_lf
  rw [decide_eq_false h1]
  rfl
theorem rt_lf_f2 {g : Nat → Int32} {a b x : Nat} (h2 : ¬ rt_bb g x 9 = nI b) : rt_lf g a b x = false := by
  unfold rt_lf
  rw [decide_eq_false h2]
  exact Bool.and_false _
theorem rt_idle1 {g : Nat → Int32} {a b x : Nat} (ha : a < 256) (hb : b < 9) (hx : x < 256) (hp : rt_p g (rt_cell a b) = true) : rt_gb (upd g (rt_cell a b) (-1)) x 9 = rt_gb g x 9 ↔ (rt_gb g a b = g (rt_cell a b) ∨ rt_lf g a b x = false) := by
  by_cases hu : x / 2 ^ (8 - b) = a / 2 ^ (8 - b)
  · have ec : rt_cell x b = rt_cell a b := rt_cell_sh hb (Nat.le_refl b) hu
    rcases rt_bb_cs g x 9 with ⟨_, _, e3⟩ | ⟨m, e1, e2, e3, e4, e5⟩
    · have z := e3 b hb
      rw [ec, hp] at z
      exact absurd z (by decide)
    · have hm : b ≤ m := by
        rcases Nat.lt_or_ge m b with h | h
        · have z := e3 b h hb
          rw [ec, hp] at z
          exact absurd z (by decide)
        · exact h
      have hne : ∀ k, k < 9 → k ≠ b → rt_cell x k ≠ rt_cell a b := by
        intro k hk hkb z
        exact hkb (rt_cell_inj hx hk ha hb z).1
      by_cases e : m = b
      · subst e
        have l : rt_lf g a m x = true := rt_lf_t hu e4
        have s1 : rt_gb (upd g (rt_cell a m) (-1)) x 9 = rt_gb (upd g (rt_cell a m) (-1)) x m := by
          refine (rt_bb_dn 9 (by omega) (fun k a1 a2 => ?_)).2
          by_cases ek : k = m
          · rw [ek, ec]; exact rt_p_um
          · rw [rt_p_un (hne k a2 ek)]
            exact e3 k (by omega) a2
        have s2 : rt_gb (upd g (rt_cell a m) (-1)) x m = rt_gb g a m := by
          refine rt_gb_cg m (fun k hk => ?_)
          rw [pk_un (hne k (by omega) (by omega)), rt_cell_sh hb (Nat.le_of_lt hk) hu]
        rw [s1, s2, e5, ec, l]
        constructor
        · exact fun z => Or.inl z
        · rintro (z | z)
          · exact z
          · exact absurd z (by decide)
      · have l : rt_lf g a b x = false := by
          refine rt_lf_f2 (fun z => e ?_)
          rw [e4, nI_eq (by omega) (by omega)] at z
          exact z
        have s1 : rt_gb (upd g (rt_cell a b) (-1)) x 9 = (upd g (rt_cell a b) (-1)) (rt_cell x m) := by
          refine (rt_bb_of e1 ?_ (fun k a1 a2 => ?_)).2
          · rw [rt_p_un (hne m e1 e)]; exact e2
          · rw [rt_p_un (hne k a2 (by omega))]
            exact e3 k a1 a2
        have s2 : rt_gb (upd g (rt_cell a b) (-1)) x 9 = rt_gb g x 9 := by
          rw [s1, e5, pk_un (hne m e1 e)]
        exact ⟨fun _ => Or.inr l, fun _ => s2⟩
  · have l : rt_lf g a b x = false := rt_lf_f1 hu
    have s : rt_gb (upd g (rt_cell a b) (-1)) x 9 = rt_gb g x 9 := by
      refine rt_gb_cg 9 (fun k hk => pk_un (fun z => ?_))
      obtain ⟨i1, i2⟩ := rt_cell_inj hx hk ha hb z
      rw [i1] at i2
      exact hu i2
    exact ⟨fun _ => Or.inr l, fun _ => s⟩
theorem rt_idle2 {g : Nat → Int32} {a b : Nat} (ha : a < 256) (hb : b < 9) (hp : rt_p g (rt_cell a b) = true) : (∀ x, x < 256 → rt_gb (upd g (rt_cell a b) (-1)) x 9 = rt_gb g x 9) ↔ (rt_gb g a b = g (rt_cell a b) ∨ rt_cn (rt_lf g a b) 256 = 0) := by
  constructor
  · intro h
    by_cases e : rt_gb g a b = g (rt_cell a b)
    · exact Or.inl e
    · refine Or.inr (rt_cn_z (fun x hx => ?_))
      rcases (rt_idle1 ha hb hx hp).mp (h x hx) with z | z
      · exact absurd z e
      · exact z
  · rintro (z | z) x hx
    · exact (rt_idle1 ha hb hx hp).mpr (Or.inl z)
    · exact (rt_idle1 ha hb hx hp).mpr (Or.inr (rt_cn_iz 256 z x hx))
end
section
/-! one bit of a word -/
theorem rt_b1 : ∀ p, p < 32 → ∀ i, i < 32 → bt ((1 : Int32) <<< (nI p &&& 31)) i = decide (i = p) := by decide +kernel
theorem rt_bone : ∀ j, j < 32 → bt 1 j = decide (j = 0) := by decide +kernel
theorem rt_bit {z : Int32} {i : Nat} (hi : i < 32) : (z >>> (nI i &&& 31)) &&& 1 = nI (if bt z i = true then 1 else 0) := by
  apply b_ext
  intro j hj
  have e1 := rt_bone j hj
  rw [b_and, b_sshr i hi z hj, e1]
  by_cases h : j = 0
  · subst h
    rw [Nat.add_zero, if_pos hi]
    cases bt z i
    · decide
    · decide
  · rw [decide_eq_false h] at e1 ⊢
    rw [Bool.and_false]
    cases bt z i
    · exact (b_0 j).symm
    · exact e1.symm
theorem rt_bit0 {z : Int32} {i : Nat} (hi : i < 32) : ((z >>> (nI i &&& 31)) &&& 1) = 0 ↔ bt z i = false := by
  rw [rt_bit hi]
  cases bt z i
  · exact ⟨fun _ => rfl, fun _ => by decide⟩
  · exact ⟨fun h => absurd h (by decide), fun h => absurd h (by decide)⟩
/-! the relation -/
def rt_W (tb : Int32) (lb : Nat → Int32) : Nat → Int32
  | 0 => tb
  | k + 1 => lb k
def rt_Gi (tg lg : Nat → Int32) (p : Nat) : Nat → Int32
  | 0 => tg p
  | k + 1 => lg (k * 31 + p)
def rt_G (tg lg : Nat → Int32) (c : Nat) : Int32 := rt_Gi tg lg (rt_pl c) (rt_wd c)
def rt_S (g W G : Nat → Int32) : Prop := ∀ c, c < 511 → bt (W (rt_wd c)) (rt_pl c) = rt_p g c ∧ (rt_p g c = true → G c = g c) ∧ (g c = -1 ∨ ∃ j, j < 100 ∧ g c = nI j)
theorem rt_S_put {g W G W' G' : Nat → Int32} {c0 j : Nat} (S : rt_S g W G) (hc : c0 < 511) (hj : j < 100) (hW0 : W' (rt_wd c0) = W (rt_wd c0) ||| ((1 : Int32) <<< (nI (rt_pl c0) &&& 31))) (hW : ∀ k, k ≠ rt_wd c0 → W' k = W k) (hG0 : G' c0 = nI j) (hG : ∀ c, c < 511 → c ≠ c0 → G' c = G c) : rt_S (upd g c0 (nI j)) W' G' := by
  intro c h
  obtain ⟨s1, s2, s3⟩ := S c h
  have p0 : rt_pl c0 < 32 := Nat.lt_of_lt_of_le (rt_t1 c0 hc).2.1 (by decide)
  have pc : rt_pl c < 32 := Nat.lt_of_lt_of_le (rt_t1 c h).2.1 (by decide)
  by_cases e : c = c0
  · subst e
    refine ⟨?_, fun _ => ?_, Or.inr ⟨j, hj, pk_us⟩⟩
    · rw [rt_p_uj hj, hW0, b_or, rt_b1 _ p0 _ p0, decide_eq_true (rfl : rt_pl c = rt_pl c), Bool.or_true]
    · rw [hG0, pk_us]
  · refine ⟨?_, fun z => ?_, ?_⟩
    · rw [rt_p_un e, ← s1]
      by_cases w : rt_wd c = rt_wd c0
      · have np : ¬ rt_pl c = rt_pl c0 := fun z => e (rt_inj h hc w z)
        rw [w, hW0, b_or, rt_b1 _ p0 _ pc, decide_eq_false np, Bool.or_false]
      · rw [hW _ w]
    · rw [rt_p_un e] at z
      rw [hG c h e, pk_un e]
      exact s2 z
    · rw [pk_un e]
      exact s3
theorem rt_S_drop {g W G W' : Nat → Int32} {c0 : Nat} (S : rt_S g W G) (hc : c0 < 511) (hW0 : W' (rt_wd c0) = W (rt_wd c0) &&& (((1 : Int32) <<< (nI (rt_pl c0) &&& 31)) ^^^ (-1))) (hW : ∀ k, k ≠ rt_wd c0 → W' k = W k) : rt_S (upd g c0 (-1)) W' G := by
  intro c h
  obtain ⟨s1, s2, s3⟩ := S c h
  have p0 : rt_pl c0 < 32 := Nat.lt_of_lt_of_le (rt_t1 c0 hc).2.1 (by decide)
  have pc : rt_pl c < 32 := Nat.lt_of_lt_of_le (rt_t1 c h).2.1 (by decide)
  by_cases e : c = c0
  · subst e
    refine ⟨?_, fun z => absurd z (rt_ft rt_p_um), Or.inl pk_us⟩
    rw [rt_p_um, hW0, b_and, b_xor, b_m1 _ p0, rt_b1 _ p0 _ p0, decide_eq_true (rfl : rt_pl c = rt_pl c)]
    exact Bool.and_false _
  · refine ⟨?_, fun z => ?_, ?_⟩
    · rw [rt_p_un e, ← s1]
      by_cases w : rt_wd c = rt_wd c0
      · have np : ¬ rt_pl c = rt_pl c0 := fun z => e (rt_inj h hc w z)
        rw [w, hW0, b_and, b_xor, b_m1 _ pc, rt_b1 _ p0 _ pc, decide_eq_false np]
        exact Bool.and_true _
      · rw [hW _ w]
    · rw [rt_p_un e] at z
      rw [pk_un e]
      exact s2 z
    · rw [pk_un e]
      exact s3
theorem rt_S_clear {g W G : Nat → Int32} (hg : ∀ c, c < 511 → g c = -1) (hW : ∀ k, k < 17 → W k = 0) : rt_S g W G := by
  intro c h
  have e := hg c h
  have p : rt_p g c = false := by
    unfold rt_p
    rw [e]
    decide
  refine ⟨?_, fun z => absurd z (rt_ft p), Or.inl e⟩
  rw [p, hW _ (rt_t1 c h).2.2]
  exact b_0 _
section
variable {tb : Int32} {tg lb lg g : Nat → Int32} {c0 n j : Nat}
theorem rt_putT (S : rt_S g (rt_W tb lb) (rt_G tg lg)) (hc : c0 < 511) (hw : rt_wd c0 = 0) (hj : j < 100) : rt_S (upd g c0 (nI j)) (rt_W (tb ||| ((1 : Int32) <<< (nI (rt_pl c0) &&& 31))) lb) (rt_G (upd tg (rt_pl c0) (nI j)) lg) := by
  refine rt_S_put S hc hj ?_ ?_ ?_ ?_
  · rw [hw]
    rfl
  · intro k hk
    rw [hw] at hk
    cases k with
    | zero => exact absurd rfl hk
    | succ k => rfl
  · unfold rt_G
    rw [hw]
    exact pk_us
  · intro c h e
    unfold rt_G
    generalize hq : rt_wd c = w
    cases w with
    | zero => exact pk_un (fun z => e (rt_inj h hc (hq.trans hw.symm) z))
    | succ w => rfl
theorem rt_putL (S : rt_S g (rt_W tb lb) (rt_G tg lg)) (hc : c0 < 511) (hw : rt_wd c0 = n + 1) (hj : j < 100) : rt_S (upd g c0 (nI j)) (rt_W tb (upd lb n (lb n ||| ((1 : Int32) <<< (nI (rt_pl c0) &&& 31))))) (rt_G tg (upd lg (n * 31 + rt_pl c0) (nI j))) := by
  refine rt_S_put S hc hj ?_ ?_ ?_ ?_
  · rw [hw]
    exact pk_us
  · intro k hk
    rw [hw] at hk
    cases k with
    | zero => rfl
    | succ k => exact pk_un (fun z => hk (congrArg (· + 1) z))
  · unfold rt_G
    rw [hw]
    exact pk_us
  · intro c h e
    unfold rt_G
    generalize hq : rt_wd c = w
    cases w with
    | zero => rfl
    | succ w =>
      have b1 := (rt_t1 c h).2.1
      have b2 := (rt_t1 c0 hc).2.1
      refine pk_un (fun z => e ?_)
      have z1 : w = n := by omega
      have z2 : rt_pl c = rt_pl c0 := by omega
      exact rt_inj h hc (by rw [hq, hw, z1]) z2
theorem rt_dropT (S : rt_S g (rt_W tb lb) (rt_G tg lg)) (hc : c0 < 511) (hw : rt_wd c0 = 0) : rt_S (upd g c0 (-1)) (rt_W (tb &&& (((1 : Int32) <<< (nI (rt_pl c0) &&& 31)) ^^^ (-1))) lb) (rt_G tg lg) := by
  refine rt_S_drop S hc ?_ ?_
  · rw [hw]
    rfl
  · intro k hk
    rw [hw] at hk
    cases k with
    | zero => exact absurd rfl hk
    | succ k => rfl
theorem rt_dropL (S : rt_S g (rt_W tb lb) (rt_G tg lg)) (hc : c0 < 511) (hw : rt_wd c0 = n + 1) : rt_S (upd g c0 (-1)) (rt_W tb (upd lb n (lb n &&& (((1 : Int32) <<< (nI (rt_pl c0) &&& 31)) ^^^ (-1))))) (rt_G tg lg) := by
  refine rt_S_drop S hc ?_ ?_
  · rw [hw]
    exact pk_us
  · intro k hk
    rw [hw] at hk
    cases k with
    | zero => rfl
    | succ k => exact pk_un (fun z => hk (congrArg (· + 1) z))
/-! the count of routes -/
theorem rt_ct_new (hc : c0 < 511) (hj : j < 100) (h : rt_p g c0 = false) : rt_cn (rt_p (upd g c0 (nI j))) 511 = rt_cn (rt_p g) 511 + 1 :=
  rt_cn_up (f := rt_p g) (f' := rt_p (upd g c0 (nI j))) (k := c0) (fun i hi => rt_p_un hi) h (rt_p_uj hj) 511 hc
theorem rt_ct_old (hj : j < 100) (h : rt_p g c0 = true) : rt_cn (rt_p (upd g c0 (nI j))) 511 = rt_cn (rt_p g) 511 := by
  refine rt_cn_eq 511 (fun i _ => ?_)
  by_cases e : i = c0
  · rw [e, h]
    exact rt_p_uj hj
  · exact rt_p_un e
theorem rt_ct_drop (hc : c0 < 511) (h : rt_p g c0 = true) : rt_cn (rt_p g) 511 = rt_cn (rt_p (upd g c0 (-1))) 511 + 1 :=
  rt_cn_up (f := rt_p (upd g c0 (-1))) (f' := rt_p g) (k := c0) (fun i hi => (rt_p_un hi).symm) rt_p_um h 511 hc
end
end
section
/-! ints at addresses and lengths: tables -/
theorem rt_e1 : ∀ a, a < 256 → ∀ b, b < 9 → (((1 : Int32) <<< (nI b &&& 31)) - 1) + (nI a >>> ((8 - nI b) &&& 31)) = nI (rt_cell a b) := by decide +kernel
theorem rt_e2 : ∀ a, a < 256 → ∀ o, o < 5 → (((1 : Int32) <<< (nI o &&& 31)) - 1) + ((nI a &&& 15) >>> ((4 - nI o) &&& 31)) = nI (rt_pl (rt_cell a (4 + o))) := by decide +kernel
theorem rt_e3 : ∀ a, a < 256 → ∀ b, b < 9 → ((nI a &&& ((255 : Int32) >>> (nI b &&& 31))) = 0 ↔ a % 2 ^ (8 - b) = 0) := by decide +kernel
theorem rt_e4 : ∀ a, a < 256 → ∀ b, b < 9 → ((nI a &&& (((1 : Int32) <<< ((8 - nI b) &&& 31)) - 1)) = 0 ↔ a % 2 ^ (8 - b) = 0) := by decide +kernel
theorem rt_e5 {a : Nat} (ha : a < 256) : nI a >>> ((4 : Int32) &&& 31) = nI (a / 16) := pk_shrN (by omega) _ 4 (by decide)
theorem rt_e6 : ∀ n, n < 5 → ((1 : Int32) <<< ((nI n + 1) &&& 31)) - 1 = nI (2 ^ (n + 1) - 1) := by decide +kernel
theorem rt_e7 {k p : Nat} : nI k * 31 + nI p = nI (k * 31 + p) := by
  show nI k * nI 31 + nI p = _
  rw [pk_mul, nI_add]
section
variable {post : Int32 → Prop} {tb ct : Int32} {tg lb lg g bf : Nat → Int32} {a b : Nat}
/-! addresses and beginnings -/
theorem rt_addr (v : Int32) : (∃ a, a < 256 ∧ v = nI a) ∨ ((∀ post : Int32 → Prop, post 0 → wpX_isAddress post v) ∧ (∀ (post : Int32 → Prop) (g bf : Nat → Int32), post 0 → wpY_address post (g, bf) v)) := by
  by_cases h1 : v < 0
  · exact Or.inr ⟨fun _ hp => br_t h1 hp, fun _ _ _ hp => br_t h1 hp⟩
  · obtain ⟨a, ha, rfl⟩ := nI_of h1
    by_cases h2 : a < 256
    · exact Or.inl ⟨a, h2, rfl⟩
    · exact Or.inr ⟨fun _ hp => br_f h1 (br_t (nI_le (a := 256) (by omega) ha) hp), fun _ _ _ hp => br_f h1 (br_t (nI_lt (a := 255) (by omega) ha) hp)⟩
theorem rt_addrX (ha : a < 256) (h : post 1) : wpX_isAddress post (nI a) := br_f (nI_pos (by omega)) (br_f (nI_ge (b := 256) ha (by decide)) h)
theorem rt_addrY (ha : a < 256) (h : post 1) : wpY_address post (g, bf) (nI a) := br_f (nI_pos (by omega)) (br_f (nI_nlt (a := 255) (by omega) (by decide)) h)
theorem rt_begX (ha : a < 256) (hb : b < 9) (hm : a % 2 ^ (8 - b) = 0) (h : post 1) : wpX_isBeginning post (nI a) (nI b) :=
  br_f (nI_pos (by omega)) (br_f (nI_nlt (a := 8) (by omega) (by decide)) (rt_addrX ha (br_f (by decide) (br_t ((rt_e3 a ha b hb).mpr hm) h))))
theorem rt_begY (ha : a < 256) (hb : b < 9) (hm : a % 2 ^ (8 - b) = 0) (h : post 1) : wpY_beginning post (g, bf) (nI a) (nI b) :=
  br_f (nI_pos (by omega)) (br_f (nI_nlt (a := 8) (by omega) (by decide)) (br_f (nI_pos (by omega)) (br_f (nI_nlt (a := 255) (by omega) (by decide)) (br_t ((rt_e4 a ha b hb).mpr hm) h))))
theorem rt_beg (v1 v2 : Int32) : (∃ a b, a < 256 ∧ b < 9 ∧ a % 2 ^ (8 - b) = 0 ∧ v1 = nI a ∧ v2 = nI b) ∨ ((∀ post : Int32 → Prop, post 0 → wpX_isBeginning post v1 v2) ∧ (∀ (post : Int32 → Prop) (g bf : Nat → Int32), post 0 → wpY_beginning post (g, bf) v1 v2)) := by
  by_cases h1 : v2 < 0
  · exact Or.inr ⟨fun _ hp => br_t h1 hp, fun _ _ _ hp => br_t h1 hp⟩
  · obtain ⟨b, hb, rfl⟩ := nI_of h1
    by_cases h2 : b < 9
    · have h2' : ¬ (8 : Int32) < nI b := nI_nlt (a := 8) (by omega) (by decide)
      by_cases h3 : v1 < 0
      · exact Or.inr ⟨fun _ hp => br_f h1 (br_f h2' (br_t h3 (br_t rfl hp))), fun _ _ _ hp => br_f h1 (br_f h2' (br_t h3 hp))⟩
      · obtain ⟨a, ha, rfl⟩ := nI_of h3
        by_cases h4 : a < 256
        · by_cases h5 : a % 2 ^ (8 - b) = 0
          · exact Or.inl ⟨a, b, h4, h2, h5, rfl, rfl⟩
          · exact Or.inr ⟨fun _ hp => br_f h1 (br_f h2' (rt_addrX h4 (br_f (by decide) (br_f (fun z => h5 ((rt_e3 a h4 b h2).mp z)) hp)))), fun _ _ _ hp => br_f h1 (br_f h2' (br_f h3 (br_f (nI_nlt (a := 255) (by omega) (by decide)) (br_f (fun z => h5 ((rt_e4 a h4 b h2).mp z)) hp))))⟩
        · exact Or.inr ⟨fun _ hp => br_f h1 (br_f h2' (br_f h3 (br_t (nI_le (a := 256) (by omega) ha) (br_t rfl hp)))), fun _ _ _ hp => br_f h1 (br_f h2' (br_f h3 (br_t (nI_lt (a := 255) (by omega) ha) hp)))⟩
    · have h2' : (8 : Int32) < nI b := nI_lt (a := 8) (by omega) hb
      exact Or.inr ⟨fun _ hp => br_f h1 (br_t h2' hp), fun _ _ _ hp => br_f h1 (br_t h2' hp)⟩
/-! X: place, has, goalOf -/
theorem rt_place (ha : a < 256) (hb : b < 9) (h : post (nI (rt_pl (rt_cell a b)))) : wpX_place post (nI a) (nI b) := by
  unfold wpX_place
  refine pk_le 4 b (fun h4 => ?_) (fun h4 => ?_)
  · obtain ⟨o, rfl⟩ : ∃ o, b = 4 + o := ⟨b - 4, by omega⟩
    refine nm_r (e' := nI o) ?_ ?_
    · show nI (4 + o) - nI 4 = nI o
      rw [pk_sub (by omega), Nat.add_sub_cancel_left]
    · rw [rt_e2 a ha o (by omega)]
      exact h
  · rw [(rt_t3 a ha b h4).2.1] at h
    rw [rt_e1 a ha b hb]
    exact h
theorem rt_has (S : rt_S g (rt_W tb lb) (rt_G tg lg)) (ha : a < 256) (hb : b < 9) (h1 : rt_p g (rt_cell a b) = true → post 1) (h0 : rt_p g (rt_cell a b) = false → post 0) : wpX_has post (tb, ct, tg, lb, lg) (nI a) (nI b) := by
  have hc := (rt_t2 a ha b hb).1
  have s1 := (S _ hc).1
  have hpl : rt_pl (rt_cell a b) < 32 := Nat.lt_of_lt_of_le (rt_t1 _ hc).2.1 (by decide)
  have key : ∀ z : Int32, bt z (rt_pl (rt_cell a b)) = rt_p g (rt_cell a b) → wX_has_26 post (nI (rt_pl (rt_cell a b))) z tb ct tg lb lg := by
    intro z hz
    unfold wX_has_26
    refine br_c (fun e => h0 ?_) (fun e => h1 ?_)
    · rw [rt_bit0 hpl] at e
      exact hz.symm.trans e
    · rw [rt_bit0 hpl] at e
      rw [← hz]
      cases q : bt z (rt_pl (rt_cell a b))
      · exact absurd q e
      · rfl
  unfold wpX_has
  dsimp only
  refine rt_place ha hb ?_
  refine pk_le 4 b (fun h4 => ?_) (fun h4 => ?_)
  · obtain ⟨o, rfl⟩ : ∃ o, b = 4 + o := ⟨b - 4, by omega⟩
    rw [(rt_t4 a ha o (by omega)).1] at s1
    rw [rt_e5 ha, nI_clamp (show a / 16 < 2 ^ 31 by omega)]
    exact ⟨vp_in_nI (by omega) (by decide), key _ s1⟩
  · rw [(rt_t3 a ha b h4).1] at s1
    exact key _ s1
theorem rt_gof (S : rt_S g (rt_W tb lb) (rt_G tg lg)) (ha : a < 256) (hb : b < 9) (hp : rt_p g (rt_cell a b) = true) (h : post (g (rt_cell a b))) : wpX_goalOf post (tb, ct, tg, lb, lg) (nI a) (nI b) := by
  have hc := (rt_t2 a ha b hb).1
  have s2 := (S _ hc).2.1 hp
  have hpl := (rt_t1 _ hc).2.1
  unfold rt_G at s2
  unfold wpX_goalOf
  dsimp only
  refine rt_place ha hb ?_
  refine pk_le 4 b (fun h4 => ?_) (fun h4 => ?_)
  · obtain ⟨o, rfl⟩ : ∃ o, b = 4 + o := ⟨b - 4, by omega⟩
    rw [(rt_t4 a ha o (by omega)).1] at s2
    have s3 : lg (a / 16 * 31 + rt_pl (rt_cell a (4 + o))) = g (rt_cell a (4 + o)) := s2
    rw [rt_e5 ha, rt_e7, nI_clamp (show a / 16 * 31 + rt_pl (rt_cell a (4 + o)) < 2 ^ 31 by omega), s3]
    exact ⟨vp_in_nI (by omega) (by decide), h⟩
  · have t := rt_t3 a ha b h4
    rw [t.1] at s2
    have s3 : tg (rt_pl (rt_cell a b)) = g (rt_cell a b) := s2
    have hq : rt_pl (rt_cell a b) < 15 := by
      rw [t.2.1]
      exact t.2.2
    rw [nI_clamp (show rt_pl (rt_cell a b) < 2 ^ 31 by omega), s3]
    exact ⟨vp_in_nI hq (by decide), h⟩
/-! Y: cell, is -/
theorem rt_cellY (ha : a < 256) (hb : b < 9) (h : post (nI (rt_cell a b))) : wpY_cell post (g, bf) (nI a) (nI b) := by
  unfold wpY_cell
  dsimp only
  rw [rt_e1 a ha b hb]
  exact h
theorem rt_clY (ha : a < 256) (hb : b < 9) : (nI (rt_cell a b)).toNatClampNeg = rt_cell a b ∧ vp_in (nI (rt_cell a b)) 511 := by
  have hc := (rt_t2 a ha b hb).1
  exact ⟨nI_clamp (by omega), vp_in_nI hc (by decide)⟩
theorem rt_isY (ha : a < 256) (hb : b < 9) (hm : a % 2 ^ (8 - b) = 0) (h1 : rt_p g (rt_cell a b) = true → post 1) (h0 : rt_p g (rt_cell a b) = false → post 0) : wpY_is post (g, bf) (nI a) (nI b) := by
  obtain ⟨e1, e2⟩ := rt_clY ha hb
  unfold wpY_is
  dsimp only
  refine rt_begY ha hb hm (br_f (by decide) ?_)
  refine rt_cellY ha hb (And.intro e2 ?_)
  rw [e1]
  exact br_c (fun z => h0 (decide_eq_false (fun y => y z))) (fun z => h1 (decide_eq_true z))
/-! X: highest, bitsAt -/
theorem rt_hi (s : Int32) : ∀ n, n < 31 → (∃ i, i ≤ n ∧ bt s i = true) → ∃ m, m ≤ n ∧ bt s m = true ∧ (∀ j, m < j → j ≤ n → bt s j = false) ∧ ∀ post : Int32 → Prop, post (nI m) → wX_highest_3 post s (n + 1) (nI n) := by
  intro n
  induction n with
  | zero =>
    rintro _ ⟨i, hi, hb⟩
    have e : i = 0 := by omega
    rw [e] at hb
    exact ⟨0, Nat.le_refl 0, hb, fun j a1 a2 => absurd a1 (by omega), fun post hp => br_t (by decide) hp⟩
  | succ n ih =>
    rintro hn ⟨i, hi, hb⟩
    have h0 : ¬ nI (n + 1) ≤ 0 := nI_nle (by omega) (by omega)
    by_cases z : bt s (n + 1) = true
    · exact ⟨n + 1, Nat.le_refl _, z, fun j a1 a2 => absurd a1 (by omega), fun post hp => br_f h0 (br_f (fun y => rt_ft ((rt_bit0 (by omega)).mp y) z) hp)⟩
    · have z' := rt_nt z
      have hin : i ≠ n + 1 := fun y => z (y ▸ hb)
      obtain ⟨m, e1, e2, e3, e4⟩ := ih (by omega) ⟨i, by omega, hb⟩
      refine ⟨m, by omega, e2, fun j a1 a2 => ?_, fun post hp => br_f h0 (br_t ((rt_bit0 (by omega)).mpr z') (nm_r (pk_m1 n) (e4 post hp)))⟩
      by_cases e : j = n + 1
      · rw [e]; exact z'
      · exact e3 j a1 (by omega)
theorem rt_ba {t o : Nat} (ho : o < 5) (h1 : 2 ^ o ≤ t + 1) (h2 : t + 1 < 2 ^ (o + 1)) (hp : post (nI o)) : ∀ d n, n + d = o → wX_bitsAt_2 post (nI t) (d + 1) (nI n) := by
  have h5 : 2 ^ (o + 1) ≤ 2 ^ 5 := Nat.pow_le_pow_right (by decide) (by omega)
  have ht : t < 31 := by
    have := Nat.lt_of_lt_of_le h2 h5
    omega
  intro d
  induction d with
  | zero =>
    intro n hn
    have e : n = o := by omega
    subst e
    refine br_t ?_ hp
    rw [rt_e6 n ho]
    generalize 2 ^ (n + 1) = q at h2 h5
    exact nI_lt (by omega) (by omega)
  | succ d ih =>
    intro n hn
    have hle : 2 ^ (n + 1) ≤ 2 ^ o := Nat.pow_le_pow_right (by decide) (by omega)
    refine br_f ?_ (nm_r (nI_1 n) (ih (n + 1) (by omega)))
    rw [rt_e6 n (by omega)]
    generalize 2 ^ (n + 1) = q at hle
    generalize 2 ^ o = q' at hle h1
    exact nI_nlt (by omega) (by omega)
/-- a node: the set s holds the places pp o of those o < M with qq o; its highest place and that place's bits -/
theorem rt_node {s : Int32} {pp : Nat → Nat} {qq : Nat → Bool} {M : Nat} (hM : M ≤ 5) (hp : ∀ o, o < M → 2 ^ o ≤ pp o + 1 ∧ pp o + 1 < 2 ^ (o + 1)) (hs : ∀ i, i < 32 → (bt s i = true ↔ ∃ o, o < M ∧ i = pp o ∧ qq o = true)) : (s = 0 ∧ ∀ o, o < M → qq o = false) ∨ (s ≠ 0 ∧ ∃ o, o < M ∧ qq o = true ∧ (∀ k, o < k → k < M → qq k = false) ∧ ∀ post : Int32 → Prop, post (nI o) → wpX_highest (fun r => wpX_bitsAt post r) s) := by
  have hlt : ∀ o, o < M → pp o < 31 := by
    intro o ho
    have h5 : 2 ^ (o + 1) ≤ 2 ^ 5 := Nat.pow_le_pow_right (by decide) (by omega)
    have := Nat.lt_of_lt_of_le (hp o ho).2 h5
    omega
  have hmo : ∀ o o', o < o' → o' < M → pp o < pp o' := by
    intro o o' h1 h2
    have hle : 2 ^ (o + 1) ≤ 2 ^ o' := Nat.pow_le_pow_right (by decide) (by omega)
    have q1 := (hp o (by omega)).2
    have q2 := (hp o' h2).1
    have := Nat.lt_of_lt_of_le q1 (Nat.le_trans hle q2)
    omega
  by_cases e : s = 0
  · refine Or.inl ⟨e, fun o ho => rt_nt (fun z => ?_)⟩
    have y := (hs (pp o) (Nat.lt_of_lt_of_le (hlt o ho) (by decide))).mpr ⟨o, ho, rfl, z⟩
    rw [e, b_0] at y
    exact absurd y (by decide)
  · have hex : ∃ i, i < 32 ∧ bt s i = true := by
      by_cases y : ∃ i, i < 32 ∧ bt s i = true
      · exact y
      · refine absurd (b_ext (fun i hi => ?_)) e
        rw [b_0]
        exact rt_nt (fun w => y ⟨i, hi, w⟩)
    obtain ⟨i, hi, hbi⟩ := hex
    obtain ⟨o1, ho1, e1, _⟩ := (hs i hi).mp hbi
    have hi30 : i ≤ 30 := by
      have := hlt o1 ho1
      omega
    obtain ⟨m, m1, m2, m3, m4⟩ := rt_hi s 30 (by decide) ⟨i, hi30, hbi⟩
    obtain ⟨o, ho, f1, f2⟩ := (hs m (by omega)).mp m2
    refine Or.inr ⟨e, o, ho, f2, fun k a1 a2 => rt_nt (fun z => ?_), fun post h => ?_⟩
    · have l := hlt k a2
      have y := (hs (pp k) (by omega)).mpr ⟨k, a2, rfl, z⟩
      have w := m3 (pp k) (by rw [f1]; exact hmo o k a1 a2) (by omega)
      rw [w] at y
      exact absurd y (by decide)
    · have hq := hp o ho
      rw [← f1] at hq
      unfold wpX_highest
      refine Exists.intro 31 (m4 _ ?_)
      unfold wpX_bitsAt
      exact Exists.intro (o + 1) (rt_ba (by omega) hq.1 hq.2 h o 0 (by omega))
/-! X: the places of an address in its two nodes, masks -/
def rt_mask (x : Int32) : Int32 := ((1 : Int32) <<< ((((1 : Int32) <<< (x &&& 31)) - 1) &&& 31)) - 1
theorem rt_mk : ∀ o, o < 6 → ∀ i, i < 32 → bt (rt_mask (nI o)) i = decide (i + 1 < 2 ^ o) := by decide +kernel
theorem rt_mk4 : (32767 : Int32) = rt_mask (nI 4) := by decide +kernel
theorem rt_sel {w P : Int32} {pp : Nat → Nat} {qq : Nat → Bool} {M N : Nat} (hM : M ≤ N) (hN : N ≤ 5) (hp : ∀ o, o < N → 2 ^ o ≤ pp o + 1 ∧ pp o + 1 < 2 ^ (o + 1)) (hP : ∀ i, i < 32 → (bt P i = true ↔ ∃ o, o < N ∧ i = pp o)) (hw : ∀ o, o < N → bt w (pp o) = qq o) : ∀ i, i < 32 → (bt ((w &&& P) &&& rt_mask (nI M)) i = true ↔ ∃ o, o < M ∧ i = pp o ∧ qq o = true) := by
  intro i hi
  rw [b_and, b_and, rt_mk M (by omega) i hi, Bool.and_eq_true, Bool.and_eq_true, decide_eq_true_eq, hP i hi]
  constructor
  · rintro ⟨⟨h1, o, ho, rfl⟩, h3⟩
    refine ⟨o, ?_, rfl, (hw o ho).symm.trans h1⟩
    rcases Nat.lt_or_ge o M with z | z
    · exact z
    · have hle : 2 ^ M ≤ 2 ^ o := Nat.pow_le_pow_right (by decide) z
      exact absurd (Nat.lt_of_lt_of_le h3 (Nat.le_trans hle (hp o ho).1)) (Nat.lt_irrefl _)
  · rintro ⟨o, ho, rfl, hq⟩
    have hle : 2 ^ (o + 1) ≤ 2 ^ M := Nat.pow_le_pow_right (by decide) ho
    exact ⟨⟨(hw o (by omega)).trans hq, o, by omega, rfl⟩, Nat.lt_of_lt_of_le (hp o (by omega)).2 hle⟩
theorem rt_sel0 {w P : Int32} {pp : Nat → Nat} {qq : Nat → Bool} {N : Nat} (hP : ∀ i, i < 32 → (bt P i = true ↔ ∃ o, o < N ∧ i = pp o)) (hw : ∀ o, o < N → bt w (pp o) = qq o) : ∀ i, i < 32 → (bt (w &&& P) i = true ↔ ∃ o, o < N ∧ i = pp o ∧ qq o = true) := by
  intro i hi
  rw [b_and, Bool.and_eq_true, hP i hi]
  constructor
  · rintro ⟨h1, o, ho, rfl⟩
    exact ⟨o, ho, rfl, (hw o ho).symm.trans h1⟩
  · rintro ⟨o, ho, rfl, hq⟩
    exact ⟨(hw o ho).trans hq, o, ho, rfl⟩
def rt_TP (p0 : Int32) : Int32 := ((1 ||| ((2 : Int32) <<< ((p0 >>> ((7 : Int32) &&& 31)) &&& 31))) ||| ((8 : Int32) <<< ((p0 >>> ((6 : Int32) &&& 31)) &&& 31))) ||| ((128 : Int32) <<< ((p0 >>> ((5 : Int32) &&& 31)) &&& 31))
def rt_LP (x1 : Int32) : Int32 := (((1 ||| ((2 : Int32) <<< ((x1 >>> ((3 : Int32) &&& 31)) &&& 31))) ||| ((8 : Int32) <<< ((x1 >>> ((2 : Int32) &&& 31)) &&& 31))) ||| ((128 : Int32) <<< ((x1 >>> ((1 : Int32) &&& 31)) &&& 31))) ||| ((1 : Int32) <<< ((15 + x1) &&& 31))
def rt_TQ (q : Nat) : Nat := 1 + 2 ^ (1 + q / 4) + 2 ^ (3 + q / 2) + 2 ^ (7 + q)
def rt_LQ (o : Nat) : Nat := 1 + 2 ^ (1 + o / 8) + 2 ^ (3 + o / 4) + 2 ^ (7 + o / 2) + 2 ^ (15 + o)
theorem rt_TPq : ∀ a, a < 256 → rt_TP (nI a) = nI (rt_TQ (a / 32)) := by decide +kernel
theorem rt_LPq : ∀ a, a < 256 → rt_LP (nI a &&& 15) = nI (rt_LQ (a % 16)) := by decide +kernel
theorem rt_TQb : ∀ q, q < 8 → ∀ i, i < 32 → (bt (nI (rt_TQ q)) i = true ↔ (i = 0 ∨ i = 1 + q / 4 ∨ i = 3 + q / 2 ∨ i = 7 + q)) := by decide +kernel
theorem rt_LQb : ∀ o, o < 16 → ∀ i, i < 32 → (bt (nI (rt_LQ o)) i = true ↔ (i = 0 ∨ i = 1 + o / 8 ∨ i = 3 + o / 4 ∨ i = 7 + o / 2 ∨ i = 15 + o)) := by decide +kernel
theorem rt_c0 (a : Nat) : rt_cell a 0 = 0 + a / 256 := rfl
theorem rt_c1 (a : Nat) : rt_cell a 1 = 1 + a / 128 := rfl
theorem rt_c2 (a : Nat) : rt_cell a 2 = 3 + a / 64 := rfl
theorem rt_c3 (a : Nat) : rt_cell a 3 = 7 + a / 32 := rfl
theorem rt_TPb (ha : a < 256) : ∀ i, i < 32 → (bt (rt_TP (nI a)) i = true ↔ ∃ o, o < 4 ∧ i = rt_cell a o) := by
  intro i hi
  rw [rt_TPq a ha, rt_TQb (a / 32) (by omega) i hi]
  have c0' := rt_c0 a
  have c1' := rt_c1 a
  have c2' := rt_c2 a
  have c3' := rt_c3 a
  constructor
  · rintro (h | h | h | h)
    · exact ⟨0, by decide, by omega⟩
    · exact ⟨1, by decide, by omega⟩
    · exact ⟨2, by decide, by omega⟩
    · exact ⟨3, by decide, by omega⟩
  · rintro ⟨o, ho, e⟩
    rcases (show o = 0 ∨ o = 1 ∨ o = 2 ∨ o = 3 by omega) with rfl | rfl | rfl | rfl
    · exact Or.inl (by omega)
    · exact Or.inr (Or.inl (by omega))
    · exact Or.inr (Or.inr (Or.inl (by omega)))
    · exact Or.inr (Or.inr (Or.inr (by omega)))
theorem rt_l0 (ha : a < 256) : rt_pl (rt_cell a (4 + 0)) = 0 + a % 16 / 16 := (rt_t4 a ha 0 (by decide)).2
theorem rt_l1 (ha : a < 256) : rt_pl (rt_cell a (4 + 1)) = 1 + a % 16 / 8 := (rt_t4 a ha 1 (by decide)).2
theorem rt_l2 (ha : a < 256) : rt_pl (rt_cell a (4 + 2)) = 3 + a % 16 / 4 := (rt_t4 a ha 2 (by decide)).2
theorem rt_l3 (ha : a < 256) : rt_pl (rt_cell a (4 + 3)) = 7 + a % 16 / 2 := (rt_t4 a ha 3 (by decide)).2
theorem rt_l4 (ha : a < 256) : rt_pl (rt_cell a (4 + 4)) = 15 + a % 16 / 1 := (rt_t4 a ha 4 (by decide)).2
theorem rt_LPb (ha : a < 256) : ∀ i, i < 32 → (bt (rt_LP (nI a &&& 15)) i = true ↔ ∃ o, o < 5 ∧ i = rt_pl (rt_cell a (4 + o))) := by
  intro i hi
  rw [rt_LPq a ha, rt_LQb (a % 16) (by omega) i hi]
  have d0 := rt_l0 ha
  have d1 := rt_l1 ha
  have d2 := rt_l2 ha
  have d3 := rt_l3 ha
  have d4 := rt_l4 ha
  constructor
  · rintro (h | h | h | h | h)
    · exact ⟨0, by decide, by rw [d0]; omega⟩
    · exact ⟨1, by decide, by rw [d1]; omega⟩
    · exact ⟨2, by decide, by rw [d2]; omega⟩
    · exact ⟨3, by decide, by rw [d3]; omega⟩
    · exact ⟨4, by decide, by rw [d4]; omega⟩
  · rintro ⟨o, ho, e⟩
    rcases (show o = 0 ∨ o = 1 ∨ o = 2 ∨ o = 3 ∨ o = 4 by omega) with rfl | rfl | rfl | rfl | rfl
    · rw [d0] at e; exact Or.inl (by omega)
    · rw [d1] at e; exact Or.inr (Or.inl (by omega))
    · rw [d2] at e; exact Or.inr (Or.inr (Or.inl (by omega)))
    · rw [d3] at e; exact Or.inr (Or.inr (Or.inr (Or.inl (by omega))))
    · rw [d4] at e; exact Or.inr (Or.inr (Or.inr (Or.inr (by omega))))
theorem rt_topW (S : rt_S g (rt_W tb lb) (rt_G tg lg)) (ha : a < 256) : ∀ o, o < 4 → bt tb (rt_cell a o) = rt_p g (rt_cell a o) := by
  intro o ho
  have s1 := (S _ (rt_t2 a ha o (by omega)).1).1
  have t := rt_t3 a ha o ho
  rw [t.1, t.2.1] at s1
  exact s1
theorem rt_lowW (S : rt_S g (rt_W tb lb) (rt_G tg lg)) (ha : a < 256) : ∀ o, o < 5 → bt (lb (a / 16)) (rt_pl (rt_cell a (4 + o))) = rt_p g (rt_cell a (4 + o)) := by
  intro o ho
  have s1 := (S _ (rt_t2 a ha (4 + o) (by omega)).1).1
  rw [(rt_t4 a ha o ho).1] at s1
  exact s1
/-! X: bitsBelow, goalBelow -/
theorem rt_bb86 {M : Nat} {z : Int32} (S : rt_S g (rt_W tb lb) (rt_G tg lg)) (ha : a < 256) (hM : M ≤ 4) (hz : z = rt_mask (nI M)) (h : post (rt_bb g a M)) : wX_bitsBelow_86 post z (tb &&& rt_TP (nI a)) tb ct tg lb lg := by
  subst hz
  unfold wX_bitsBelow_86
  refine nm_e ?_
  rcases rt_node (pp := fun o => rt_cell a o) (qq := fun o => rt_p g (rt_cell a o)) (show M ≤ 5 by omega) (fun o ho => rt_t5 a ha o (by omega)) (rt_sel hM (by decide) (rt_t5 a ha) (rt_TPb ha) (rt_topW S ha)) with ⟨e, h0⟩ | ⟨e, o, ho, e2, e3, hw⟩
  · rw [(rt_bb_no h0).1] at h
    exact br_t e h
  · rw [(rt_bb_of ho e2 e3).1] at h
    exact br_f e (hw post h)
theorem rt_bbT {L : Nat} (S : rt_S g (rt_W tb lb) (rt_G tg lg)) (ha : a < 256) (hL : L < 10) (h : post (rt_bb g a (if L < 4 then L else 4))) : wpX_topPlaces (fun r_3 => ∀ x4_4 : Int32, x4_4 = tb &&& r_3 → ((4 ≤ nI L → (wX_bitsBelow_86 post 32767 x4_4 tb ct tg lb lg)) ∧ (¬ 4 ≤ nI L → (wX_bitsBelow_86 post (((1 : Int32) <<< ((((1 : Int32) <<< (nI L &&& 31)) - 1) &&& 31)) - 1) x4_4 tb ct tg lb lg)))) (nI a) := by
  unfold wpX_topPlaces
  refine nm_e ?_
  refine pk_le 4 L (fun h4 => ?_) (fun h4 => ?_)
  · rw [if_neg (by omega)] at h
    exact rt_bb86 S ha (Nat.le_refl 4) rt_mk4 h
  · rw [if_pos h4] at h
    exact rt_bb86 S ha (by omega) rfl h
theorem rt_bbX {L : Nat} (S : rt_S g (rt_W tb lb) (rt_G tg lg)) (ha : a < 256) (hL : L < 10) (h : post (rt_bb g a L)) : wpX_bitsBelow post (tb, ct, tg, lb, lg) (nI a) (nI L) := by
  unfold wpX_bitsBelow
  dsimp only
  refine pk_le L 4 (fun h4 => ?_) (fun h4 => ?_)
  · unfold wX_bitsBelow_34
    refine br_t rfl (rt_bbT S ha hL ?_)
    by_cases e : L < 4
    · rw [if_pos e]; exact h
    · rw [if_neg e, show 4 = L by omega]; exact h
  · obtain ⟨o', rfl⟩ : ∃ o', L = 4 + o' := ⟨L - 4, by omega⟩
    have eo : nI (4 + o') - 4 = nI o' := by
      show nI (4 + o') - nI 4 = nI o'
      rw [pk_sub (by omega), Nat.add_sub_cancel_left]
    rw [rt_e5 ha, nI_clamp (show a / 16 < 2 ^ 31 by omega), eo]
    refine And.intro (vp_in_nI (by omega) (by decide)) ?_
    unfold wpX_lowPlaces
    refine nm_e ?_
    show wX_bitsBelow_34 post (nI a) (nI (4 + o')) ((lb (a / 16) &&& rt_LP (nI a &&& 15)) &&& rt_mask (nI o')) tb ct tg lb lg
    unfold wX_bitsBelow_34
    rcases rt_node (pp := fun o => rt_pl (rt_cell a (4 + o))) (qq := fun o => rt_p g (rt_cell a (4 + o))) (show o' ≤ 5 by omega) (fun o ho => rt_t6 a ha o (by omega)) (rt_sel (show o' ≤ 5 by omega) (Nat.le_refl 5) (rt_t6 a ha) (rt_LPb ha) (rt_lowW S ha)) with ⟨e, h0⟩ | ⟨e, o, ho, e2, e3, hw⟩
    · refine br_t e (rt_bbT S ha hL ?_)
      rw [if_neg (by omega)]
      have r := (rt_bb_dn (g := g) (a := a) (L := 4) (4 + o') (by omega) (fun k a1 a2 => by
        obtain ⟨k', rfl⟩ : ∃ k', k = 4 + k' := ⟨k - 4, by omega⟩
        exact h0 k' (by omega))).1
      rw [← r]
      exact h
    · refine br_f e (hw (fun r => post (4 + r)) ?_)
      have r := (rt_bb_of (g := g) (a := a) (b := 4 + o) (L := 4 + o') (by omega) e2 (fun k a1 a2 => by
        obtain ⟨k', rfl⟩ : ∃ k', k = 4 + k' := ⟨k - 4, by omega⟩
        exact e3 k' (by omega) (by omega))).1
      rw [r, ← nI_add] at h
      exact h
theorem rt_gbX {L : Nat} (S : rt_S g (rt_W tb lb) (rt_G tg lg)) (ha : a < 256) (hL : L < 10) (h : post (rt_gb g a L)) : wpX_goalBelow post (tb, ct, tg, lb, lg) (nI a) (nI L) := by
  unfold wpX_goalBelow
  dsimp only
  refine rt_bbX S ha hL ?_
  rcases rt_bb_cs g a L with ⟨e1, e2, _⟩ | ⟨b, e1, e2, _, e4, e5⟩
  · rw [e1]
    rw [e2] at h
    exact br_f (by decide) h
  · rw [e4]
    rw [e5] at h
    exact br_t (nI_pos' (by omega)) (rt_gof S ha (by omega) e2 h)
/-! Y: bits, goal -/
theorem rt_bitsYl (ha : a < 256) : ∀ L, L < 10 → post (rt_bb g a L) → wY_bits_3 post (nI a) g bf (L + 1) (nI L + (-1)) := by
  intro L
  induction L with
  | zero =>
    intro _ h
    exact br_t (by decide) h
  | succ L ih =>
    intro hL h
    obtain ⟨e1, e2⟩ := rt_clY ha (show L < 9 by omega)
    rw [pk_m1]
    refine br_f (nI_pos (by omega)) (rt_addrY ha (br_f (by decide) (rt_cellY ha (by omega) (And.intro e2 ?_))))
    rw [e1]
    by_cases z : rt_p g (rt_cell a L) = true
    · rw [rt_bb_1 z] at h
      exact br_f (rt_p_t z) h
    · have z' := rt_nt z
      rw [rt_bb_0 z'] at h
      exact br_t (rt_p_f z') (nm_e (ih (by omega) h))
theorem rt_bitsY (ha : a < 256) (h : post (rt_bb g a 9)) : wpY_bits post (g, bf) (nI a) := by
  unfold wpY_bits
  dsimp only
  exact Exists.intro 10 (rt_bitsYl ha 9 (by decide) h)
theorem rt_bitsYn {v : Int32} (hv : ∀ (post : Int32 → Prop) (g bf : Nat → Int32), post 0 → wpY_address post (g, bf) v) (h : post (-1)) : wpY_bits post (g, bf) v := by
  unfold wpY_bits
  dsimp only
  exact Exists.intro 1 (br_f (by decide) (hv _ _ _ (br_t rfl h)))
theorem rt_gbY (ha : a < 256) (h : post (rt_gb g a 9)) : wpY_goal post (g, bf) (nI a) := by
  unfold wpY_goal
  dsimp only
  refine rt_bitsY ha ?_
  rcases rt_bb_cs g a 9 with ⟨e1, e2, _⟩ | ⟨b, e1, e2, _, e4, e5⟩
  · rw [e1]
    rw [e2] at h
    exact br_f (by decide) h
  · rw [e4]
    rw [e5] at h
    obtain ⟨c1, c2⟩ := rt_clY ha e1
    refine br_t (nI_pos' (by omega)) (rt_cellY ha e1 (And.intro c2 ?_))
    rw [c1]
    exact h
theorem rt_gbYn {v : Int32} (hv : ∀ (post : Int32 → Prop) (g bf : Nat → Int32), post 0 → wpY_address post (g, bf) v) (h : post (-1)) : wpY_goal post (g, bf) v := by
  unfold wpY_goal
  dsimp only
  exact rt_bitsYn hv (br_f (by decide) h)
end
end
section
/-! tables -/
theorem rt_f1 : ∀ j, j < 100 → (nI j).toInt8.toInt32 = nI j := by decide +kernel
theorem rt_f2 {j : Nat} (h : j < 100) : vp_nar .byte (nI j).toInt8.toInt32 = nI j := by rw [pk_vb, rt_f1 j h]
theorem rt_f3 : ∀ b, b < 9 → (((8 - nI b) &&& 31).toBitVec.smod 32).toNat = 8 - b := by decide +kernel
theorem rt_f4 {x b : Nat} (hx : x < 256) (hb : b < 9) : nI x >>> ((8 - nI b) &&& 31) = nI (x / 2 ^ (8 - b)) := pk_shrN (by omega) _ (8 - b) (rt_f3 b hb)
theorem rt_f5 : ∀ a, a < 256 → ∀ b, b < 9 → a % 2 ^ (8 - b) = 0 → nI a ||| ((255 : Int32) >>> (nI b &&& 31)) = nI (a + 2 ^ (8 - b) - 1) ∧ a + 2 ^ (8 - b) ≤ 256 := by decide +kernel
theorem rt_f6 {a q x : Nat} (hq : 0 < q) (hm : a % q = 0) (h1 : a ≤ x) (h2 : x < a + q) : x / q = a / q := by
  have e := Nat.div_add_mod a q
  obtain ⟨y, rfl⟩ : ∃ y, x = y + a := ⟨x - a, by omega⟩
  have hy : y < q := by omega
  have e2 : a = q * (a / q) := by omega
  have e3 : (y + q * (a / q)) / q = y / q + a / q := Nat.add_mul_div_left y (a / q) hq
  rw [← e2, Nat.div_eq_of_lt hy, Nat.zero_add] at e3
  exact e3
theorem rt_f7 {a q x : Nat} (hq : 0 < q) (hm : a % q = 0) (h : x / q = a / q) : a ≤ x ∧ x < a + q := by
  have e1 := Nat.div_add_mod a q
  have e2 := Nat.div_add_mod x q
  have e3 := Nat.mod_lt x hq
  rw [h] at e2
  omega
section
variable {post : Int32 → Prop} {tb ct : Int32} {tg lb lg g bf : Nat → Int32} {a b j : Nat}
/-! matching -/
theorem rt_ones {s : Int32} (h : post (nI (rt_cn (bt s) 31))) : wpX_ones post s := by
  have key : ∀ d i, i + d = 31 → wX_ones_4 post s (d + 1) (nI (rt_cn (bt s) i)) (nI i) := by
    intro d
    induction d with
    | zero =>
      intro i hi
      have e : i = 31 := by omega
      subst e
      exact br_t (nI_le (a := 31) (by omega) (by decide)) h
    | succ d ih =>
      intro i hi
      refine br_f (nI_ge (b := 31) (by omega) (by decide)) (nm_r (e' := nI (rt_cn (bt s) (i + 1))) ?_ (nm_r (nI_1 i) (ih (i + 1) (by omega))))
      rw [rt_bit (by omega), nI_add]
      rfl
  unfold wpX_ones
  exact Exists.intro 32 (key 31 0 rfl)
theorem rt_mo {pp : Nat → Nat} {M : Nat} (hp : ∀ o, o < M → 2 ^ o ≤ pp o + 1 ∧ pp o + 1 < 2 ^ (o + 1)) : ∀ o o', o < o' → o' < M → pp o ≠ pp o' := by
  intro o o' h1 h2
  have hle : 2 ^ (o + 1) ≤ 2 ^ o' := Nat.pow_le_pow_right (by decide) (by omega)
  have q1 := (hp o (by omega)).2
  have q2 := (hp o' h2).1
  have := Nat.lt_of_lt_of_le q1 (Nat.le_trans hle q2)
  omega
theorem rt_l31 {pp : Nat → Nat} {M : Nat} (hM : M ≤ 5) (hp : ∀ o, o < M → 2 ^ o ≤ pp o + 1 ∧ pp o + 1 < 2 ^ (o + 1)) : ∀ o, o < M → pp o < 31 := by
  intro o ho
  have h5 : 2 ^ (o + 1) ≤ 2 ^ 5 := Nat.pow_le_pow_right (by decide) (by omega)
  have := Nat.lt_of_lt_of_le (hp o ho).2 h5
  omega
theorem rt_matX (S : rt_S g (rt_W tb lb) (rt_G tg lg)) (ha : a < 256) (h : post (nI (rt_cn (fun o => rt_p g (rt_cell a o)) 9))) : wpX_matching post (tb, ct, tg, lb, lg) (nI a) := by
  have e1 : rt_cn (bt (tb &&& rt_TP (nI a))) 31 = rt_cn (fun o => rt_p g (rt_cell a o)) 4 :=
    rt_cn_im (pp := fun o => rt_cell a o) 4 _ (rt_l31 (by decide) (rt_t5 a ha)) (rt_mo (rt_t5 a ha)) (fun i hi => rt_sel0 (rt_TPb ha) (rt_topW S ha) i (by omega))
  have e2 : rt_cn (bt (lb (a / 16) &&& rt_LP (nI a &&& 15))) 31 = rt_cn (fun o => rt_p g (rt_cell a (4 + o))) 5 :=
    rt_cn_im (pp := fun o => rt_pl (rt_cell a (4 + o))) 5 _ (rt_l31 (by decide) (rt_t6 a ha)) (rt_mo (rt_t6 a ha)) (fun i hi => rt_sel0 (rt_LPb ha) (rt_lowW S ha) i (by omega))
  have e3 := rt_cn_add (fun o => rt_p g (rt_cell a o)) 4 5
  unfold wpX_matching
  dsimp only
  refine rt_addrX ha (br_f (by decide) ?_)
  unfold wpX_topPlaces
  refine nm_e ?_
  rw [rt_e5 ha, nI_clamp (show a / 16 < 2 ^ 31 by omega)]
  refine And.intro (vp_in_nI (by omega) (by decide)) ?_
  unfold wpX_lowPlaces
  refine nm_e (nm_e (rt_ones (rt_ones ?_)))
  show post (nI (rt_cn (bt (tb &&& rt_TP (nI a))) 31) + nI (rt_cn (bt (lb (a / 16) &&& rt_LP (nI a &&& 15))) 31))
  rw [e1, e2, nI_add, ← e3]
  exact h
theorem rt_matY (ha : a < 256) (h : post (nI (rt_cn (fun o => rt_p g (rt_cell a o)) 9))) : wpY_matching post (g, bf) (nI a) := by
  have key : ∀ d i, i + d = 9 → wY_matching_4 post (nI a) g bf (d + 1) (nI (rt_cn (fun o => rt_p g (rt_cell a o)) i)) (nI i) := by
    intro d
    induction d with
    | zero =>
      intro i hi
      have e : i = 9 := by omega
      subst e
      exact br_t (nI_lt (a := 8) (by omega) (by decide)) h
    | succ d ih =>
      intro i hi
      obtain ⟨c1, c2⟩ := rt_clY ha (show i < 9 by omega)
      refine br_f (nI_nlt (a := 8) (by omega) (by decide)) (rt_addrY ha (br_f (by decide) (rt_cellY ha (by omega) (And.intro c2 ?_))))
      rw [c1]
      have r := ih (i + 1) (by omega)
      by_cases z : rt_p g (rt_cell a i) = true
      · rw [rt_cn_1 (f := fun o => rt_p g (rt_cell a o)) z] at r
        exact br_f (rt_p_t z) (nm_r (nI_1 _) (nm_r (nI_1 i) r))
      · have z' := rt_nt z
        rw [rt_cn_0 (f := fun o => rt_p g (rt_cell a o)) z'] at r
        exact br_t (rt_p_f z') (nm_r (nI_1 i) r)
  unfold wpY_matching
  dsimp only
  exact Exists.intro 10 (key 9 0 rfl)
theorem rt_matM (S : rt_S g (rt_W tb lb) (rt_G tg lg)) (v : Int32) : ∃ r : Int32, (∀ post : Int32 → Prop, post r → wpX_matching post (tb, ct, tg, lb, lg) v) ∧ (∀ post : Int32 → Prop, post r → wpY_matching post (g, bf) v) := by
  rcases rt_addr v with ⟨a, ha, rfl⟩ | ⟨hX, hY⟩
  · exact ⟨_, fun _ h => rt_matX S ha h, fun _ h => rt_matY ha h⟩
  · refine ⟨0, fun post h => ?_, fun post h => ?_⟩
    · unfold wpX_matching
      dsimp only
      exact hX _ (br_t rfl h)
    · unfold wpY_matching
      dsimp only
      exact Exists.intro 1 (br_f (by decide) (hY _ _ _ (br_t rfl h)))
/-! goal, bits -/
theorem rt_goalM (S : rt_S g (rt_W tb lb) (rt_G tg lg)) (v : Int32) : ∃ r : Int32, (∀ post : Int32 → Prop, post r → wpX_goal post (tb, ct, tg, lb, lg) v) ∧ (∀ post : Int32 → Prop, post r → wpY_goal post (g, bf) v) := by
  rcases rt_addr v with ⟨a, ha, rfl⟩ | ⟨hX, hY⟩
  · refine ⟨_, fun post h => ?_, fun _ h => rt_gbY ha h⟩
    unfold wpX_goal
    dsimp only
    exact rt_addrX ha (br_f (by decide) (rt_gbX (L := 9) S ha (by decide) h))
  · refine ⟨-1, fun post h => ?_, fun post h => rt_gbYn hY h⟩
    unfold wpX_goal
    dsimp only
    exact hX _ (br_t rfl h)
theorem rt_bitsM (S : rt_S g (rt_W tb lb) (rt_G tg lg)) (v : Int32) : ∃ r : Int32, (∀ post : Int32 → Prop, post r → wpX_bits post (tb, ct, tg, lb, lg) v) ∧ (∀ post : Int32 → Prop, post r → wpY_bits post (g, bf) v) := by
  rcases rt_addr v with ⟨a, ha, rfl⟩ | ⟨hX, hY⟩
  · refine ⟨_, fun post h => ?_, fun _ h => rt_bitsY ha h⟩
    unfold wpX_bits
    dsimp only
    exact rt_addrX ha (br_f (by decide) (rt_bbX (L := 9) S ha (by decide) h))
  · refine ⟨-1, fun post h => ?_, fun post h => rt_bitsYn hY h⟩
    unfold wpX_bits
    dsimp only
    exact hX _ (br_t rfl h)
/-! next -/
theorem rt_nextL (S : rt_S g (rt_W tb lb) (rt_G tg lg)) (v1 v2 : Int32) : ∀ d i, i + d = 256 → (∀ k, i ≤ k → k < 256 → ¬ nI k < v1) → ∃ r : Int32, (∀ post : Int32 → Prop, post r → wX_next_10 post v2 tb ct tg lb lg (d + 1) (nI i)) ∧ (∀ post : Int32 → Prop, post r → wY_next_2 post v1 v2 g bf (d + 1) (nI i)) := by
  intro d
  induction d with
  | zero =>
    intro i hi _
    have h : (256 : Int32) ≤ nI i := nI_le (a := 256) (by omega) (by omega)
    exact ⟨-1, fun _ hp => br_t h hp, fun _ hp => br_t h hp⟩
  | succ d ih =>
    intro i hi hv
    have hi' : i < 256 := by omega
    have h : ¬ (256 : Int32) ≤ nI i := nI_ge (b := 256) hi' (by decide)
    have hv' := hv i (Nat.le_refl i) hi'
    obtain ⟨r, hX, hY⟩ := ih (i + 1) (by omega) (fun k a1 a2 => hv k (by omega) a2)
    by_cases z : v2 < 0
    · exact ⟨r, fun post hp => br_f h (br_t z (nm_r (nI_1 i) (hX post hp))), fun post hp => br_f h (br_f hv' (br_t z (nm_r (nI_1 i) (hY post hp))))⟩
    · by_cases y : rt_gb g i 9 = v2
      · exact ⟨nI i, fun post hp => br_f h (br_f z (rt_gbX (L := 9) S hi' (by decide) (br_t y hp))), fun post hp => br_f h (br_f hv' (br_f z (rt_gbY hi' (br_t y hp))))⟩
      · exact ⟨r, fun post hp => br_f h (br_f z (rt_gbX (L := 9) S hi' (by decide) (br_f y (nm_r (nI_1 i) (hX post hp))))), fun post hp => br_f h (br_f hv' (br_f z (rt_gbY hi' (br_f y (nm_r (nI_1 i) (hY post hp))))))⟩
theorem rt_nextY {n : Nat} {v1 v2 : Int32} : ∀ e i, i + e ≤ 256 → (∀ k, k < i + e → nI k < v1) → wY_next_2 post v1 v2 g bf n (nI (i + e)) → wY_next_2 post v1 v2 g bf (n + e) (nI i) := by
  intro e
  induction e with
  | zero =>
    intro i _ _ h
    exact h
  | succ e ih =>
    intro i h1 h2 h3
    have q : i + 1 + e = i + (e + 1) := by omega
    have r := ih (i + 1) (by omega) (fun k hk => h2 k (by omega)) (by rw [q]; exact h3)
    exact br_f (nI_ge (b := 256) (by omega) (by decide)) (br_t (h2 i (by omega)) (nm_r (nI_1 i) r))
theorem rt_nextM (S : rt_S g (rt_W tb lb) (rt_G tg lg)) (v1 v2 : Int32) : ∃ r : Int32, (∀ post : Int32 → Prop, post r → wpX_next post (tb, ct, tg, lb, lg) v1 v2) ∧ (∀ post : Int32 → Prop, post r → wpY_next post (g, bf) v1 v2) := by
  unfold wpX_next wpY_next
  dsimp only
  by_cases h : v1 < 0
  · obtain ⟨r, hX, hY⟩ := rt_nextL (ct := ct) (bf := bf) S v1 v2 256 0 rfl (fun k _ hk z => nI_pos (n := k) (by omega) (Int32.lt_trans z h))
    exact ⟨r, fun post hp => br_f (fun z => Int32.not_lt.mpr z h) (Exists.intro 257 (hX post hp)), fun post hp => Exists.intro 257 (hY post hp)⟩
  · obtain ⟨f, hf, rfl⟩ := nI_of h
    by_cases hf2 : f < 256
    · obtain ⟨r, hX, hY⟩ := rt_nextL (ct := ct) (bf := bf) S (nI f) v2 (256 - f) f (by omega) (fun k a1 a2 => nI_nlt a1 (by omega))
      refine ⟨r, fun post hp => br_t (nI_pos' hf) (Exists.intro _ (hX post hp)), fun post hp => Exists.intro (256 - f + 1 + f) ?_⟩
      refine rt_nextY f 0 (by omega) (fun k hk => nI_lt (by omega) hf) ?_
      rw [Nat.zero_add]
      exact hY post hp
    · refine ⟨-1, fun post hp => br_t (nI_pos' hf) (Exists.intro 1 (br_t (nI_le (a := 256) (by omega) hf) hp)), fun post hp => Exists.intro (1 + 256) ?_⟩
      exact rt_nextY 256 0 (by decide) (fun k hk => nI_lt (by omega) hf) (br_t (nI_le (a := 256) (by decide) (by decide)) hp)
/-! sent -/
theorem rt_sentL (S : rt_S g (rt_W tb lb) (rt_G tg lg)) (v : Int32) : ∀ d i (s : Int32), i + d = 256 → ∃ r : Int32, (∀ post : Int32 → Prop, post r → wX_sent_4 post v tb ct tg lb lg (d + 1) s (nI i)) ∧ (∀ post : Int32 → Prop, post r → wY_sent_4 post v g bf (d + 1) s (nI i)) := by
  intro d
  induction d with
  | zero =>
    intro i s hi
    have h : (256 : Int32) ≤ nI i := nI_le (a := 256) (by omega) (by omega)
    exact ⟨s, fun _ hp => br_t h hp, fun _ hp => br_t h hp⟩
  | succ d ih =>
    intro i s hi
    have hi' : i < 256 := by omega
    have h : ¬ (256 : Int32) ≤ nI i := nI_ge (b := 256) hi' (by decide)
    by_cases y : rt_gb g i 9 = v
    · obtain ⟨r, hX, hY⟩ := ih (i + 1) (s + 1) (by omega)
      exact ⟨r, fun post hp => br_f h (rt_gbX (L := 9) S hi' (by decide) (br_t y (nm_e (nm_r (nI_1 i) (hX post hp))))), fun post hp => br_f h (rt_gbY hi' (br_t y (nm_e (nm_r (nI_1 i) (hY post hp)))))⟩
    · obtain ⟨r, hX, hY⟩ := ih (i + 1) s (by omega)
      exact ⟨r, fun post hp => br_f h (rt_gbX (L := 9) S hi' (by decide) (br_f y (nm_r (Int32.add_zero s) (nm_r (nI_1 i) (hX post hp))))), fun post hp => br_f h (rt_gbY hi' (br_f y (nm_r (nI_1 i) (hY post hp))))⟩
theorem rt_sentM (S : rt_S g (rt_W tb lb) (rt_G tg lg)) (v : Int32) : ∃ r : Int32, (∀ post : Int32 → Prop, post r → wpX_sent post (tb, ct, tg, lb, lg) v) ∧ (∀ post : Int32 → Prop, post r → wpY_sent post (g, bf) v) := by
  unfold wpX_sent wpY_sent
  dsimp only
  obtain ⟨r, hX, hY⟩ := rt_sentL (ct := ct) (bf := bf) S v 256 0 0 rfl
  exact ⟨r, fun post hp => Exists.intro 257 (hX post hp), fun post hp => Exists.intro 257 (hY post hp)⟩
/-! spans, spanStart -/
theorem rt_ss (S : rt_S g (rt_W tb lb) (rt_G tg lg)) : ∀ i, i < 256 → ∃ r : Int32, (∀ post : Int32 → Prop, post r → wpX_startsSpan post (tb, ct, tg, lb, lg) (nI i)) ∧ (∀ post : Int32 → Prop, post r → wpY_begins post (g, bf) (nI i)) := by
  intro i hi
  unfold wpX_startsSpan wpY_begins
  dsimp only
  cases i with
  | zero => exact ⟨1, fun _ hp => br_t rfl hp, fun _ hp => br_t rfl hp⟩
  | succ i =>
    have h0 : ¬ nI (i + 1) = 0 := nI_ne0 (by omega) (by omega)
    rw [nI_pred i]
    by_cases y : rt_gb g (i + 1) 9 = rt_gb g i 9
    · exact ⟨0, fun _ hp => br_f h0 (rt_gbX (L := 9) S hi (by decide) (rt_gbX (L := 9) S (by omega) (by decide) (br_t y hp))), fun _ hp => br_f h0 (rt_gbY hi (rt_gbY (by omega) (br_t y hp)))⟩
    · exact ⟨1, fun _ hp => br_f h0 (rt_gbX (L := 9) S hi (by decide) (rt_gbX (L := 9) S (by omega) (by decide) (br_f y hp))), fun _ hp => br_f h0 (rt_gbY hi (rt_gbY (by omega) (br_f y hp)))⟩
theorem rt_spansL (S : rt_S g (rt_W tb lb) (rt_G tg lg)) : ∀ d i (s : Int32), i + d = 256 → ∃ r : Int32, (∀ post : Int32 → Prop, post r → wX_spans_4 post tb ct tg lb lg (d + 1) s (nI i)) ∧ (∀ post : Int32 → Prop, post r → wY_spans_4 post g bf (d + 1) s (nI i)) := by
  intro d
  induction d with
  | zero =>
    intro i s hi
    have h : (256 : Int32) ≤ nI i := nI_le (a := 256) (by omega) (by omega)
    exact ⟨s, fun _ hp => br_t h hp, fun _ hp => br_t h hp⟩
  | succ d ih =>
    intro i s hi
    have hi' : i < 256 := by omega
    have h : ¬ (256 : Int32) ≤ nI i := nI_ge (b := 256) hi' (by decide)
    obtain ⟨q, qX, qY⟩ := rt_ss (ct := ct) (bf := bf) S i hi'
    by_cases y : q = 0
    · obtain ⟨r, hX, hY⟩ := ih (i + 1) s (by omega)
      exact ⟨r, fun post hp => br_f h (qX _ (br_t y (nm_r (Int32.add_zero s) (nm_r (nI_1 i) (hX post hp))))), fun post hp => br_f h (qY _ (br_t y (nm_r (nI_1 i) (hY post hp))))⟩
    · obtain ⟨r, hX, hY⟩ := ih (i + 1) (s + 1) (by omega)
      exact ⟨r, fun post hp => br_f h (qX _ (br_f y (nm_e (nm_r (nI_1 i) (hX post hp))))), fun post hp => br_f h (qY _ (br_f y (nm_e (nm_r (nI_1 i) (hY post hp)))))⟩
theorem rt_spansM (S : rt_S g (rt_W tb lb) (rt_G tg lg)) : ∃ r : Int32, (∀ post : Int32 → Prop, post r → wpX_spans post (tb, ct, tg, lb, lg)) ∧ (∀ post : Int32 → Prop, post r → wpY_spans post (g, bf)) := by
  unfold wpX_spans wpY_spans
  dsimp only
  obtain ⟨r, hX, hY⟩ := rt_spansL (ct := ct) (bf := bf) S 256 0 0 rfl
  exact ⟨r, fun post hp => Exists.intro 257 (hX post hp), fun post hp => Exists.intro 257 (hY post hp)⟩
theorem rt_spanSL (S : rt_S g (rt_W tb lb) (rt_G tg lg)) (v : Int32) : ∀ d i (s : Int32), i + d = 256 → ∃ r : Int32, (∀ post : Int32 → Prop, post r → wX_spanStart_4 post v tb ct tg lb lg (d + 1) s (nI i)) ∧ (∀ post : Int32 → Prop, post r → wY_spanStart_4 post v g bf (d + 1) s (nI i)) := by
  intro d
  induction d with
  | zero =>
    intro i s hi
    have h : (256 : Int32) ≤ nI i := nI_le (a := 256) (by omega) (by omega)
    exact ⟨-1, fun _ hp => br_t h hp, fun _ hp => br_t h hp⟩
  | succ d ih =>
    intro i s hi
    have hi' : i < 256 := by omega
    have h : ¬ (256 : Int32) ≤ nI i := nI_ge (b := 256) hi' (by decide)
    obtain ⟨q, qX, qY⟩ := rt_ss (ct := ct) (bf := bf) S i hi'
    by_cases y : q = 0
    · obtain ⟨r, hX, hY⟩ := ih (i + 1) s (by omega)
      exact ⟨r, fun post hp => br_f h (qX _ (br_t y (nm_r (nI_1 i) (hX post hp)))), fun post hp => br_f h (qY _ (br_t y (nm_r (nI_1 i) (hY post hp))))⟩
    · by_cases w : s = v
      · exact ⟨nI i, fun post hp => br_f h (qX _ (br_f y (br_t w hp))), fun post hp => br_f h (qY _ (br_f y (br_t w hp)))⟩
      · obtain ⟨r, hX, hY⟩ := ih (i + 1) (s + 1) (by omega)
        exact ⟨r, fun post hp => br_f h (qX _ (br_f y (br_f w (nm_e (nm_r (nI_1 i) (hX post hp)))))), fun post hp => br_f h (qY _ (br_f y (br_f w (nm_e (nm_r (nI_1 i) (hY post hp))))))⟩
theorem rt_spanSM (S : rt_S g (rt_W tb lb) (rt_G tg lg)) (v : Int32) : ∃ r : Int32, (∀ post : Int32 → Prop, post r → wpX_spanStart post (tb, ct, tg, lb, lg) v) ∧ (∀ post : Int32 → Prop, post r → wpY_spanStart post (g, bf) v) := by
  unfold wpX_spanStart wpY_spanStart
  dsimp only
  obtain ⟨r, hX, hY⟩ := rt_spanSL (ct := ct) (bf := bf) S v 256 0 0 rfl
  exact ⟨r, fun post hp => Exists.intro 257 (hX post hp), fun post hp => Exists.intro 257 (hY post hp)⟩
/-! routes -/
theorem rt_routesY (h : post (nI (rt_cn (rt_p g) 511))) : wpY_routes post (g, bf) := by
  have key : ∀ d i, i + d = 511 → wY_routes_4 post g bf (d + 1) (nI (rt_cn (rt_p g) i)) (nI i) := by
    intro d
    induction d with
    | zero =>
      intro i hi
      have e : i = 511 := by omega
      subst e
      exact br_t (nI_le (a := 511) (by omega) (by decide)) h
    | succ d ih =>
      intro i hi
      refine br_f (nI_ge (b := 511) (by omega) (by decide)) (And.intro (vp_in_nI (by omega) (by decide)) ?_)
      rw [nI_clamp (show i < 2 ^ 31 by omega)]
      have r := ih (i + 1) (by omega)
      by_cases z : rt_p g i = true
      · rw [rt_cn_1 z] at r
        exact br_f (rt_p_t z) (nm_r (nI_1 _) (nm_r (nI_1 i) r))
      · have z' := rt_nt z
        rw [rt_cn_0 z'] at r
        exact br_t (rt_p_f z') (nm_r (nI_1 i) r)
  unfold wpY_routes
  dsimp only
  exact Exists.intro 512 (key 511 0 rfl)
end
end
section
section
variable {post : Int32 → Prop} {tb ct : Int32} {tg lb lg g bf : Nat → Int32} {a b j : Nat}
theorem rt_isYn {v1 v2 : Int32} (hv : ∀ (post : Int32 → Prop) (g bf : Nat → Int32), post 0 → wpY_beginning post (g, bf) v1 v2) (h : post 0) : wpY_is post (g, bf) v1 v2 := by
  unfold wpY_is
  dsimp only
  exact hv _ _ _ (br_t rfl h)
/-! load -/
theorem rt_ldX {E : Nat} (S : rt_S g (rt_W tb lb) (rt_G tg lg)) (hb : b < 9) (h0 : 0 < E) (hE : E ≤ 256) (h : post (nI (rt_cn (rt_lf g a b) E))) : ∀ d i, i + d = E → (∀ x, i ≤ x → x < E → x / 2 ^ (8 - b) = a / 2 ^ (8 - b)) → wX_load_33 post (nI b) (nI (E - 1)) tb ct tg lb lg (d + 1) (nI (rt_cn (rt_lf g a b) i)) (nI i) := by
  intro d
  induction d with
  | zero =>
    intro i hi _
    have e : i = E := by omega
    subst e
    exact br_t (nI_lt (by omega) (by omega)) h
  | succ d ih =>
    intro i hi hu
    have hn : ¬ nI (E - 1) < nI i := nI_nlt (by omega) (by omega)
    have r := ih (i + 1) (by omega) (fun x a1 a2 => hu x (by omega) a2)
    have q := hu i (Nat.le_refl i) (by omega)
    by_cases y : rt_bb g i 9 = nI b
    · rw [rt_cn_1 (rt_lf_t q y)] at r
      exact br_f hn (rt_bbX (L := 9) S (by omega) (by decide) (br_t y (nm_r (nI_1 _) (nm_r (nI_1 i) r))))
    · rw [rt_cn_0 (rt_lf_f2 y)] at r
      exact br_f hn (rt_bbX (L := 9) S (by omega) (by decide) (br_f y (nm_r (Int32.add_zero _) (nm_r (nI_1 i) r))))
theorem rt_ldY (ha : a < 256) (hb : b < 9) (h : post (nI (rt_cn (rt_lf g a b) 256))) : ∀ d i, i + d = 256 → wY_load_16 post (nI a) (nI b) g bf (d + 1) (nI (rt_cn (rt_lf g a b) i)) (nI i) := by
  intro d
  induction d with
  | zero =>
    intro i hi
    have e : i = 256 := by omega
    subst e
    exact br_t (nI_le (a := 256) (by decide) (by decide)) h
  | succ d ih =>
    intro i hi
    have hi' : i < 256 := by omega
    have hn : ¬ (256 : Int32) ≤ nI i := nI_ge (b := 256) hi' (by decide)
    have r := ih (i + 1) (by omega)
    by_cases q : i / 2 ^ (8 - b) = a / 2 ^ (8 - b)
    · have q' : nI i >>> ((8 - nI b) &&& 31) = nI a >>> ((8 - nI b) &&& 31) := by rw [rt_f4 hi' hb, rt_f4 ha hb, q]
      by_cases y : rt_bb g i 9 = nI b
      · rw [rt_cn_1 (rt_lf_t q y)] at r
        exact br_f hn (br_t q' (br_f (by decide) (rt_bitsY hi' (br_t y (nm_r (nI_1 _) (nm_r (nI_1 i) r))))))
      · rw [rt_cn_0 (rt_lf_f2 y)] at r
        exact br_f hn (br_t q' (br_f (by decide) (rt_bitsY hi' (br_f y (nm_r (nI_1 i) r)))))
    · have q' : ¬ nI i >>> ((8 - nI b) &&& 31) = nI a >>> ((8 - nI b) &&& 31) := by
        have l1 : i / 2 ^ (8 - b) ≤ i := Nat.div_le_self _ _
        have l2 : a / 2 ^ (8 - b) ≤ a := Nat.div_le_self _ _
        rw [rt_f4 hi' hb, rt_f4 ha hb, nI_eq (by omega) (by omega)]
        exact q
      rw [rt_cn_0 (rt_lf_f1 q)] at r
      exact br_f hn (br_f q' (br_t rfl (nm_r (nI_1 i) r)))
theorem rt_loadX (S : rt_S g (rt_W tb lb) (rt_G tg lg)) (ha : a < 256) (hb : b < 9) (hm : a % 2 ^ (8 - b) = 0) (hp : rt_p g (rt_cell a b) = true) (h : post (nI (rt_cn (rt_lf g a b) 256))) : wpX_load post (tb, ct, tg, lb, lg) (nI a) (nI b) := by
  obtain ⟨f1, f2⟩ := rt_f5 a ha b hb hm
  have hq : 0 < 2 ^ (8 - b) := Nat.two_pow_pos _
  have c1 : rt_cn (rt_lf g a b) a = 0 := rt_cn_z (fun x hx => rt_lf_f1 (fun z => by
    have := (rt_f7 hq hm z).1
    omega))
  have c2 : rt_cn (rt_lf g a b) 256 = rt_cn (rt_lf g a b) (a + 2 ^ (8 - b)) := rt_cn_dn 256 f2 (fun x hx _ => rt_lf_f1 (fun z => by
    have := (rt_f7 hq hm z).2
    omega))
  rw [c2] at h
  have r := rt_ldX (ct := ct) S hb (by omega) f2 h (2 ^ (8 - b)) a rfl (fun x a1 a2 => rt_f6 hq hm a1 a2)
  rw [c1] at r
  unfold wpX_load
  dsimp only
  exact rt_begX ha hb hm (br_f (by decide) (rt_has S ha hb (fun _ => br_f (by decide) (nm_r f1 (Exists.intro _ r))) (fun z => absurd hp (rt_ft z))))
theorem rt_loadM (S : rt_S g (rt_W tb lb) (rt_G tg lg)) (v1 v2 : Int32) : ∃ r : Int32, (∀ post : Int32 → Prop, post r → wpX_load post (tb, ct, tg, lb, lg) v1 v2) ∧ (∀ post : Int32 → Prop, post r → wpY_load post (g, bf) v1 v2) := by
  rcases rt_beg v1 v2 with ⟨a, b, ha, hb, hm, rfl, rfl⟩ | ⟨hX, hY⟩
  · by_cases p : rt_p g (rt_cell a b) = true
    · refine ⟨_, fun post h => rt_loadX S ha hb hm p h, fun post h => ?_⟩
      unfold wpY_load
      dsimp only
      exact rt_isY ha hb hm (fun _ => br_f (by decide) (Exists.intro 257 (rt_ldY ha hb h 256 0 rfl))) (fun z => absurd p (rt_ft z))
    · refine ⟨-1, fun post h => ?_, fun post h => ?_⟩
      · unfold wpX_load
        dsimp only
        exact rt_begX ha hb hm (br_f (by decide) (rt_has S ha hb (fun z => absurd z p) (fun _ => br_t rfl h)))
      · unfold wpY_load
        dsimp only
        exact rt_isY ha hb hm (fun z => absurd z p) (fun _ => br_t rfl h)
  · refine ⟨-1, fun post h => ?_, fun post h => ?_⟩
    · unfold wpX_load
      dsimp only
      exact hX _ (br_t rfl h)
    · unfold wpY_load
      dsimp only
      exact rt_isYn hY (br_t rfl h)
/-! exact -/
theorem rt_exY (ha : a < 256) (hb : b < 9) (hm : a % 2 ^ (8 - b) = 0) (hp : rt_p g (rt_cell a b) = true) (h : post (g (rt_cell a b))) : wpY_exact post (g, bf) (nI a) (nI b) := by
  obtain ⟨c1, c2⟩ := rt_clY ha hb
  unfold wpY_exact
  dsimp only
  refine rt_isY ha hb hm (fun _ => br_f (by decide) (rt_cellY ha hb (And.intro c2 ?_))) (fun z => absurd hp (rt_ft z))
  rw [c1]
  exact h
theorem rt_exM (S : rt_S g (rt_W tb lb) (rt_G tg lg)) (v1 v2 : Int32) : ∃ r : Int32, (∀ post : Int32 → Prop, post r → wpX_exact post (tb, ct, tg, lb, lg) v1 v2) ∧ (∀ post : Int32 → Prop, post r → wpY_exact post (g, bf) v1 v2) := by
  rcases rt_beg v1 v2 with ⟨a, b, ha, hb, hm, rfl, rfl⟩ | ⟨hX, hY⟩
  · by_cases p : rt_p g (rt_cell a b) = true
    · refine ⟨_, fun post h => ?_, fun post h => rt_exY ha hb hm p h⟩
      unfold wpX_exact
      dsimp only
      exact rt_begX ha hb hm (br_f (by decide) (rt_has S ha hb (fun _ => br_f (by decide) (rt_gof S ha hb p h)) (fun z => absurd p (rt_ft z))))
    · refine ⟨-1, fun post h => ?_, fun post h => ?_⟩
      · unfold wpX_exact
        dsimp only
        exact rt_begX ha hb hm (br_f (by decide) (rt_has S ha hb (fun z => absurd z p) (fun _ => br_t rfl h)))
      · unfold wpY_exact
        dsimp only
        exact rt_isY ha hb hm (fun z => absurd z p) (fun _ => br_t rfl h)
  · refine ⟨-1, fun post h => ?_, fun post h => ?_⟩
    · unfold wpX_exact
      dsimp only
      exact hX _ (br_t rfl h)
    · unfold wpY_exact
      dsimp only
      exact rt_isYn hY (br_t rfl h)
end
section
variable {tb ct : Int32} {tg lb lg g bf : Nat → Int32} {a b j : Nat}
/-! put -/
theorem rt_put39 {post : Int32 → SX → Prop} {z0 : Int32} (S : rt_S g (rt_W tb lb) (rt_G tg lg)) (ha : a < 256) (hb : b < 9) (hj : j < 100) (h : ∀ (tb' : Int32) (tg' lb' lg' : Nat → Int32), rt_S (upd g (rt_cell a b) (nI j)) (rt_W tb' lb') (rt_G tg' lg') → post 1 (tb', ct + z0, tg', lb', lg')) : wX_put_39 post (nI a) (nI b) (nI j) z0 ct tb ct tg lb lg := by
  have hc := (rt_t2 a ha b hb).1
  have hpl := (rt_t1 _ hc).2.1
  unfold wX_put_39
  refine nm_e (rt_place ha hb ?_)
  rw [rt_f2 hj]
  refine pk_le 4 b (fun h4 => ?_) (fun h4 => ?_)
  · obtain ⟨o, rfl⟩ : ∃ o, b = 4 + o := ⟨b - 4, by omega⟩
    have w := (rt_t4 a ha o (by omega)).1
    refine nm_r (rt_e5 ha) ?_
    rw [rt_e7, nI_clamp (show a / 16 < 2 ^ 31 by omega), nI_clamp (show a / 16 * 31 + rt_pl (rt_cell a (4 + o)) < 2 ^ 31 by omega)]
    have i1 : vp_in (nI (a / 16)) 16 := vp_in_nI (by omega) (by decide)
    have i2 : vp_in (nI (a / 16 * 31 + rt_pl (rt_cell a (4 + o)))) 496 := vp_in_nI (by omega) (by decide)
    exact And.intro i1 (And.intro i1 (nm_e (And.intro i2 (nm_e (h _ _ _ _ (rt_putL S hc w hj))))))
  · have t := rt_t3 a ha b h4
    have hq : rt_pl (rt_cell a b) < 15 := by
      rw [t.2.1]
      exact t.2.2
    rw [nI_clamp (show rt_pl (rt_cell a b) < 2 ^ 31 by omega)]
    exact nm_e (And.intro (vp_in_nI hq (by decide)) (nm_e (h _ _ _ _ (rt_putT S hc t.1 hj))))
theorem rt_putX {post : Int32 → SX → Prop} (S : rt_S g (rt_W tb lb) (rt_G tg lg)) (hct : ct = nI (rt_cn (rt_p g) 511)) (ha : a < 256) (hb : b < 9) (hm : a % 2 ^ (8 - b) = 0) (hj : j < 100) (h : ∀ (tb' : Int32) (tg' lb' lg' : Nat → Int32), rt_S (upd g (rt_cell a b) (nI j)) (rt_W tb' lb') (rt_G tg' lg') → post 1 (tb', nI (rt_cn (rt_p (upd g (rt_cell a b) (nI j))) 511), tg', lb', lg')) : wpX_put post (tb, ct, tg, lb, lg) (nI a) (nI b) (nI j) := by
  have hc := (rt_t2 a ha b hb).1
  unfold wpX_put
  dsimp only
  refine rt_begX ha hb hm (br_f (by decide) (br_f (nI_pos (by omega)) (br_t (nI_le (b := 99) (by omega) (by decide)) (rt_has S ha hb (fun p => br_f (by decide) ?_) (fun p => br_t rfl ?_)))))
  · refine rt_put39 S ha hb hj (fun tb' tg' lb' lg' S' => ?_)
    have q := h tb' tg' lb' lg' S'
    rw [rt_ct_old hj p, ← hct] at q
    rw [Int32.add_zero]
    exact q
  · refine rt_put39 S ha hb hj (fun tb' tg' lb' lg' S' => ?_)
    have q := h tb' tg' lb' lg' S'
    rw [rt_ct_new hc hj p, ← nI_1, ← hct] at q
    exact q
theorem rt_putY {post : Int32 → SY → Prop} (ha : a < 256) (hb : b < 9) (hm : a % 2 ^ (8 - b) = 0) (hj : j < 100) (h : post 1 (upd g (rt_cell a b) (nI j), bf)) : wpY_put post (g, bf) (nI a) (nI b) (nI j) := by
  obtain ⟨c1, c2⟩ := rt_clY ha hb
  unfold wpY_put
  dsimp only
  refine rt_begY ha hb hm (br_f (by decide) (br_f (nI_pos (by omega)) (br_t (nI_le (b := 99) (by omega) (by decide)) (rt_cellY ha hb (And.intro c2 ?_)))))
  rw [c1]
  exact nm_e h
/-! drop -/
theorem rt_dropX {post : Int32 → SX → Prop} (S : rt_S g (rt_W tb lb) (rt_G tg lg)) (ha : a < 256) (hb : b < 9) (hm : a % 2 ^ (8 - b) = 0) (hp : rt_p g (rt_cell a b) = true) (h : ∀ (tb' : Int32) (lb' : Nat → Int32), rt_S (upd g (rt_cell a b) (-1)) (rt_W tb' lb') (rt_G tg lg) → post 1 (tb', ct - 1, tg, lb', lg)) : wpX_drop post (tb, ct, tg, lb, lg) (nI a) (nI b) := by
  have hc := (rt_t2 a ha b hb).1
  unfold wpX_drop
  dsimp only
  refine rt_begX ha hb hm (br_f (by decide) (rt_has S ha hb (fun _ => br_f (by decide) (rt_place ha hb ?_)) (fun z => absurd hp (rt_ft z))))
  refine pk_le 4 b (fun h4 => ?_) (fun h4 => ?_)
  · obtain ⟨o, rfl⟩ : ∃ o, b = 4 + o := ⟨b - 4, by omega⟩
    have w := (rt_t4 a ha o (by omega)).1
    rw [rt_e5 ha, nI_clamp (show a / 16 < 2 ^ 31 by omega)]
    have i1 : vp_in (nI (a / 16)) 16 := vp_in_nI (by omega) (by decide)
    refine And.intro i1 (And.intro i1 (nm_e ?_))
    unfold wX_drop_63
    exact nm_e (h _ _ (rt_dropL S hc w))
  · refine nm_e ?_
    unfold wX_drop_63
    exact nm_e (h _ _ (rt_dropT S hc (rt_t3 a ha b h4).1))
theorem rt_dropY {post : Int32 → SY → Prop} (ha : a < 256) (hb : b < 9) (hm : a % 2 ^ (8 - b) = 0) (hp : rt_p g (rt_cell a b) = true) (h : post 1 (upd g (rt_cell a b) (-1), bf)) : wpY_drop post (g, bf) (nI a) (nI b) := by
  obtain ⟨c1, c2⟩ := rt_clY ha hb
  unfold wpY_drop
  dsimp only
  refine rt_isY ha hb hm (fun _ => br_f (by decide) (rt_cellY ha hb (And.intro c2 ?_))) (fun z => absurd hp (rt_ft z))
  rw [c1]
  exact nm_e h
/-! clear -/
theorem rt_clearX {post : SX → Prop} (h : ∀ lb' : Nat → Int32, (∀ k, k < 16 → lb' k = 0) → post (0, 0, tg, lb', lg)) : wpX_clear post (tb, ct, tg, lb, lg) := by
  have key : ∀ d i (l : Nat → Int32), i + d = 16 → (∀ k, k < i → l k = 0) → wX_clear_7 post 0 ct (d + 1) (nI i) tg l lg := by
    intro d
    induction d with
    | zero =>
      intro i l hi hl
      have e : i = 16 := by omega
      subst e
      exact br_t (nI_le (a := 16) (by decide) (by decide)) (h l hl)
    | succ d ih =>
      intro i l hi hl
      refine br_f (nI_ge (b := 16) (by omega) (by decide)) (And.intro (vp_in_nI (by omega) (by decide)) ?_)
      rw [nI_clamp (show i < 2 ^ 31 by omega)]
      refine nm_e (nm_r (nI_1 i) (ih (i + 1) _ (by omega) (fun k hk => ?_)))
      by_cases e : k = i
      · rw [e]; exact pk_us
      · rw [pk_un e]; exact hl k (by omega)
  unfold wpX_clear
  dsimp only
  exact Exists.intro 17 (key 16 0 lb rfl (fun k hk => absurd hk (Nat.not_lt_zero _)))
theorem rt_clearY {post : SY → Prop} (h : ∀ g' : Nat → Int32, (∀ c, c < 511 → g' c = -1) → post (g', bf)) : wpY_clear post (g, bf) := by
  have key : ∀ d i (l : Nat → Int32), i + d = 511 → (∀ k, k < i → l k = -1) → wY_clear_2 post (d + 1) (nI i) l bf := by
    intro d
    induction d with
    | zero =>
      intro i l hi hl
      have e : i = 511 := by omega
      subst e
      exact br_t (nI_le (a := 511) (by decide) (by decide)) (h l hl)
    | succ d ih =>
      intro i l hi hl
      refine br_f (nI_ge (b := 511) (by omega) (by decide)) (And.intro (vp_in_nI (by omega) (by decide)) ?_)
      rw [nI_clamp (show i < 2 ^ 31 by omega)]
      refine nm_e (nm_r (nI_1 i) (ih (i + 1) _ (by omega) (fun k hk => ?_)))
      by_cases e : k = i
      · rw [e]; exact pk_us
      · rw [pk_un e]; exact hl k (by omega)
  unfold wpY_clear
  dsimp only
  exact Exists.intro 512 (key 511 0 g rfl (fun k hk => absurd hk (Nat.not_lt_zero _)))
/-! idle -/
theorem rt_idleX {post : Int32 → Prop} {r : Int32} (S : rt_S g (rt_W tb lb) (rt_G tg lg)) (ha : a < 256) (hb : b < 9) (hm : a % 2 ^ (8 - b) = 0) (hp : rt_p g (rt_cell a b) = true) (hr : (r = 1 ∧ (rt_gb g a b = g (rt_cell a b) ∨ rt_cn (rt_lf g a b) 256 = 0)) ∨ (r = 0 ∧ ¬ (rt_gb g a b = g (rt_cell a b) ∨ rt_cn (rt_lf g a b) 256 = 0))) (h : post r) : wpX_idle post (tb, ct, tg, lb, lg) (nI a) (nI b) := by
  unfold wpX_idle
  dsimp only
  refine rt_begX ha hb hm (br_f (by decide) (rt_has S ha hb (fun _ => br_f (by decide) (rt_gbX S ha (by omega) (rt_gof S ha hb hp ?_))) (fun z => absurd hp (rt_ft z))))
  by_cases e : rt_gb g a b = g (rt_cell a b)
  · refine br_t e ?_
    rcases hr with ⟨rfl, _⟩ | ⟨_, q⟩
    · exact h
    · exact absurd (Or.inl e) q
  · refine br_f e (rt_loadX S ha hb hm hp ?_)
    have hl := rt_cn_le (rt_lf g a b) 256
    refine pk_eq (rt_cn (rt_lf g a b) 256) 0 (fun z => ?_) (fun z => ?_)
    · rcases hr with ⟨rfl, _⟩ | ⟨_, q⟩
      · exact h
      · exact absurd (Or.inr z) q
    · rcases hr with ⟨_, q⟩ | ⟨rfl, _⟩
      · rcases q with q | q
        · exact absurd q e
        · exact absurd q z
      · exact h
theorem rt_idle57 {post : Int32 → SY → Prop} {r : Int32} {g' : Nat → Int32} (ha : a < 256) (hb : b < 9) (hm : a % 2 ^ (8 - b) = 0) (hj : j < 100) (hg' : upd g' (rt_cell a b) (nI j) = g) (hr : (r = 1 ∧ (∀ x, x < 256 → rt_gb g' x 9 = bf x)) ∨ (r = 0 ∧ ¬ (∀ x, x < 256 → rt_gb g' x 9 = bf x))) (h : post r (g, bf)) : ∀ d i (x4 : Int32), i + d = 256 → ((x4 = 1 ∧ (∀ x, x < i → rt_gb g' x 9 = bf x)) ∨ (x4 = 0 ∧ ¬ (∀ x, x < i → rt_gb g' x 9 = bf x))) → wY_idle_57 post (nI a) (nI b) (nI j) g' bf (d + 1) x4 (nI i) := by
  intro d
  induction d with
  | zero =>
    intro i x4 hi hx
    have e : i = 256 := by omega
    subst e
    have ex : x4 = r ∧ narrow .boolean (.int x4) = .int x4 := by
      rcases hx with ⟨rfl, hx⟩ | ⟨rfl, hx⟩
      · rcases hr with ⟨rfl, _⟩ | ⟨_, q⟩
        · exact ⟨rfl, rfl⟩
        · exact absurd hx q
      · rcases hr with ⟨_, q⟩ | ⟨rfl, _⟩
        · exact absurd q hx
        · exact ⟨rfl, rfl⟩
    refine br_t (nI_le (a := 256) (by decide) (by decide)) (rt_putY ha hb hm hj ?_)
    rw [hg']
    refine And.intro ex.2 ?_
    rw [ex.1]
    exact h
  | succ d ih =>
    intro i x4 hi hx
    have hi' : i < 256 := by omega
    have hn : ¬ (256 : Int32) ≤ nI i := nI_ge (b := 256) hi' (by decide)
    rcases hx with ⟨rfl, hx⟩ | ⟨rfl, hx⟩
    · refine br_f hn (br_f (by decide) (rt_gbY hi' (And.intro (vp_in_nI hi' (by decide)) ?_)))
      rw [nI_clamp (show i < 2 ^ 31 by omega)]
      by_cases e : rt_gb g' i 9 = bf i
      · refine br_t e (nm_r (nI_1 i) (ih (i + 1) 1 (by omega) (Or.inl ⟨rfl, fun x hxi => ?_⟩)))
        by_cases ee : x = i
        · rw [ee]; exact e
        · exact hx x (by omega)
      · exact br_f e (nm_r (nI_1 i) (ih (i + 1) 0 (by omega) (Or.inr ⟨rfl, fun q => e (q i (by omega))⟩)))
    · exact br_f hn (br_t rfl (nm_r (nI_1 i) (ih (i + 1) 0 (by omega) (Or.inr ⟨rfl, fun q => hx (fun x hxi => q x (by omega))⟩))))
theorem rt_idle13 {post : Int32 → SY → Prop} {r : Int32} (ha : a < 256) (hb : b < 9) (hm : a % 2 ^ (8 - b) = 0) (hp : rt_p g (rt_cell a b) = true) (hj : j < 100) (hgj : g (rt_cell a b) = nI j) (hr : (r = 1 ∧ (∀ x, x < 256 → rt_gb (upd g (rt_cell a b) (-1)) x 9 = rt_gb g x 9)) ∨ (r = 0 ∧ ¬ (∀ x, x < 256 → rt_gb (upd g (rt_cell a b) (-1)) x 9 = rt_gb g x 9))) (h : ∀ bf' : Nat → Int32, post r (g, bf')) : ∀ d i (l : Nat → Int32), i + d = 256 → (∀ x, x < i → l x = rt_gb g x 9) → wY_idle_13 post (nI a) (nI b) (d + 1) (nI i) g l := by
  intro d
  induction d with
  | zero =>
    intro i l hi hl
    have e : i = 256 := by omega
    subst e
    have hback : upd (upd g (rt_cell a b) (-1)) (rt_cell a b) (nI j) = g := by
      funext c
      by_cases ec : c = rt_cell a b
      · rw [ec, pk_us, hgj]
      · rw [pk_un ec, pk_un ec]
    have hr' : (r = 1 ∧ (∀ x, x < 256 → rt_gb (upd g (rt_cell a b) (-1)) x 9 = l x)) ∨ (r = 0 ∧ ¬ (∀ x, x < 256 → rt_gb (upd g (rt_cell a b) (-1)) x 9 = l x)) := by
      rcases hr with ⟨q1, q2⟩ | ⟨q1, q2⟩
      · exact Or.inl ⟨q1, fun x hx => (q2 x hx).trans (hl x hx).symm⟩
      · exact Or.inr ⟨q1, fun q => q2 (fun x hx => (q x hx).trans (hl x hx))⟩
    refine br_t (nI_le (a := 256) (by decide) (by decide)) (rt_exY ha hb hm hp (rt_dropY ha hb hm hp ?_))
    rw [hgj]
    exact Exists.intro 257 (rt_idle57 ha hb hm hj hback hr' (h l) 256 0 1 rfl (Or.inl ⟨rfl, fun x hx => absurd hx (Nat.not_lt_zero _)⟩))
  | succ d ih =>
    intro i l hi hl
    have hi' : i < 256 := by omega
    refine br_f (nI_ge (b := 256) hi' (by decide)) (rt_gbY hi' (And.intro (vp_in_nI hi' (by decide)) ?_))
    rw [nI_clamp (show i < 2 ^ 31 by omega)]
    refine nm_e (nm_r (nI_1 i) (ih (i + 1) _ (by omega) (fun x hx => ?_)))
    by_cases e : x = i
    · rw [e]; exact pk_us
    · rw [pk_un e]; exact hl x (by omega)
theorem rt_idleM (S : rt_S g (rt_W tb lb) (rt_G tg lg)) (v1 v2 : Int32) : ∃ r : Int32, (∀ post : Int32 → Prop, post r → wpX_idle post (tb, ct, tg, lb, lg) v1 v2) ∧ (∀ post : Int32 → SY → Prop, (∀ bf', post r (g, bf')) → wpY_idle post (g, bf) v1 v2) := by
  rcases rt_beg v1 v2 with ⟨a, b, ha, hb, hm, rfl, rfl⟩ | ⟨hX, hY⟩
  · by_cases p : rt_p g (rt_cell a b) = true
    · have law := rt_idle2 ha hb p
      obtain ⟨j, hj, hgj⟩ : ∃ j, j < 100 ∧ g (rt_cell a b) = nI j := by
        rcases (S _ (rt_t2 a ha b hb).1).2.2 with q | q
        · have z := rt_p_t p
          rw [q] at z
          exact absurd (by decide) z
        · exact q
      have fin : ∀ r : Int32, ((r = 1 ∧ (rt_gb g a b = g (rt_cell a b) ∨ rt_cn (rt_lf g a b) 256 = 0)) ∨ (r = 0 ∧ ¬ (rt_gb g a b = g (rt_cell a b) ∨ rt_cn (rt_lf g a b) 256 = 0))) → ∃ r : Int32, (∀ post : Int32 → Prop, post r → wpX_idle post (tb, ct, tg, lb, lg) (nI a) (nI b)) ∧ (∀ post : Int32 → SY → Prop, (∀ bf', post r (g, bf')) → wpY_idle post (g, bf) (nI a) (nI b)) := by
        intro r hr
        refine ⟨r, fun post h => rt_idleX S ha hb hm p hr h, fun post h => ?_⟩
        rw [← law] at hr
        unfold wpY_idle
        dsimp only
        exact rt_isY ha hb hm (fun _ => br_f (by decide) (Exists.intro 257 (rt_idle13 ha hb hm p hj hgj hr h 256 0 bf rfl (fun x hx => absurd hx (Nat.not_lt_zero _))))) (fun z => absurd p (rt_ft z))
      by_cases q : (rt_gb g a b = g (rt_cell a b) ∨ rt_cn (rt_lf g a b) 256 = 0)
      · exact fin 1 (Or.inl ⟨rfl, q⟩)
      · exact fin 0 (Or.inr ⟨rfl, q⟩)
    · refine ⟨0, fun post h => ?_, fun post h => ?_⟩
      · unfold wpX_idle
        dsimp only
        exact rt_begX ha hb hm (br_f (by decide) (rt_has S ha hb (fun z => absurd z p) (fun _ => br_t rfl h)))
      · unfold wpY_idle
        dsimp only
        exact rt_isY ha hb hm (fun z => absurd z p) (fun _ => br_t rfl (h bf))
  · refine ⟨0, fun post h => ?_, fun post h => ?_⟩
    · unfold wpX_idle
      dsimp only
      exact hX _ (br_t rfl h)
    · unfold wpY_idle
      dsimp only
      exact rt_isYn hY (br_t rfl (h bf))
end
end
section
theorem rt_ct0 {g : Nat → Int32} (h : ∀ c, c < 511 → g c = -1) : rt_cn (rt_p g) 511 = 0 := rt_cn_z (fun c hc => by
  unfold rt_p
  rw [h c hc]
  decide)
theorem rt_W0 {lb : Nat → Int32} (h : ∀ k, k < 16 → lb k = 0) : ∀ k, k < 17 → rt_W 0 lb k = 0 := by
  intro k hk
  cases k with
  | zero => rfl
  | succ k => exact h k (by omega)
/-- the component's words and goals are those of the model's cells, and its count is the number of routes there -/
def i_Rel (_ : Nat) (u : SX) (v : SY) : Prop := ∃ (tb ct : Int32) (tg lb lg g bf : Nat → Int32), u = (tb, ct, tg, lb, lg) ∧ v = (g, bf) ∧ rt_S g (rt_W tb lb) (rt_G tg lg) ∧ ct = nI (rt_cn (rt_p g) 511)
theorem rt_rel {k : Nat} {tb ct : Int32} {tg lb lg g bf : Nat → Int32} (S : rt_S g (rt_W tb lb) (rt_G tg lg)) (h : ct = nI (rt_cn (rt_p g) 511)) : i_Rel k (tb, ct, tg, lb, lg) (g, bf) := ⟨tb, ct, tg, lb, lg, g, bf, rfl, rfl, S, h⟩
theorem i_up {k : Nat} {u : SX} {v : SY} (h : i_Rel k u v) : i_Rel (k + 4) u v := h
theorem i_vc0 : wpX_init (fun u => wpY_init (fun v => i_Rel 0 u v)) := by
  unfold wpX_init wpY_init
  refine rt_clearY (fun g' hg => ?_)
  refine rt_rel (rt_S_clear hg (rt_W0 (fun _ _ => rfl))) ?_
  rw [rt_ct0 hg]
  rfl
theorem i_vc_put {k : Nat} {u : SX} {v : SY} (I : i_Rel k u v) (hk : k + 4 ≤ 2048) (v1 : Int32) (v2 : Int32) (v3 : Int32) : wpX_put (fun r u' => wpY_put (fun r' v' => r' = r ∧ i_Rel (k + 4) u' v') v v1 v2 v3) u v1 v2 v3 := by
  obtain ⟨tb, ct, tg, lb, lg, g, bf, rfl, rfl, S, hct⟩ := I
  have rel : i_Rel (k + 4) (tb, ct, tg, lb, lg) (g, bf) := rt_rel S hct
  rcases rt_beg v1 v2 with ⟨a, b, ha, hb, hm, rfl, rfl⟩ | ⟨hX, hY⟩
  · by_cases h3 : v3 < 0
    · unfold wpX_put wpY_put
      dsimp only
      exact rt_begX ha hb hm (br_f (by decide) (br_t h3 (rt_begY ha hb hm (br_f (by decide) (br_t h3 ⟨rfl, rel⟩)))))
    · obtain ⟨j, hj, rfl⟩ := nI_of h3
      by_cases h4 : j < 100
      · exact rt_putX S hct ha hb hm h4 (fun tb' tg' lb' lg' S' => rt_putY ha hb hm h4 ⟨rfl, rt_rel S' rfl⟩)
      · have h5 : ¬ nI j ≤ 99 := nI_ge (a := 99) (by omega) hj
        unfold wpX_put wpY_put
        dsimp only
        exact rt_begX ha hb hm (br_f (by decide) (br_f h3 (br_f h5 (rt_begY ha hb hm (br_f (by decide) (br_f h3 (br_f h5 ⟨rfl, rel⟩)))))))
  · unfold wpX_put wpY_put
    dsimp only
    exact hX _ (br_t rfl (hY _ _ _ (br_t rfl ⟨rfl, rel⟩)))
theorem i_vc_drop {k : Nat} {u : SX} {v : SY} (I : i_Rel k u v) (hk : k + 4 ≤ 2048) (v1 : Int32) (v2 : Int32) : wpX_drop (fun r u' => wpY_drop (fun r' v' => r' = r ∧ i_Rel (k + 4) u' v') v v1 v2) u v1 v2 := by
  obtain ⟨tb, ct, tg, lb, lg, g, bf, rfl, rfl, S, hct⟩ := I
  have rel : i_Rel (k + 4) (tb, ct, tg, lb, lg) (g, bf) := rt_rel S hct
  rcases rt_beg v1 v2 with ⟨a, b, ha, hb, hm, rfl, rfl⟩ | ⟨hX, hY⟩
  · by_cases p : rt_p g (rt_cell a b) = true
    · refine rt_dropX S ha hb hm p (fun tb' lb' S' => rt_dropY ha hb hm p ⟨rfl, rt_rel S' ?_⟩)
      rw [hct, rt_ct_drop (rt_t2 a ha b hb).1 p]
      exact nI_pred _
    · unfold wpX_drop wpY_drop
      dsimp only
      exact rt_begX ha hb hm (br_f (by decide) (rt_has S ha hb (fun z => absurd z p) (fun _ => br_t rfl (rt_isY ha hb hm (fun z => absurd z p) (fun _ => br_t rfl ⟨rfl, rel⟩)))))
  · unfold wpX_drop wpY_drop
    dsimp only
    exact hX _ (br_t rfl (rt_isYn hY (br_t rfl ⟨rfl, rel⟩)))
theorem i_vc_clear {k : Nat} {u : SX} {v : SY} (I : i_Rel k u v) (hk : k + 4 ≤ 2048) : wpX_clear (fun u' => wpY_clear (fun v' => i_Rel (k + 4) u' v') v) u := by
  obtain ⟨tb, ct, tg, lb, lg, g, bf, rfl, rfl, S, hct⟩ := I
  refine rt_clearX (fun lb' hl => rt_clearY (fun g' hg => ?_))
  refine rt_rel (rt_S_clear hg (rt_W0 hl)) ?_
  rw [rt_ct0 hg]
  rfl
theorem i_vc_routes {k : Nat} {u : SX} {v : SY} (I : i_Rel k u v) (hk : k + 4 ≤ 2048) : wpX_routes (fun r => wpY_routes (fun r' => r' = r ∧ i_Rel (k + 4) u v) v) u := by
  obtain ⟨tb, ct, tg, lb, lg, g, bf, rfl, rfl, S, hct⟩ := I
  unfold wpX_routes
  dsimp only
  exact rt_routesY ⟨hct.symm, rt_rel S hct⟩
theorem i_vc_exact {k : Nat} {u : SX} {v : SY} (I : i_Rel k u v) (hk : k + 4 ≤ 2048) (v1 : Int32) (v2 : Int32) : wpX_exact (fun r => wpY_exact (fun r' => r' = r ∧ i_Rel (k + 4) u v) v v1 v2) u v1 v2 := by
  obtain ⟨tb, ct, tg, lb, lg, g, bf, rfl, rfl, S, hct⟩ := I
  obtain ⟨r, hX, hY⟩ := rt_exM (ct := ct) (bf := bf) S v1 v2
  exact hX _ (hY _ ⟨rfl, rt_rel S hct⟩)
theorem i_vc_goal {k : Nat} {u : SX} {v : SY} (I : i_Rel k u v) (hk : k + 4 ≤ 2048) (v1 : Int32) : wpX_goal (fun r => wpY_goal (fun r' => r' = r ∧ i_Rel (k + 4) u v) v v1) u v1 := by
  obtain ⟨tb, ct, tg, lb, lg, g, bf, rfl, rfl, S, hct⟩ := I
  obtain ⟨r, hX, hY⟩ := rt_goalM (ct := ct) (bf := bf) S v1
  exact hX _ (hY _ ⟨rfl, rt_rel S hct⟩)
theorem i_vc_bits {k : Nat} {u : SX} {v : SY} (I : i_Rel k u v) (hk : k + 4 ≤ 2048) (v1 : Int32) : wpX_bits (fun r => wpY_bits (fun r' => r' = r ∧ i_Rel (k + 4) u v) v v1) u v1 := by
  obtain ⟨tb, ct, tg, lb, lg, g, bf, rfl, rfl, S, hct⟩ := I
  obtain ⟨r, hX, hY⟩ := rt_bitsM (ct := ct) (bf := bf) S v1
  exact hX _ (hY _ ⟨rfl, rt_rel S hct⟩)
theorem i_vc_matching {k : Nat} {u : SX} {v : SY} (I : i_Rel k u v) (hk : k + 4 ≤ 2048) (v1 : Int32) : wpX_matching (fun r => wpY_matching (fun r' => r' = r ∧ i_Rel (k + 4) u v) v v1) u v1 := by
  obtain ⟨tb, ct, tg, lb, lg, g, bf, rfl, rfl, S, hct⟩ := I
  obtain ⟨r, hX, hY⟩ := rt_matM (ct := ct) (bf := bf) S v1
  exact hX _ (hY _ ⟨rfl, rt_rel S hct⟩)
theorem i_vc_next {k : Nat} {u : SX} {v : SY} (I : i_Rel k u v) (hk : k + 4 ≤ 2048) (v1 : Int32) (v2 : Int32) : wpX_next (fun r => wpY_next (fun r' => r' = r ∧ i_Rel (k + 4) u v) v v1 v2) u v1 v2 := by
  obtain ⟨tb, ct, tg, lb, lg, g, bf, rfl, rfl, S, hct⟩ := I
  obtain ⟨r, hX, hY⟩ := rt_nextM (ct := ct) (bf := bf) S v1 v2
  exact hX _ (hY _ ⟨rfl, rt_rel S hct⟩)
theorem i_vc_load {k : Nat} {u : SX} {v : SY} (I : i_Rel k u v) (hk : k + 4 ≤ 2048) (v1 : Int32) (v2 : Int32) : wpX_load (fun r => wpY_load (fun r' => r' = r ∧ i_Rel (k + 4) u v) v v1 v2) u v1 v2 := by
  obtain ⟨tb, ct, tg, lb, lg, g, bf, rfl, rfl, S, hct⟩ := I
  obtain ⟨r, hX, hY⟩ := rt_loadM (ct := ct) (bf := bf) S v1 v2
  exact hX _ (hY _ ⟨rfl, rt_rel S hct⟩)
theorem i_vc_sent {k : Nat} {u : SX} {v : SY} (I : i_Rel k u v) (hk : k + 4 ≤ 2048) (v1 : Int32) : wpX_sent (fun r => wpY_sent (fun r' => r' = r ∧ i_Rel (k + 4) u v) v v1) u v1 := by
  obtain ⟨tb, ct, tg, lb, lg, g, bf, rfl, rfl, S, hct⟩ := I
  obtain ⟨r, hX, hY⟩ := rt_sentM (ct := ct) (bf := bf) S v1
  exact hX _ (hY _ ⟨rfl, rt_rel S hct⟩)
theorem i_vc_idle {k : Nat} {u : SX} {v : SY} (I : i_Rel k u v) (hk : k + 4 ≤ 2048) (v1 : Int32) (v2 : Int32) : wpX_idle (fun r => wpY_idle (fun r' v' => r' = r ∧ i_Rel (k + 4) u v') v v1 v2) u v1 v2 := by
  obtain ⟨tb, ct, tg, lb, lg, g, bf, rfl, rfl, S, hct⟩ := I
  obtain ⟨r, hX, hY⟩ := rt_idleM (ct := ct) (bf := bf) S v1 v2
  exact hX _ (hY _ (fun bf' => ⟨rfl, rt_rel S hct⟩))
theorem i_vc_spans {k : Nat} {u : SX} {v : SY} (I : i_Rel k u v) (hk : k + 4 ≤ 2048) : wpX_spans (fun r => wpY_spans (fun r' => r' = r ∧ i_Rel (k + 4) u v) v) u := by
  obtain ⟨tb, ct, tg, lb, lg, g, bf, rfl, rfl, S, hct⟩ := I
  obtain ⟨r, hX, hY⟩ := rt_spansM (ct := ct) (bf := bf) S
  exact hX _ (hY _ ⟨rfl, rt_rel S hct⟩)
theorem i_vc_spanStart {k : Nat} {u : SX} {v : SY} (I : i_Rel k u v) (hk : k + 4 ≤ 2048) (v1 : Int32) : wpX_spanStart (fun r => wpY_spanStart (fun r' => r' = r ∧ i_Rel (k + 4) u v) v v1) u v1 := by
  obtain ⟨tb, ct, tg, lb, lg, g, bf, rfl, rfl, S, hct⟩ := I
  obtain ⟨r, hX, hY⟩ := rt_spanSM (ct := ct) (bf := bf) S v1
  exact hX _ (hY _ ⟨rfl, rt_rel S hct⟩)
end
