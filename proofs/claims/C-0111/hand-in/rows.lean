section
theorem pk_us {f : Nat → Int32} {k : Nat} {x : Int32} : upd f k x k = x := if_pos rfl
theorem pk_un {f : Nat → Int32} {k j : Nat} {x : Int32} (h : j ≠ k) : upd f k x j = f j := if_neg h
theorem pk_sub {a b : Nat} (h : b ≤ a) : nI a - nI b = nI (a - b) := by
  obtain ⟨c, rfl⟩ : ∃ c, a = c + b := ⟨a - b, by omega⟩
  rw [← nI_add, Int32.add_sub_cancel, Nat.add_sub_cancel]
theorem pk_m1 (n : Nat) : nI (n + 1) + (-1) = nI n := by
  rw [← nI_1, Int32.add_assoc, show (1 : Int32) + (-1) = 0 from rfl, Int32.add_zero]
theorem pk_mul (a b : Nat) : nI a * nI b = nI (a * b) := (Int32.ofNat_mul a b).symm
theorem pk_le {x y : Int32} {A B : Prop} (a b : Nat) (f : a ≤ b → A) (g : b < a → B) (hx : x = nI a := by rfl) (hy : y = nI b := by rfl) (ha : a < 2 ^ 31 := by omega) (hb : b < 2 ^ 31 := by omega) : (x ≤ y → A) ∧ (¬ x ≤ y → B) := by
  subst hx hy
  rw [nI_leI ha hb]
  exact ⟨f, fun z => g (by omega)⟩
theorem pk_lt {x y : Int32} {A B : Prop} (a b : Nat) (f : a < b → A) (g : b ≤ a → B) (hx : x = nI a := by rfl) (hy : y = nI b := by rfl) (ha : a < 2 ^ 31 := by omega) (hb : b < 2 ^ 31 := by omega) : (x < y → A) ∧ (¬ x < y → B) := by
  subst hx hy
  rw [nI_ltI ha hb]
  exact ⟨f, fun z => g (by omega)⟩
theorem pk_eq {x y : Int32} {A B : Prop} (a b : Nat) (f : a = b → A) (g : a ≠ b → B) (hx : x = nI a := by rfl) (hy : y = nI b := by rfl) (ha : a < 2 ^ 31 := by omega) (hb : b < 2 ^ 31 := by omega) : (x = y → A) ∧ (¬ x = y → B) := by
  subst hx hy
  rw [nI_eq ha hb]
  exact ⟨f, g⟩
theorem pk_in {x : Int32} (n N : Nat) (h : n < N) (hx : x = nI n := by rfl) (hN : N < 2 ^ 31 := by omega) : vp_in x N := by
  subst hx
  exact vp_in_nI h hN
theorem pk_cl {x : Int32} (n : Nat) (hx : x = nI n := by rfl) (h : n < 2 ^ 31 := by omega) : x.toNatClampNeg = n := by
  subst hx
  exact nI_clamp h
theorem pk_tn {n : Nat} (h : n < 2 ^ 32) : (nI n).toBitVec.toNat = n := Nat.mod_eq_of_lt h
theorem pk_and (x : Int32) {m : Int32} (k : Nat) (hm : m.toBitVec.toNat = 2 ^ k - 1) : x &&& m = nI (x.toBitVec.toNat % 2 ^ k) := by
  apply Int32.toBitVec_inj.mp
  apply BitVec.eq_of_toNat_eq
  rw [Int32.toBitVec_and, BitVec.toNat_and, hm, Nat.and_two_pow_sub_one_eq_mod]
  show _ = (BitVec.ofNat 32 _).toNat
  rw [BitVec.toNat_ofNat]
  exact (Nat.mod_eq_of_lt (Nat.lt_of_le_of_lt (Nat.mod_le _ _) x.toBitVec.isLt)).symm
theorem pk_andN {n : Nat} (h : n < 2 ^ 32) {m : Int32} (k : Nat) (hm : m.toBitVec.toNat = 2 ^ k - 1) : nI n &&& m = nI (n % 2 ^ k) := by
  rw [pk_and _ k hm, pk_tn h]
theorem pk_shr (a s : Int32) (k : Nat) (hs : (s.toBitVec.smod 32).toNat = k) : (a >>> s).toInt = a.toInt >>> k := by
  show (a.toBitVec.sshiftRight (s.toBitVec.smod 32).toNat).toInt = _
  rw [hs, BitVec.toInt_sshiftRight]
  rfl
theorem pk_shrN {n : Nat} (h : n < 2 ^ 31) (s : Int32) (k : Nat) (hs : (s.toBitVec.smod 32).toNat = k) : nI n >>> s = nI (n / 2 ^ k) := by
  apply Int32.toInt_inj.mp
  have h2 : n / 2 ^ k ≤ n := Nat.div_le_self _ _
  rw [pk_shr _ _ k hs, nI_toInt h, nI_toInt (by omega), Int.shiftRight_eq_div_pow]
  rfl
theorem nx_xor (a b : Nat) : nI a ^^^ nI b = nI (a ^^^ b) := by
  apply Int32.toBitVec_inj.1
  show BitVec.ofNat 32 a ^^^ BitVec.ofNat 32 b = BitVec.ofNat 32 (a ^^^ b)
  apply BitVec.eq_of_getLsbD_eq
  intro i hi
  simp [hi]
end
section
/-! numbers as the print writes them, fills, counts -/
theorem sp_m4 (a b : Nat) : nI a * 4 + nI b = nI (4 * a + b) := by
  rw [show (4 : Int32) = nI 4 from rfl, pk_mul, nI_add, Nat.mul_comm]
theorem sp_m4' (a : Nat) : nI a * 4 = nI (4 * a) := by
  rw [show (4 : Int32) = nI 4 from rfl, pk_mul, Nat.mul_comm]
theorem sp_m16 (a b : Nat) : nI a * 16 + nI b = nI (16 * a + b) := by
  rw [show (16 : Int32) = nI 16 from rfl, pk_mul, nI_add, Nat.mul_comm]
theorem sp_16m (a b : Nat) : 16 * nI a + nI b = nI (16 * a + b) := by
  rw [show (16 : Int32) = nI 16 from rfl, pk_mul, nI_add]
theorem sp_4m (a b : Nat) : 4 * nI a + nI b = nI (4 * a + b) := by
  rw [show (4 : Int32) = nI 4 from rfl, pk_mul, nI_add]
theorem sp_1s {p : Nat} (h : p < 2) : 1 - nI p = nI (1 - p) := by
  rw [show (1 : Int32) = nI 1 from rfl, pk_sub (by omega)]
theorem sp_16a (v : Nat) : 16 + nI v = nI (16 + v) := by
  rw [show (16 : Int32) = nI 16 from rfl, nI_add]
theorem sp_sh {q : Nat} (h : q < 2 ^ 31) : nI q >>> ((2 : Int32) &&& 31) = nI (q / 4) := pk_shrN h _ 2 (by decide)
theorem sp_a3 {q : Nat} (h : q < 2 ^ 31) : nI q &&& 3 = nI (q % 4) := pk_andN (by omega) 2 (by decide)
theorem sp_x4 {r : Nat} (h : r < 8) : nI r ^^^ 4 = nI (r ^^^ 4) := nx_xor r 4
theorem sp_x4l : ∀ r, r < 8 → r ^^^ 4 < 8 := by decide
theorem sp_n0 : vp_nar .boolean 0 = 0 := rfl
theorem sp_n1 : vp_nar .boolean 1 = 1 := rfl
theorem sp_neg1 : (-1 : Int32) < 0 := by decide
theorem sp_nneg1 : ¬ (0 : Int32) ≤ -1 := by decide
theorem sp_lt0 {x : Int32} (h : x < 0) : ¬ 0 ≤ x := Int32.not_le.mpr h
theorem sp_nI0 {n : Nat} (h : n < 2 ^ 31) : ¬ nI n < 0 := nI_pos h
theorem sp_nIp {n : Nat} (h : n < 2 ^ 31) : (0 : Int32) ≤ nI n := nI_pos' h
/-- writes val i at s + i for i below n -/
def sp_fill (a : Nat → Int32) (s : Nat) (val : Nat → Int32) : Nat → (Nat → Int32)
  | 0 => a
  | n + 1 => upd (sp_fill a s val n) (s + n) (val n)
theorem sp_fi {a : Nat → Int32} {s : Nat} {val : Nat → Int32} : ∀ {n i : Nat}, i < n → sp_fill a s val n (s + i) = val i
  | 0, _, h => absurd h (Nat.not_lt_zero _)
  | n + 1, i, h => by
    show upd (sp_fill a s val n) (s + n) (val n) (s + i) = val i
    by_cases e : i = n
    · rw [e]; exact pk_us
    · rw [pk_un (by omega)]; exact sp_fi (by omega)
theorem sp_fo {a : Nat → Int32} {s : Nat} {val : Nat → Int32} : ∀ {n j : Nat}, (j < s ∨ s + n ≤ j) → sp_fill a s val n j = a j
  | 0, _, _ => rfl
  | n + 1, j, h => by
    show upd (sp_fill a s val n) (s + n) (val n) j = a j
    rw [pk_un (by omega)]; exact sp_fo (by omega)
theorem sp_fj {a : Nat → Int32} {s : Nat} {val : Nat → Int32} {n j : Nat} (h : s ≤ j) (h2 : j < s + n) : sp_fill a s val n j = val (j - s) := by
  obtain ⟨i, rfl⟩ : ∃ i, j = s + i := ⟨j - s, by omega⟩
  rw [sp_fi (by omega), Nat.add_sub_cancel_left]
/-- sums and counts -/
def sp_sm (g : Nat → Nat) : Nat → Nat
  | 0 => 0
  | n + 1 => sp_sm g n + g n
def sp_b (b : Bool) : Nat := if b = true then 1 else 0
theorem sp_bt : sp_b true = 1 := rfl
theorem sp_bf : sp_b false = 0 := rfl
def sp_cn (p : Nat → Bool) (n : Nat) : Nat := sp_sm (fun i => sp_b (p i)) n
theorem sp_cnS (p : Nat → Bool) (n : Nat) : sp_cn p (n + 1) = sp_cn p n + sp_b (p n) := rfl
theorem sp_sm_c {f g : Nat → Nat} : ∀ n : Nat, (∀ i, i < n → f i = g i) → sp_sm f n = sp_sm g n
  | 0, _ => rfl
  | n + 1, h => by
    show sp_sm f n + f n = sp_sm g n + g n
    rw [sp_sm_c n (fun i hi => h i (by omega)), h n (by omega)]
theorem sp_cn_c {p q : Nat → Bool} {n : Nat} (h : ∀ i, i < n → p i = q i) : sp_cn p n = sp_cn q n :=
  sp_sm_c n (fun i hi => congrArg sp_b (h i hi))
theorem sp_sm_a (f g : Nat → Nat) : ∀ n : Nat, sp_sm (fun i => f i + g i) n = sp_sm f n + sp_sm g n
  | 0 => rfl
  | n + 1 => by
    show sp_sm (fun i => f i + g i) n + (f n + g n) = (sp_sm f n + f n) + (sp_sm g n + g n)
    rw [sp_sm_a f g n]; omega
theorem sp_sm_0 : ∀ n : Nat, sp_sm (fun _ => 0) n = 0
  | 0 => rfl
  | n + 1 => by show sp_sm (fun _ => 0) n + 0 = 0; rw [sp_sm_0 n]
theorem sp_sm_z {f : Nat → Nat} {n : Nat} (h : ∀ i, i < n → f i = 0) : sp_sm f n = 0 := by
  rw [sp_sm_c n h, sp_sm_0]
theorem sp_sm_w (f : Nat → Nat → Nat) (m : Nat) : ∀ n : Nat, sp_sm (fun i => sp_sm (fun j => f i j) m) n = sp_sm (fun j => sp_sm (fun i => f i j) n) m
  | 0 => (sp_sm_0 m).symm
  | n + 1 => by
    show sp_sm (fun i => sp_sm (fun j => f i j) m) n + sp_sm (fun j => f n j) m = sp_sm (fun j => sp_sm (fun i => f i j) n + f n j) m
    rw [sp_sm_w f m n, sp_sm_a]
theorem sp_sm_1 {f : Nat → Nat} : ∀ (n a : Nat), a < n → f a = 1 → (∀ i, i < n → i ≠ a → f i = 0) → sp_sm f n = 1
  | 0, _, h, _, _ => absurd h (Nat.not_lt_zero _)
  | n + 1, a, h, h1, h0 => by
    show sp_sm f n + f n = 1
    by_cases e : a = n
    · rw [← e, h1, sp_sm_z (fun i hi => h0 i (by omega) (by omega))]
    · rw [sp_sm_1 n a (by omega) h1 (fun i hi ne => h0 i (by omega) ne), h0 n (by omega) (by omega)]
theorem sp_b1 (b : Bool) : sp_b b ≤ 1 := by cases b <;> decide
theorem sp_cn_le (p : Nat → Bool) : ∀ n : Nat, sp_cn p n ≤ n
  | 0 => Nat.le_refl _
  | n + 1 => by have := sp_cn_le p n; have := sp_b1 (p n); rw [sp_cnS]; omega
theorem sp_cn_mono (p : Nat → Bool) {m : Nat} : ∀ n : Nat, m ≤ n → sp_cn p m ≤ sp_cn p n
  | 0, h => by have : m = 0 := by omega
               rw [this]; exact Nat.le_refl _
  | n + 1, h => by
    by_cases e : m = n + 1
    · rw [e]; exact Nat.le_refl _
    · have := sp_cn_mono p (m := m) n (by omega); rw [sp_cnS]; omega
theorem sp_cn_all {p : Nat → Bool} : ∀ n : Nat, (∀ i, i < n → p i = true) → sp_cn p n = n
  | 0, _ => rfl
  | n + 1, h => by rw [sp_cnS, sp_cn_all n (fun i hi => h i (by omega)), h n (by omega)]; rfl
theorem sp_cn_not {p : Nat → Bool} {n : Nat} (h : ¬ sp_cn p n = n) : ∃ i, i < n ∧ p i = false := by
  apply Classical.byContradiction
  intro hn
  refine h (sp_cn_all n fun i hi => ?_)
  cases e : p i
  · exact absurd ⟨i, hi, e⟩ hn
  · rfl
theorem sp_cn_0 {p : Nat → Bool} : ∀ n : Nat, sp_cn p n = 0 → ∀ i, i < n → p i = false
  | 0, _, i, h => absurd h (Nat.not_lt_zero _)
  | n + 1, h0, i, h => by
    rw [sp_cnS] at h0
    by_cases e : i = n
    · rw [e]
      cases e2 : p n
      · rfl
      · rw [e2, sp_bt] at h0; omega
    · exact sp_cn_0 n (by omega) i (by omega)
theorem sp_cn_imp {p q : Nat → Bool} : ∀ n : Nat, (∀ i, i < n → p i = true → q i = true) → sp_cn p n ≤ sp_cn q n
  | 0, _ => Nat.le_refl _
  | n + 1, h => by
    have a := sp_cn_imp n (fun i hi => h i (by omega))
    rw [sp_cnS, sp_cnS]
    cases e : p n
    · rw [sp_bf]; omega
    · rw [h n (by omega) e]; omega
/-- a counted loop over an abstract W -/
theorem sp_lp {W : Nat → Nat → Prop} (e : Nat) (hx : ∀ n, W (n + 1) e) (hs : ∀ n i, i < e → W n (i + 1) → W (n + 1) i) : ∀ d i, i + d = e → W (d + 1) i := by
  intro d
  induction d with
  | zero => intro i hi; rw [show i = e by omega]; exact hx 0
  | succ d ih => intro i hi; exact hs _ _ (by omega) (ih (i + 1) (by omega))
theorem sp_l0 {W : Nat → Nat → Prop} (e : Nat) (hx : ∀ n, W (n + 1) e) (hs : ∀ n i, i < e → W n (i + 1) → W (n + 1) i) : ∃ n, W n 0 :=
  ⟨_, sp_lp e hx hs e 0 (by omega)⟩
end
section
/-! the relation: F q below 16 is the frame of page q, else the page is absent -/
def sp_fu (F : Nat → Nat) (q b : Nat) : Nat → Nat := fun j => if j = q then b else F j
theorem sp_fus {F : Nat → Nat} {q b : Nat} : sp_fu F q b q = b := if_pos rfl
theorem sp_fn {F : Nat → Nat} {q b j : Nat} (h : j ≠ q) : sp_fu F q b j = F j := if_neg h
def sp_A (F : Nat → Nat) : Prop := ∀ q j, q < 32 → j < 32 → F q < 16 → F j = F q → j = q ∨ j = (q + 16) % 32
def sp_B (F : Nat → Nat) (us : Nat → Int32) : Prop := ∀ q, q < 32 → F q < 16 → (F ((q + 16) % 32) = F q → us (F q) = 2) ∧ (F ((q + 16) % 32) ≠ F q → us (F q) = 1)
def sp_C (F : Nat → Nat) (us : Nat → Int32) : Prop := ∀ f, f < 16 → us f = 0 ∨ ∃ q, q < 32 ∧ F q = f
def sp_L (F : Nat → Nat) (us la : Nat → Int32) : Prop := ∀ r, r < 8 → la r < 0 ∨ ∃ g, g < 4 ∧ la r = nI g ∧ ∀ i, i < 4 → F (4 * r + i) = 4 * g + i ∧ us (4 * g + i) = 1
def sp_D (F : Nat → Nat) (ba la : Nat → Int32) : Prop := ∀ q, q < 32 → la (q / 4) < 0 → (F q < 16 ∧ ba q = nI (F q)) ∨ (16 ≤ F q ∧ ba q < 0)
def sp_S (F : Nat → Nat) (lk st : Nat → Int32) : Prop := ∀ q, q < 32 → (lk q = 0 ∨ lk q = 1) ∧ (F q < 16 → (lk q = 0 → st q = 1) ∧ (lk q = 1 → st q = 2)) ∧ (16 ≤ F q → st q = 0)
def sp_W (F : Nat → Nat) (wd yw : Nat → Int32) : Prop := ∀ q, q < 32 → F q < 16 → ∀ w, w < 4 → yw (4 * q + w) = wd (4 * F q + w)
def sp_M (F : Nat → Nat) (cm : Nat → Int32) : Prop := ∀ v, v < 16 → (F v < 16 → F (v + 16) = F v → cm v = 1) ∧ (¬ (F v < 16 ∧ F (v + 16) = F v) → cm v = 0)
def sp_Rep (F : Nat → Nat) (wd us ba lk la st yw cm : Nat → Int32) : Prop :=
  sp_A F ∧ sp_B F us ∧ sp_C F us ∧ sp_L F us la ∧ sp_D F ba la ∧ sp_S F lk st ∧ sp_W F wd yw ∧ sp_M F cm
def sp_R (wd us ba lk la st yw cm : Nat → Int32) : Prop := ∃ F, sp_Rep F wd us ba lk la st yw cm
section
variable {F : Nat → Nat} {wd us ba lk la st yw cm wd' us' ba' lk' la' st' yw' cm' : Nat → Int32} {q b f : Nat} {x : Int32}
theorem sp_rA (R : sp_Rep F wd us ba lk la st yw cm) : sp_A F := R.1
theorem sp_rB (R : sp_Rep F wd us ba lk la st yw cm) : sp_B F us := R.2.1
theorem sp_rC (R : sp_Rep F wd us ba lk la st yw cm) : sp_C F us := R.2.2.1
theorem sp_rL (R : sp_Rep F wd us ba lk la st yw cm) : sp_L F us la := R.2.2.2.1
theorem sp_rD (R : sp_Rep F wd us ba lk la st yw cm) : sp_D F ba la := R.2.2.2.2.1
theorem sp_rS (R : sp_Rep F wd us ba lk la st yw cm) : sp_S F lk st := R.2.2.2.2.2.1
theorem sp_rW (R : sp_Rep F wd us ba lk la st yw cm) : sp_W F wd yw := R.2.2.2.2.2.2.1
theorem sp_rM (R : sp_Rep F wd us ba lk la st yw cm) : sp_M F cm := R.2.2.2.2.2.2.2
theorem sp_12 : ¬ (1 : Int32) = 2 := by decide
theorem sp_01 : ¬ (0 : Int32) = 1 := by decide
theorem sp_02 : ¬ (0 : Int32) = 2 := by decide
theorem sp_u12 (R : sp_Rep F wd us ba lk la st yw cm) (hq : q < 32) (h : F q < 16) : us (F q) = 1 ∨ us (F q) = 2 := by
  by_cases e : F ((q + 16) % 32) = F q
  · exact Or.inr ((sp_rB R q hq h).1 e)
  · exact Or.inl ((sp_rB R q hq h).2 e)
theorem sp_free (R : sp_Rep F wd us ba lk la st yw cm) (hf : f < 16) (h0 : us f = 0) : ∀ j, j < 32 → F j ≠ f := by
  intro j hj e
  rcases sp_u12 R hj (by omega) with h | h
  · rw [e, h0] at h; exact sp_01 h
  · rw [e, h0] at h; exact sp_02 h
theorem sp_only (R : sp_Rep F wd us ba lk la st yw cm) (hq : q < 32) (h16 : F q < 16) (h1 : us (F q) = 1) : F ((q + 16) % 32) ≠ F q ∧ ∀ j, j < 32 → F j = F q → j = q := by
  have hn : F ((q + 16) % 32) ≠ F q := by
    intro e
    have h2 := (sp_rB R q hq h16).1 e
    rw [h1] at h2; exact sp_12 h2
  refine ⟨hn, fun j hj e => ?_⟩
  rcases sp_rA R q j hq hj h16 e with h | h
  · exact h
  · rw [h] at e; exact absurd e hn
theorem sp_u3 (R : sp_Rep F wd us ba lk la st yw cm) : ∀ f, f < 16 → us f = 0 ∨ us f = 1 ∨ us f = 2 := by
  intro f hf
  rcases sp_rC R f hf with h | ⟨q, hq, e⟩
  · exact Or.inl h
  · have := sp_u12 R hq (by omega)
    rw [e] at this; exact Or.inr this
theorem sp_u2 (R : sp_Rep F wd us ba lk la st yw cm) (hq : q < 32) (h16 : F q < 16) (h1 : ¬ us (F q) = 1) : F ((q + 16) % 32) = F q ∧ us (F q) = 2 := by
  by_cases e : F ((q + 16) % 32) = F q
  · exact ⟨e, (sp_rB R q hq h16).1 e⟩
  · exact absurd ((sp_rB R q hq h16).2 e) h1
/-- a page of a large range sits alone in its frame -/
theorem sp_big (R : sp_Rep F wd us ba lk la st yw cm) (hq : q < 32) (h : ¬ la (q / 4) < 0) : F q < 16 ∧ us (F q) = 1 := by
  rcases sp_rL R (q / 4) (by omega) with h2 | ⟨g, hg, _, hi⟩
  · exact absurd h2 h
  · have := hi (q % 4) (by omega)
    rw [show 4 * (q / 4) + q % 4 = q by omega] at this
    rw [this.1]; exact ⟨by omega, this.2⟩
theorem sp_fA (h : sp_A F) (hb : ∀ j, j < 32 → j ≠ q → b < 16 → F j ≠ b) : sp_A (sp_fu F q b) := by
  intro x j hx hj h1 h2
  by_cases ex : x = q
  · by_cases ej : j = q
    · left; omega
    · rw [ex, sp_fus] at h1; rw [ex, sp_fus, sp_fn ej] at h2
      exact absurd h2 (hb j hj ej h1)
  · rw [sp_fn ex] at h1
    by_cases ej : j = q
    · rw [ej, sp_fus, sp_fn ex] at h2
      exact absurd h2.symm (hb x hx ex (by omega))
    · rw [sp_fn ej, sp_fn ex] at h2; exact h x j hx hj h1 h2
theorem sp_fB (hA : sp_A F) (h : sp_B F us) (hq : q < 32) (hb : ∀ j, j < 32 → j ≠ q → b < 16 → F j ≠ b) (h1 : b < 16 → us' b = 1) (h2 : F ((q + 16) % 32) < 16 → us' (F ((q + 16) % 32)) = 1) (h4 : ∀ f, f < 16 → f ≠ b → f ≠ F q → us' f = us f) : sp_B (sp_fu F q b) us' := by
  intro x hx hx16
  by_cases ex : x = q
  · subst ex
    rw [sp_fus] at hx16 ⊢
    rw [sp_fn (show (x + 16) % 32 ≠ x by omega)]
    exact ⟨fun e => absurd e (hb _ (by omega) (by omega) hx16), fun _ => h1 hx16⟩
  · rw [sp_fn ex] at hx16 ⊢
    by_cases eo : x = (q + 16) % 32
    · rw [show (x + 16) % 32 = q by omega, sp_fus]
      refine ⟨fun e => absurd e.symm (hb x hx ex (by omega)), fun _ => ?_⟩
      rw [eo]; exact h2 (by rw [← eo]; exact hx16)
    · rw [sp_fn (show (x + 16) % 32 ≠ q by omega), h4 (F x) hx16 (fun e => hb x hx ex (by omega) e) (fun e => ?_)]
      · exact h x hx hx16
      · rcases hA q x hq hx (by omega) e with h5 | h5
        · exact ex h5
        · exact eo h5
theorem sp_fC (h : sp_C F us) (hq : q < 32) (h4 : ∀ f, f < 16 → f ≠ b → f ≠ F q → us' f = us f) (h0 : F q < 16 → F q ≠ b → us' (F q) = 0 ∨ F ((q + 16) % 32) = F q) : sp_C (sp_fu F q b) us' := by
  intro f hf
  by_cases e : f = b
  · exact Or.inr ⟨q, hq, by rw [sp_fus, e]⟩
  · by_cases e2 : f = F q
    · rcases h0 (by omega) (by omega) with h5 | h5
      · left; rw [e2]; exact h5
      · right; exact ⟨(q + 16) % 32, by omega, by rw [sp_fn (by omega), h5, e2]⟩
    · rcases h f hf with h5 | ⟨j, hj, ej⟩
      · left; rw [h4 f hf e e2]; exact h5
      · right; exact ⟨j, hj, by rw [sp_fn (fun z => e2 (by rw [← z, ej])), ej]⟩
theorem sp_fL (R : sp_Rep F wd us ba lk la st yw cm) (hq : q < 32) (hla : la (q / 4) < 0) (hu : ∀ j, j < 32 → j ≠ q → ¬ la (j / 4) < 0 → us' (F j) = us (F j)) : sp_L (sp_fu F q b) us' la := by
  intro r hr
  rcases sp_rL R r hr with h | ⟨g, hg, e, hi⟩
  · exact Or.inl h
  · by_cases hn : la r < 0
    · exact Or.inl hn
    · refine Or.inr ⟨g, hg, e, fun i i4 => ?_⟩
      have hd : (4 * r + i) / 4 = r := by omega
      have hne : 4 * r + i ≠ q := fun z => by rw [← z, hd] at hla; exact hn hla
      have h5 := hu (4 * r + i) (by omega) hne (by rw [hd]; exact hn)
      rw [(hi i i4).1, (hi i i4).2] at h5
      exact ⟨by rw [sp_fn hne]; exact (hi i i4).1, h5⟩
theorem sp_fD (h : sp_D F ba la) (hx : (b < 16 ∧ x = nI b) ∨ (16 ≤ b ∧ x < 0)) : sp_D (sp_fu F q b) (upd ba q x) la := by
  intro j hj hl
  by_cases e : j = q
  · rw [e, sp_fus, pk_us]; exact hx
  · rw [sp_fn e, pk_un e]; exact h j hj hl
theorem sp_fS (h : sp_S F lk st) (hl : ∀ j, j ≠ q → lk' j = lk j) (hs : ∀ j, j ≠ q → st' j = st j) (hS : (lk' q = 0 ∨ lk' q = 1) ∧ (b < 16 → (lk' q = 0 → st' q = 1) ∧ (lk' q = 1 → st' q = 2)) ∧ (16 ≤ b → st' q = 0)) : sp_S (sp_fu F q b) lk' st' := by
  intro j hj
  by_cases e : j = q
  · rw [e, sp_fus]; exact hS
  · rw [sp_fn e, hl j e, hs j e]; exact h j hj
theorem sp_fW (h : sp_W F wd yw) (hw : ∀ j, j < 32 → j ≠ q → F j < 16 → ∀ w, w < 4 → wd' (4 * F j + w) = wd (4 * F j + w)) (hy : ∀ j, j < 32 → j ≠ q → ∀ w, w < 4 → yw' (4 * j + w) = yw (4 * j + w)) (hW : b < 16 → ∀ w, w < 4 → yw' (4 * q + w) = wd' (4 * b + w)) : sp_W (sp_fu F q b) wd' yw' := by
  intro j hj h16 w hw4
  by_cases e : j = q
  · rw [e, sp_fus] at h16 ⊢; exact hW h16 w hw4
  · rw [sp_fn e] at h16 ⊢
    rw [hy j hj e w hw4, hw j hj e h16 w hw4]; exact h j hj h16 w hw4
theorem sp_fM (h : sp_M F cm) (hq : q < 32) (hb : ∀ j, j < 32 → j ≠ q → b < 16 → F j ≠ b) (h0 : cm' (q % 16) = 0) (hc : ∀ v, v ≠ q % 16 → cm' v = cm v) : sp_M (sp_fu F q b) cm' := by
  intro v hv
  by_cases e : v = q % 16
  · have hn : ¬ (sp_fu F q b v < 16 ∧ sp_fu F q b (v + 16) = sp_fu F q b v) := by
      rintro ⟨a1, a2⟩
      by_cases e2 : q < 16
      · have e3 : v = q := by omega
        rw [e3, sp_fus] at a1; rw [e3, sp_fus, sp_fn (by omega)] at a2
        exact hb (q + 16) (by omega) (by omega) a1 a2
      · have e3 : v + 16 = q := by omega
        rw [sp_fn (by omega)] at a1; rw [e3, sp_fus, sp_fn (by omega)] at a2
        exact hb v (by omega) (by omega) (by omega) a2.symm
    exact ⟨fun a1 a2 => absurd ⟨a1, a2⟩ hn, fun _ => by rw [e]; exact h0⟩
  · rw [sp_fn (show v ≠ q by omega), sp_fn (show v + 16 ≠ q by omega), hc v e]; exact h v hv
/-- page q goes to a frame b that no other page has (or leaves, 16 ≤ b) -/
theorem sp_upF (R : sp_Rep F wd us ba lk la st yw cm) (hq : q < 32) (hla : la (q / 4) < 0) (hb : ∀ j, j < 32 → j ≠ q → b < 16 → F j ≠ b)
    (h1 : b < 16 → us' b = 1) (h2 : F ((q + 16) % 32) < 16 → us' (F ((q + 16) % 32)) = 1) (h4 : ∀ f, f < 16 → f ≠ b → f ≠ F q → us' f = us f)
    (h0 : F q < 16 → F q ≠ b → us' (F q) = 0 ∨ F ((q + 16) % 32) = F q) (hx : (b < 16 ∧ x = nI b) ∨ (16 ≤ b ∧ x < 0))
    (hl : ∀ j, j ≠ q → lk' j = lk j) (hs : ∀ j, j ≠ q → st' j = st j) (hS : (lk' q = 0 ∨ lk' q = 1) ∧ (b < 16 → (lk' q = 0 → st' q = 1) ∧ (lk' q = 1 → st' q = 2)) ∧ (16 ≤ b → st' q = 0))
    (hw : ∀ j, j < 32 → j ≠ q → F j < 16 → ∀ w, w < 4 → wd' (4 * F j + w) = wd (4 * F j + w)) (hy : ∀ j, j < 32 → j ≠ q → ∀ w, w < 4 → yw' (4 * j + w) = yw (4 * j + w)) (hW : b < 16 → ∀ w, w < 4 → yw' (4 * q + w) = wd' (4 * b + w))
    (hc0 : cm' (q % 16) = 0) (hc : ∀ v, v ≠ q % 16 → cm' v = cm v) : sp_Rep (sp_fu F q b) wd' us' (upd ba q x) lk' la st' yw' cm' := by
  refine ⟨sp_fA (sp_rA R) hb, sp_fB (sp_rA R) (sp_rB R) hq hb h1 h2 h4, sp_fC (sp_rC R) hq h4 h0, sp_fL R hq hla ?_, sp_fD (sp_rD R) hx, sp_fS (sp_rS R) hl hs hS, sp_fW (sp_rW R) hw hy hW, sp_fM (sp_rM R) hq hb hc0 hc⟩
  intro j hj hne hl2
  have hj1 := sp_big R hj hl2
  refine h4 (F j) hj1.1 (fun e => hb j hj hne (by omega) e) (fun e => ?_)
  have := (sp_only R hj hj1.1 hj1.2).2 q hq e.symm
  omega
end
end
section
/-! the steps of the component over the relation -/
section
variable {F : Nat → Nat} {wd us ba lk la st yw cm : Nat → Int32} {q b r g f o w : Nat} {x : Int32}
theorem sp_cm0 (R : sp_Rep F wd us ba lk la st yw cm) (hq : q < 32) (h : ¬ (F q < 16 ∧ F ((q + 16) % 32) = F q)) : cm (q % 16) = 0 := by
  refine (sp_rM R (q % 16) (by omega)).2 (fun z => h ?_)
  by_cases e : q < 16
  · rw [show q % 16 = q by omega] at z
    rw [show (q + 16) % 32 = q + 16 by omega]; exact z
  · rw [show q % 16 + 16 = q by omega] at z
    rw [show (q + 16) % 32 = q % 16 by omega]; exact ⟨by omega, z.2.symm⟩
theorem sp_cm1 (R : sp_Rep F wd us ba lk la st yw cm) (hq : q < 32) (h : F q < 16) (h2 : F ((q + 16) % 32) = F q) : cm (q % 16) = 1 := by
  by_cases e : q < 16
  · have := (sp_rM R (q % 16) (by omega)).1
    rw [show q % 16 = q by omega] at this ⊢
    rw [show (q + 16) % 32 = q + 16 by omega] at h2
    exact this h h2
  · have := (sp_rM R (q % 16) (by omega)).1
    rw [show q % 16 + 16 = q by omega] at this
    rw [show (q + 16) % 32 = q % 16 by omega] at h2
    exact this (by omega) h2.symm
/-- page q moves from its frame, which it has alone, to a free one -/
theorem sp_mv (R : sp_Rep F wd us ba lk la st yw cm) (hq : q < 32) (hla : la (q / 4) < 0) (h16 : F q < 16) (h1 : us (F q) = 1) (hb : b < 16) (h0 : us b = 0) :
    sp_Rep (sp_fu F q b) (sp_fill wd (4 * b) (fun i => wd (4 * F q + i)) 4) (upd (upd us (F q) 0) b 1) (upd ba q (nI b)) lk la st yw cm := by
  have hf := sp_free R hb h0
  have ho := sp_only R hq h16 h1
  have hS := sp_rS R q hq
  refine sp_upF R hq hla (fun j hj _ _ => hf j hj) (fun _ => pk_us) ?_ ?_ ?_ (Or.inl ⟨hb, rfl⟩) (fun _ _ => rfl) (fun _ _ => rfl) ⟨hS.1, fun _ => hS.2.1 h16, fun z => by omega⟩ ?_ (fun _ _ _ _ _ => rfl) ?_ ?_ (fun _ _ => rfl)
  · intro h
    rw [pk_un (hf _ (by omega)), pk_un ho.1]
    refine (sp_rB R _ (by omega) h).2 ?_
    rw [show ((q + 16) % 32 + 16) % 32 = q by omega]; exact ho.1.symm
  · intro f hf16 e1 e2
    rw [pk_un e1, pk_un e2]
  · intro _ hne
    left; rw [pk_un hne, pk_us]
  · intro j hj hne hj16 w hw
    have := hf j hj
    exact sp_fo (by omega)
  · intro _ w hw
    rw [sp_fi hw]; exact sp_rW R q hq h16 w hw
  · exact sp_cm0 R hq (fun z => ho.1 z.2)
/-- an absent page gets a free frame -/
theorem sp_new (R : sp_Rep F wd us ba lk la st yw cm) (hq : q < 32) (h16 : 16 ≤ F q) (hb : b < 16) (h0 : us b = 0) :
    sp_Rep (sp_fu F q b) (sp_fill wd (4 * b) (fun _ => 0) 4) (upd us b 1) (upd ba q (nI b)) (upd lk q 0) la (upd st q 1) (sp_fill yw (4 * q) (fun _ => 0) 4) cm := by
  have hf := sp_free R hb h0
  have hla : la (q / 4) < 0 := by
    apply Classical.byContradiction
    intro h
    have := (sp_big R hq h).1
    omega
  refine sp_upF R hq hla (fun j hj _ _ => hf j hj) (fun _ => pk_us) ?_ ?_ ?_ (Or.inl ⟨hb, rfl⟩) (fun j hj => pk_un hj) (fun j hj => pk_un hj) ?_ ?_ ?_ ?_ ?_ (fun _ _ => rfl)
  · intro h
    rw [pk_un (hf _ (by omega))]
    refine (sp_rB R _ (by omega) h).2 ?_
    rw [show ((q + 16) % 32 + 16) % 32 = q by omega]; omega
  · intro f hf16 e1 e2
    rw [pk_un e1]
  · intro h; omega
  · rw [pk_us, pk_us]; exact ⟨Or.inl rfl, fun _ => ⟨fun _ => rfl, fun h => absurd h sp_01⟩, fun h => by omega⟩
  · intro j hj hne hj16 w hw
    have := hf j hj
    exact sp_fo (by omega)
  · intro j hj hne w hw
    exact sp_fo (by omega)
  · intro _ w hw
    rw [sp_fi hw, sp_fi hw]
  · exact sp_cm0 R hq (fun z => by omega)
/-- one of two pages of a frame gets a copy of its own -/
theorem sp_own (R : sp_Rep F wd us ba lk la st yw cm) (hq : q < 32) (h16 : F q < 16) (h2 : F ((q + 16) % 32) = F q) (hb : b < 16) (h0 : us b = 0) :
    sp_Rep (sp_fu F q b) (sp_fill wd (4 * b) (fun i => wd (4 * F q + i)) 4) (upd (upd us (F q) 1) b 1) (upd ba q (nI b)) lk la st yw (upd cm (q % 16) 0) := by
  have hf := sp_free R hb h0
  have hS := sp_rS R q hq
  have hla : la (q / 4) < 0 := by
    apply Classical.byContradiction
    intro h
    exact (sp_only R hq h16 (sp_big R hq h).2).1 h2
  refine sp_upF R hq hla (fun j hj _ _ => hf j hj) (fun _ => pk_us) ?_ ?_ (fun _ _ => Or.inr h2) (Or.inl ⟨hb, rfl⟩) (fun _ _ => rfl) (fun _ _ => rfl) ⟨hS.1, fun _ => hS.2.1 h16, fun z => by omega⟩ ?_ (fun _ _ _ _ _ => rfl) ?_ pk_us (fun v hv => pk_un hv)
  · intro h
    rw [pk_un (hf _ (by omega)), h2, pk_us]
  · intro f hf16 e1 e2
    rw [pk_un e1, pk_un e2]
  · intro j hj hne hj16 w hw
    have := hf j hj
    exact sp_fo (by omega)
  · intro _ w hw
    rw [sp_fi hw]; exact sp_rW R q hq h16 w hw
/-- a page leaves -/
theorem sp_rem (R : sp_Rep F wd us ba lk la st yw cm) (hq : q < 32) (hla : la (q / 4) < 0) (h16 : F q < 16) :
    sp_Rep (sp_fu F q 16) wd (upd us (F q) (us (F q) - 1)) (upd ba q (-1)) lk la (upd st q 0) yw (upd cm (q % 16) 0) := by
  have hS := sp_rS R q hq
  refine sp_upF R hq hla (fun j hj _ z => by omega) (fun z => by omega) ?_ ?_ ?_ (Or.inr ⟨Nat.le_refl _, sp_neg1⟩) (fun _ _ => rfl) (fun j hj => pk_un hj) ⟨hS.1, fun z => by omega, fun _ => pk_us⟩ (fun _ _ _ _ _ _ => rfl) (fun _ _ _ _ _ => rfl) (fun z => by omega) pk_us (fun v hv => pk_un hv)
  · intro h
    by_cases e : F ((q + 16) % 32) = F q
    · rw [e, pk_us, (sp_rB R q hq h16).1 e]; decide
    · rw [pk_un e]
      refine (sp_rB R _ (by omega) h).2 ?_
      rw [show ((q + 16) % 32 + 16) % 32 = q by omega]; exact fun z => e z.symm
  · intro f hf16 e1 e2
    rw [pk_un e2]
  · intro _ _
    by_cases e : F ((q + 16) % 32) = F q
    · exact Or.inr e
    · left; rw [pk_us, (sp_rB R q hq h16).2 e]; decide
/-- a range's large entry is broken up -/
theorem sp_dem (R : sp_Rep F wd us ba lk la st yw cm) (hr : r < 8) (hg : g < 4) (e : la r = nI g) :
    sp_Rep F wd us (sp_fill ba (4 * r) (fun i => nI (4 * g + i)) 4) lk (upd la r (-1)) st yw cm := by
  have hn : ¬ la r < 0 := by rw [e]; exact nI_pos (by omega)
  refine ⟨sp_rA R, sp_rB R, sp_rC R, ?_, ?_, sp_rS R, sp_rW R, sp_rM R⟩
  · intro s hs
    by_cases es : s = r
    · left; rw [es, pk_us]; exact sp_neg1
    · rw [pk_un es]; exact sp_rL R s hs
  · intro j hj hl
    by_cases ej : j / 4 = r
    · rcases sp_rL R r hr with h | ⟨g', hg', e', hi⟩
      · exact absurd h hn
      · have eg : g = g' := (nI_eq (by omega) (by omega)).1 (e.symm.trans e')
        have h5 := (hi (j % 4) (by omega)).1
        rw [show 4 * r + j % 4 = j by omega] at h5
        left
        refine ⟨by omega, ?_⟩
        rw [sp_fj (by omega) (by omega), h5]
        show nI (4 * g + (j - 4 * r)) = _
        exact congrArg nI (by omega)
    · rw [pk_un ej] at hl
      rw [sp_fo (by omega)]; exact sp_rD R j hj hl
/-- a range becomes one large entry -/
theorem sp_pro (R : sp_Rep F wd us ba lk la st yw cm) (hr : r < 8) (hg : g < 4) (hi : ∀ i, i < 4 → F (4 * r + i) = 4 * g + i ∧ us (4 * g + i) = 1) (val : Nat → Int32) :
    sp_Rep F wd us (sp_fill ba (4 * r) val 4) lk (upd la r (nI g)) st yw cm := by
  refine ⟨sp_rA R, sp_rB R, sp_rC R, ?_, ?_, sp_rS R, sp_rW R, sp_rM R⟩
  · intro s hs
    by_cases es : s = r
    · right; rw [es, pk_us]; exact ⟨g, hg, rfl, hi⟩
    · rw [pk_un es]; exact sp_rL R s hs
  · intro j hj hl
    by_cases ej : j / 4 = r
    · rw [ej, pk_us] at hl; exact absurd hl (nI_pos (by omega))
    · rw [pk_un ej] at hl
      rw [sp_fo (by omega)]; exact sp_rD R j hj hl
/-- words of a page that has its frame alone -/
theorem sp_wr {wd' yw' : Nat → Int32} (R : sp_Rep F wd us ba lk la st yw cm) (hq : q < 32) (h16 : F q < 16) (h1 : us (F q) = 1)
    (hw : ∀ j, (j < 4 * F q ∨ 4 * F q + 4 ≤ j) → wd' j = wd j) (hy : ∀ j, (j < 4 * q ∨ 4 * q + 4 ≤ j) → yw' j = yw j) (hW : ∀ w, w < 4 → yw' (4 * q + w) = wd' (4 * F q + w)) :
    sp_Rep F wd' us ba lk la st yw' cm := by
  refine ⟨sp_rA R, sp_rB R, sp_rC R, sp_rL R, sp_rD R, sp_rS R, ?_, sp_rM R⟩
  intro j hj hj16 w hw4
  by_cases e : j = q
  · rw [e]; exact hW w hw4
  · have : F j ≠ F q := fun z => e ((sp_only R hq h16 h1).2 j hj z)
    rw [hw _ (by omega), hy _ (by omega)]; exact sp_rW R j hj hj16 w hw4
/-- a page's lock -/
theorem sp_lck (R : sp_Rep F wd us ba lk la st yw cm) (h16 : F q < 16) {x y : Int32} (hx : (x = 0 ∧ y = 1) ∨ (x = 1 ∧ y = 2)) :
    sp_Rep F wd us ba (upd lk q x) la (upd st q y) yw cm := by
  refine ⟨sp_rA R, sp_rB R, sp_rC R, sp_rL R, sp_rD R, ?_, sp_rW R, sp_rM R⟩
  intro j hj
  by_cases e : j = q
  · rw [e, pk_us, pk_us]
    refine ⟨?_, fun _ => ?_, fun z => by omega⟩
    · rcases hx with h | h
      · exact Or.inl h.1
      · exact Or.inr h.1
    · rcases hx with h | h
      · exact ⟨fun _ => h.2, fun z => absurd (h.1.symm.trans z) sp_01⟩
      · exact ⟨fun z => absurd (z.symm.trans h.1) sp_01, fun _ => h.2⟩
  · rw [pk_un e, pk_un e]; exact sp_rS R j hj
/-- the other process gets the page too -/
theorem sp_shr {yw' : Nat → Int32} {t : Nat} (R : sp_Rep F wd us ba lk la st yw cm) (hq : q < 32) (et : t = (q + 16) % 32) (h16 : F q < 16) (ht : 16 ≤ F t) (hlq : la (q / 4) < 0)
    (hy : ∀ j, (j < 4 * t ∨ 4 * t + 4 ≤ j) → yw' j = yw j) (hW : ∀ w, w < 4 → yw' (4 * t + w) = yw (4 * q + w)) :
    sp_Rep (sp_fu F t (F q)) wd (upd us (F q) 2) (upd ba t (nI (F q))) (upd lk t (lk q)) la (upd st t (st q)) yw' (upd cm (q % 16) 1) := by
  have hn : F ((q + 16) % 32) ≠ F q := by rw [← et]; omega
  have hu := (sp_rB R q hq h16).2 hn
  have ho := (sp_only R hq h16 hu).2
  have hlt : la (t / 4) < 0 := by
    apply Classical.byContradiction
    intro h
    have := (sp_big R (by omega) h).1
    omega
  have hqt : q ≠ t := by omega
  refine ⟨?_, ?_, ?_, sp_fL R (by omega) hlt ?_, sp_fD (sp_rD R) (Or.inl ⟨h16, rfl⟩), sp_fS (sp_rS R) (fun j hj => pk_un hj) (fun j hj => pk_un hj) ?_, sp_fW (sp_rW R) (fun _ _ _ _ _ _ => rfl) (fun j hj hne w hw => hy _ (by omega)) (fun _ w hw => ?_), ?_⟩
  · intro a j ha hj h1 h2
    by_cases ea : a = t
    · rw [ea, sp_fus] at h1; rw [ea, sp_fus] at h2
      by_cases ej : j = t
      · left; omega
      · rw [sp_fn ej] at h2
        have := ho j hj h2
        right; omega
    · rw [sp_fn ea] at h1
      by_cases ej : j = t
      · rw [ej, sp_fus, sp_fn ea] at h2
        have := ho a ha h2.symm
        right; omega
      · rw [sp_fn ej, sp_fn ea] at h2; exact sp_rA R a j ha hj h1 h2
  · intro a ha h1
    by_cases ea : a = t
    · rw [ea, sp_fus, show (t + 16) % 32 = q by omega, sp_fn hqt, pk_us]
      exact ⟨fun _ => rfl, fun z => absurd rfl z⟩
    · rw [sp_fn ea] at h1 ⊢
      by_cases eq : a = q
      · rw [eq, ← et, sp_fus, pk_us]
        exact ⟨fun _ => rfl, fun z => absurd rfl z⟩
      · rw [sp_fn (show (a + 16) % 32 ≠ t by omega), pk_un (fun z => eq (ho a ha z))]
        exact sp_rB R a ha h1
  · intro f hf
    by_cases e : f = F q
    · right; exact ⟨q, hq, by rw [sp_fn hqt, e]⟩
    · rcases sp_rC R f hf with h | ⟨j, hj, ej⟩
      · left; rw [pk_un e]; exact h
      · right; exact ⟨j, hj, by rw [sp_fn (fun z => by rw [z] at ej; omega), ej]⟩
  · intro j hj _ hl
    refine pk_un (fun z => ?_)
    rw [ho j hj z] at hl; exact hl hlq
  · rw [pk_us, pk_us]
    have := sp_rS R q hq
    exact ⟨this.1, fun _ => this.2.1 h16, fun z => by omega⟩
  · rw [hW w hw]; exact sp_rW R q hq h16 w hw
  · intro v hv
    by_cases e : v = q % 16
    · have h5 : sp_fu F t (F q) v = F q ∧ sp_fu F t (F q) (v + 16) = F q := by
        by_cases e2 : q < 16
        · rw [show v = q by omega, show q + 16 = t by omega, sp_fus, sp_fn hqt]; exact ⟨rfl, rfl⟩
        · rw [show v + 16 = q by omega, show v = t by omega, sp_fus, sp_fn hqt]; exact ⟨rfl, rfl⟩
      rw [h5.1, h5.2, ← e, pk_us]
      exact ⟨fun _ _ => rfl, fun z => absurd ⟨h16, rfl⟩ z⟩
    · rw [sp_fn (show v ≠ t by omega), sp_fn (show v + 16 ≠ t by omega), pk_un e]
      exact sp_rM R v hv
/-- the reference's arrays count only where they are read -/
theorem sp_cg {st' yw' cm' : Nat → Int32} (R : sp_Rep F wd us ba lk la st yw cm) (h1 : ∀ j, j < 32 → st' j = st j) (h2 : ∀ j, j < 32 → F j < 16 → ∀ w, w < 4 → yw' (4 * j + w) = yw (4 * j + w)) (h3 : ∀ v, v < 16 → cm' v = cm v) :
    sp_Rep F wd us ba lk la st' yw' cm' := by
  refine ⟨sp_rA R, sp_rB R, sp_rC R, sp_rL R, sp_rD R, ?_, ?_, ?_⟩
  · intro j hj; rw [h1 j hj]; exact sp_rS R j hj
  · intro j hj h16 w hw; rw [h2 j hj h16 w hw]; exact sp_rW R j hj h16 w hw
  · intro v hv; rw [h3 v hv]; exact sp_rM R v hv
/-- the start -/
theorem sp_ini (hb : ∀ j, j < 32 → ba j = -1) (hl : ∀ j, j < 8 → la j = -1) : sp_Rep (fun _ => 16) (fun _ => 0) (fun _ => 0) ba (fun _ => 0) la (fun _ => 0) (fun _ => 0) (fun _ => 0) := by
  refine ⟨?_, ?_, ?_, ?_, ?_, ?_, ?_, ?_⟩
  · intro q j _ _ h; exact absurd h (Nat.lt_irrefl 16)
  · intro q _ h; exact absurd h (Nat.lt_irrefl 16)
  · intro f _; exact Or.inl rfl
  · intro r hr; left; rw [hl r hr]; exact sp_neg1
  · intro q hq _; right; rw [hb q hq]; exact ⟨Nat.le_refl _, sp_neg1⟩
  · intro q hq; exact ⟨Or.inl rfl, fun h => absurd h (Nat.lt_irrefl 16), fun _ => rfl⟩
  · intro q _ h; exact absurd h (Nat.lt_irrefl 16)
  · intro v hv; exact ⟨fun h => absurd h (Nat.lt_irrefl 16), fun _ => rfl⟩
end
end
section
/-! frames in use = pages present in both processes less the common ones -/
section
variable {F : Nat → Nat} {wd us ba lk la st yw cm : Nat → Int32} {q f : Nat}
theorem sp_d1 {P : Prop} [Decidable P] (h : P) : sp_b (decide P) = 1 := by rw [decide_eq_true h]; rfl
theorem sp_d0 {P : Prop} [Decidable P] (h : ¬ P) : sp_b (decide P) = 0 := by rw [decide_eq_false h]; rfl
theorem sp_cnf (R : sp_Rep F wd us ba lk la st yw cm) (hf : f < 16) :
    sp_b (decide (¬ us f ≤ 0)) + sp_sm (fun v => sp_b (decide (F v = f ∧ F (v + 16) = f))) 16 = sp_sm (fun v => sp_b (decide (F v = f))) 16 + sp_sm (fun v => sp_b (decide (F (v + 16) = f))) 16 := by
  rcases sp_rC R f hf with h0 | ⟨q, hq, e⟩
  · have hfr := sp_free R hf h0
    have e0 : sp_b (decide (¬ us f ≤ 0)) = 0 := sp_d0 (fun z => z (by rw [h0]; decide))
    have e1 : sp_sm (fun v => sp_b (decide (F v = f))) 16 = 0 := sp_sm_z (fun v hv => sp_d0 (hfr v (by omega)))
    have e2 : sp_sm (fun v => sp_b (decide (F (v + 16) = f))) 16 = 0 := sp_sm_z (fun v hv => sp_d0 (hfr (v + 16) (by omega)))
    have e3 : sp_sm (fun v => sp_b (decide (F v = f ∧ F (v + 16) = f))) 16 = 0 := sp_sm_z (fun v hv => sp_d0 (fun z => hfr v (by omega) z.1))
    omega
  · have h16 : F q < 16 := by omega
    have hA := fun j hj (ej : F j = f) => sp_rA R q j hq hj h16 (ej.trans e.symm)
    have e0 : sp_b (decide (¬ us f ≤ 0)) = 1 := by
      refine sp_d1 ?_
      rcases sp_u12 R hq h16 with h | h
      · rw [← e, h]; decide
      · rw [← e, h]; decide
    by_cases eo : F ((q + 16) % 32) = F q
    · have ev : F (q % 16) = f ∧ F (q % 16 + 16) = f := by
        by_cases e2 : q < 16
        · rw [show q % 16 = q by omega]
          rw [show (q + 16) % 32 = q + 16 by omega] at eo
          exact ⟨e, by omega⟩
        · rw [show q % 16 + 16 = q by omega]
          rw [show (q + 16) % 32 = q % 16 by omega] at eo
          exact ⟨by omega, e⟩
      have e1 : sp_sm (fun v => sp_b (decide (F v = f))) 16 = 1 := sp_sm_1 16 (q % 16) (by omega) (sp_d1 ev.1) (fun v hv hne => sp_d0 (fun z => by have := hA v (by omega) z; omega))
      have e2 : sp_sm (fun v => sp_b (decide (F (v + 16) = f))) 16 = 1 := sp_sm_1 16 (q % 16) (by omega) (sp_d1 ev.2) (fun v hv hne => sp_d0 (fun z => by have := hA (v + 16) (by omega) z; omega))
      have e3 : sp_sm (fun v => sp_b (decide (F v = f ∧ F (v + 16) = f))) 16 = 1 := sp_sm_1 16 (q % 16) (by omega) (sp_d1 ev) (fun v hv hne => sp_d0 (fun z => by have := hA v (by omega) z.1; omega))
      omega
    · have hO : ∀ j, j < 32 → F j = f → j = q := by
        intro j hj ej
        rcases hA j hj ej with h | h
        · exact h
        · rw [h] at ej; exact absurd (ej.trans e.symm) eo
      have e3 : sp_sm (fun v => sp_b (decide (F v = f ∧ F (v + 16) = f))) 16 = 0 := sp_sm_z (fun v hv => sp_d0 (fun z => by have := hO v (by omega) z.1; have := hO (v + 16) (by omega) z.2; omega))
      by_cases e2 : q < 16
      · have e1 : sp_sm (fun v => sp_b (decide (F v = f))) 16 = 1 := sp_sm_1 16 q (by omega) (sp_d1 e) (fun v hv hne => sp_d0 (fun z => hne (hO v (by omega) z)))
        have e2 : sp_sm (fun v => sp_b (decide (F (v + 16) = f))) 16 = 0 := sp_sm_z (fun v hv => sp_d0 (fun z => by have := hO (v + 16) (by omega) z; omega))
        omega
      · have e1 : sp_sm (fun v => sp_b (decide (F v = f))) 16 = 0 := sp_sm_z (fun v hv => sp_d0 (fun z => by have := hO v (by omega) z; omega))
        have e2 : sp_sm (fun v => sp_b (decide (F (v + 16) = f))) 16 = 1 := sp_sm_1 16 (q - 16) (by omega) (sp_d1 (by rw [show q - 16 + 16 = q by omega]; exact e)) (fun v hv hne => sp_d0 (fun z => by have := hO (v + 16) (by omega) z; omega))
        omega
/-- is the page there, in the reference's words -/
theorem sp_st0 (R : sp_Rep F wd us ba lk la st yw cm) (hq : q < 32) : st q = 0 ↔ 16 ≤ F q := by
  have h := sp_rS R q hq
  constructor
  · intro z
    apply Classical.byContradiction
    intro hn
    rcases h.1 with h1 | h1
    · rw [(h.2.1 (by omega)).1 h1] at z; exact sp_01 z.symm
    · rw [(h.2.1 (by omega)).2 h1] at z; exact sp_02 z.symm
  · exact h.2.2
theorem sp_smf {k : Nat} : sp_sm (fun f => sp_b (decide (k = f))) 16 = sp_b (decide (k < 16)) := by
  by_cases h : k < 16
  · rw [sp_d1 h]
    exact sp_sm_1 16 k h (sp_d1 rfl) (fun i _ hne => sp_d0 (fun z => hne z.symm))
  · rw [sp_d0 h]
    exact sp_sm_z (fun i hi => sp_d0 (fun z => by omega))
theorem sp_cnt (R : sp_Rep F wd us ba lk la st yw cm) :
    sp_cn (fun f => decide (¬ us f ≤ 0)) 16 + sp_cn (fun v => decide (¬ cm v = 0)) 16 = sp_cn (fun v => decide (¬ st v = 0)) 16 + sp_cn (fun v => decide (¬ st (16 + v) = 0)) 16 := by
  have h := sp_sm_c 16 (fun f hf => sp_cnf R (f := f) hf)
  rw [sp_sm_a, sp_sm_a, sp_sm_w (fun f v => sp_b (decide (F v = f ∧ F (v + 16) = f))), sp_sm_w (fun f v => sp_b (decide (F v = f))), sp_sm_w (fun f v => sp_b (decide (F (v + 16) = f)))] at h
  have e1 : sp_sm (fun v => sp_sm (fun f => sp_b (decide (F v = f))) 16) 16 = sp_cn (fun v => decide (¬ st v = 0)) 16 := by
    refine sp_sm_c 16 (fun v hv => ?_)
    rw [sp_smf]
    refine congrArg sp_b (decide_eq_decide.mpr ?_)
    rw [sp_st0 R (by omega)]; omega
  have e2 : sp_sm (fun v => sp_sm (fun f => sp_b (decide (F (v + 16) = f))) 16) 16 = sp_cn (fun v => decide (¬ st (16 + v) = 0)) 16 := by
    refine sp_sm_c 16 (fun v hv => ?_)
    rw [sp_smf]
    refine congrArg sp_b (decide_eq_decide.mpr ?_)
    rw [sp_st0 R (by omega), Nat.add_comm v 16]; omega
  have e3 : sp_sm (fun v => sp_sm (fun f => sp_b (decide (F v = f ∧ F (v + 16) = f))) 16) 16 = sp_cn (fun v => decide (¬ cm v = 0)) 16 := by
    refine sp_sm_c 16 (fun v hv => ?_)
    by_cases hc : F v < 16 ∧ F (v + 16) = F v
    · have hm := (sp_rM R v hv).1 hc.1 hc.2
      have a1 : sp_sm (fun f => sp_b (decide (F v = f ∧ F (v + 16) = f))) 16 = 1 := sp_sm_1 16 (F v) hc.1 (sp_d1 ⟨rfl, hc.2⟩) (fun i _ hne => sp_d0 (fun z => hne z.1.symm))
      have a2 : sp_b (decide (¬ cm v = 0)) = 1 := sp_d1 (by rw [hm]; decide)
      exact a1.trans a2.symm
    · have hm := (sp_rM R v hv).2 hc
      have a1 : sp_sm (fun f => sp_b (decide (F v = f ∧ F (v + 16) = f))) 16 = 0 := sp_sm_z (fun i hi => sp_d0 (fun z => hc ⟨by omega, by omega⟩))
      have a2 : sp_b (decide (¬ cm v = 0)) = 0 := sp_d0 (fun z => z hm)
      exact a1.trans a2.symm
  rw [e1, e2, e3] at h
  exact h
/-- how many frames the reference counts -/
def sp_use (st cm : Nat → Int32) : Nat := sp_cn (fun v => decide (¬ st v = 0)) 16 + sp_cn (fun v => decide (¬ st (16 + v) = 0)) 16 - sp_cn (fun v => decide (¬ cm v = 0)) 16
theorem sp_useX (R : sp_Rep F wd us ba lk la st yw cm) : sp_cn (fun f => decide (¬ us f ≤ 0)) 16 = sp_use st cm := by
  have := sp_cnt R
  unfold sp_use; omega
theorem sp_useL (R : sp_Rep F wd us ba lk la st yw cm) : sp_use st cm ≤ 16 := by
  rw [← sp_useX R]; exact sp_cn_le _ 16
theorem sp_useC (R : sp_Rep F wd us ba lk la st yw cm) : sp_cn (fun v => decide (¬ cm v = 0)) 16 ≤ sp_cn (fun v => decide (¬ st v = 0)) 16 + sp_cn (fun v => decide (¬ st (16 + v) = 0)) 16 := by
  have := sp_cnt R
  omega
/-- room: a free frame -/
theorem sp_room (R : sp_Rep F wd us ba lk la st yw cm) (h : ¬ sp_use st cm = 16) : ∃ f, f < 16 ∧ us f = 0 := by
  rw [← sp_useX R] at h
  obtain ⟨i, hi, e⟩ := sp_cn_not h
  refine ⟨i, hi, ?_⟩
  have e2 : us i ≤ 0 := Classical.byContradiction (of_decide_eq_false (p := ¬ us i ≤ 0) e)
  rcases sp_u3 R i hi with h5 | h5 | h5
  · exact h5
  · rw [h5] at e2; exact absurd e2 (by decide)
  · rw [h5] at e2; exact absurd e2 (by decide)
end
end
section
/-! the component's small methods -/
def sp_pg (x y : Int32) : Prop := ∃ p v : Nat, p < 2 ∧ v < 16 ∧ x = nI p ∧ y = nI v
theorem sp_pgI {x y : Int32} (a1 : ¬ x < 0) (a2 : x ≤ 1) (a3 : ¬ y < 0) (a4 : y ≤ 15) : sp_pg x y := by
  obtain ⟨p, hp, rfl⟩ := nI_of2 (M := 1) (n := 1) (by decide) a1 a2
  obtain ⟨v, hv, rfl⟩ := nI_of2 (M := 15) (n := 15) (by decide) a3 a4
  exact ⟨p, v, by omega, by omega, rfl, rfl⟩
/-- a counted loop that counts -/
theorem sp_lc {W : Nat → Int32 → Int32 → Prop} (e : Nat) (p : Nat → Bool) (hx : ∀ n, W (n + 1) (nI (sp_cn p e)) (nI e))
    (ht : ∀ n i c, i < e → p i = true → W n (nI (c + 1)) (nI (i + 1)) → W (n + 1) (nI c) (nI i))
    (hf : ∀ n i c, i < e → p i = false → W n (nI c) (nI (i + 1)) → W (n + 1) (nI c) (nI i)) : ∃ n, W n 0 0 := by
  have H : ∃ n, (fun n i => W n (nI (sp_cn p i)) (nI i)) n 0 := by
    refine sp_l0 (W := fun n i => W n (nI (sp_cn p i)) (nI i)) e hx ?_
    intro n i hi k
    have k2 : W n (nI (sp_cn p (i + 1))) (nI (i + 1)) := k
    rw [sp_cnS] at k2
    cases e2 : p i
    · rw [e2, sp_bf] at k2; exact hf n i _ hi e2 k2
    · rw [e2, sp_bt] at k2; exact ht n i _ hi e2 k2
  exact H
section
variable {F : Nat → Nat} {ck : Int32} {wd us ba lk la ho sm ca st yw cm : Nat → Int32} {q r g a b p v : Nat} {x y : Int32}
theorem sp_xb1 {post : Int32 → Prop} {u : SX} (hp : p < 2) (hv : v < 16) (h : post 0) : wpX_bad post u (nI p) (nI v) := by
  obtain ⟨ck, wd, us, ba, lk, la, ho, sm, ca⟩ := u
  exact br_f (nI_pos (by omega)) (br_f (nI_nlt (a := 1) (b := p) (by omega) (by omega)) (br_f (nI_pos (by omega)) (br_t (nI_le (a := v) (b := 15) (by omega) (by omega)) h)))
theorem sp_xb2 {post : Int32 → Prop} {u : SX} (hn : ¬ sp_pg x y) (h : post 1) : wpX_bad post u x y := by
  obtain ⟨ck, wd, us, ba, lk, la, ho, sm, ca⟩ := u
  exact br_c (fun _ => h) (fun a1 => br_c (fun _ => h) (fun a2 => br_c (fun _ => h) (fun a3 => br_c (fun a4 => absurd (sp_pgI a1 (Int32.not_lt.mp a2) a3 a4) hn) (fun _ => h))))
theorem sp_yb1 {post : Int32 → Prop} {u : SY} (hp : p < 2) (hv : v < 16) (h : post 1) : wpY_isPage post u (nI p) (nI v) := by
  obtain ⟨st, yw, cm⟩ := u
  exact br_f (nI_pos (by omega)) (br_f (nI_nlt (a := 1) (b := p) (by omega) (by omega)) (br_f (nI_pos (by omega)) (br_f (nI_nlt (a := 15) (b := v) (by omega) (by omega)) h)))
theorem sp_yb2 {post : Int32 → Prop} {u : SY} (hn : ¬ sp_pg x y) (h : post 0) : wpY_isPage post u x y := by
  obtain ⟨st, yw, cm⟩ := u
  exact br_c (fun _ => h) (fun a1 => br_c (fun _ => h) (fun a2 => br_c (fun _ => h) (fun a3 => br_c (fun _ => h) (fun a4 => absurd (sp_pgI a1 (Int32.not_lt.mp a2) a3 (Int32.not_lt.mp a4)) hn))))
theorem sp_xf {post : Int32 → Prop} (R : sp_Rep F wd us ba lk la st yw cm) (hq : q < 32) (h1 : F q < 16 → post (nI (F q))) (h2 : 16 ≤ F q → ∀ x : Int32, x < 0 → post x) : wpX_frameOf post (ck, wd, us, ba, lk, la, ho, sm, ca) (nI q) := by
  have es : nI q >>> ((2 : Int32) &&& 31) = nI (q / 4) := sp_sh (by omega)
  refine And.intro (pk_in (q / 4) 8 (by omega) es) (nm_r (e' := la (q / 4)) (by rw [es, nI_clamp (by omega)]) ?_)
  by_cases hl : la (q / 4) < 0
  · refine br_t hl (And.intro (vp_in_nI hq (by omega)) ?_)
    rw [nI_clamp (by omega)]
    rcases sp_rD R q hq hl with h | h
    · rw [h.2]; exact h1 h.1
    · exact h2 h.1 _ h.2
  · refine br_f hl ?_
    rcases sp_rL R (q / 4) (by omega) with h | ⟨g, hg, e, hi⟩
    · exact absurd h hl
    · have h5 := (hi (q % 4) (by omega)).1
      rw [show 4 * (q / 4) + q % 4 = q by omega] at h5
      rw [e, sp_a3 (by omega), sp_m4, ← h5]; exact h1 (by omega)
theorem sp_xn {post : Int32 → Prop} (h : post (nI (sp_cn (fun f => decide (¬ us f ≤ 0)) 16))) : wpX_framesInUse post (ck, wd, us, ba, lk, la, ho, sm, ca) := by
  refine sp_lc (W := wX_framesInUse_4 post ck wd us ba lk la ho sm ca) 16 (fun f => decide (¬ us f ≤ 0)) (fun n => br_t (nI_le (a := 16) (b := 16) (by omega) (by omega)) h) ?_ ?_
  · intro n i c hi hp k
    have hp2 : ¬ us i ≤ 0 := of_decide_eq_true hp
    refine br_f (nI_ge (b := 16) hi (by omega)) (And.intro (vp_in_nI hi (by omega)) (br_f ?_ (nm_r (nI_1 c) (nm_r (nI_1 i) k))))
    rw [nI_clamp (by omega)]; exact hp2
  · intro n i c hi hp k
    have hp2 : us i ≤ 0 := Classical.byContradiction (of_decide_eq_false (p := ¬ us i ≤ 0) hp)
    refine br_f (nI_ge (b := 16) hi (by omega)) (And.intro (vp_in_nI hi (by omega)) (br_t ?_ (nm_r (nI_1 i) k)))
    rw [nI_clamp (by omega)]; exact hp2
theorem sp_xu {post : Int32 → Prop} (hg : g < 4) (h : post (nI (sp_cn (fun i => decide (¬ us (4 * g + i) ≤ 0)) 4))) : wpX_usedIn post (ck, wd, us, ba, lk, la, ho, sm, ca) (nI g) := by
  refine sp_lc (W := wX_usedIn_4 post (nI g) ck wd us ba lk la ho sm ca) 4 (fun i => decide (¬ us (4 * g + i) ≤ 0)) (fun n => br_t (nI_le (a := 4) (b := 4) (by omega) (by omega)) h) ?_ ?_
  · intro n i c hi hp k
    have hp2 : ¬ us (4 * g + i) ≤ 0 := of_decide_eq_true hp
    refine br_f (nI_ge (b := 4) hi (by omega)) (And.intro (pk_in (4 * g + i) 16 (by omega) (sp_m4 g i)) (br_f ?_ (nm_r (nI_1 c) (nm_r (nI_1 i) k))))
    rw [sp_m4, nI_clamp (by omega)]; exact hp2
  · intro n i c hi hp k
    have hp2 : us (4 * g + i) ≤ 0 := Classical.byContradiction (of_decide_eq_false (p := ¬ us (4 * g + i) ≤ 0) hp)
    refine br_f (nI_ge (b := 4) hi (by omega)) (And.intro (pk_in (4 * g + i) 16 (by omega) (sp_m4 g i)) (br_t ?_ (nm_r (nI_1 i) k)))
    rw [sp_m4, nI_clamp (by omega)]; exact hp2
theorem sp_xd {post : SX → Prop} (R : sp_Rep F wd us ba lk la st yw cm) (hr : r < 8) (h : ∀ ba' la', sp_Rep F wd us ba' lk la' st yw cm → la' r < 0 → (∀ s, la s < 0 → la' s < 0) → post (ck, wd, us, ba', lk, la', ho, sm, ca)) : wpX_demote post (ck, wd, us, ba, lk, la, ho, sm, ca) (nI r) := by
  have hc : (nI r).toNatClampNeg = r := nI_clamp (by omega)
  refine And.intro (vp_in_nI hr (by omega)) ?_
  rcases sp_rL R r hr with hl | ⟨g, hg, e, hi⟩
  · exact nm_r (e' := la r) (by rw [hc]) (br_f (sp_lt0 hl) (h ba la R hl (fun _ z => z)))
  · refine nm_r (e' := nI g) (by rw [hc, e]) (br_t (nI_pos' (by omega)) (And.intro (vp_in_nI hr (by omega)) (nm_r (e' := upd la r (-1)) (by rw [hc]) ?_)))
    refine sp_l0 (W := fun n i => wX_demote_21 post (nI r) (nI g) ck n (nI i) wd us (sp_fill ba (4 * r) (fun i => nI (4 * g + i)) i) lk (upd la r (-1)) ho sm ca) 4 ?_ ?_
    · intro n
      refine br_t (nI_le (a := 4) (b := 4) (by omega) (by omega)) (h _ _ (sp_dem R hr hg e) (by rw [pk_us]; exact sp_neg1) ?_)
      intro s hs
      by_cases es : s = r
      · rw [es, pk_us]; exact sp_neg1
      · rw [pk_un es]; exact hs
    · intro n i hi k
      refine br_f (nI_ge (b := 4) hi (by omega)) (And.intro (pk_in (4 * r + i) 32 (by omega) (sp_m4 r i)) (nm_r (e' := sp_fill ba (4 * r) (fun i => nI (4 * g + i)) (i + 1)) ?_ (nm_r (nI_1 i) k)))
      rw [sp_m4, sp_m4, nI_clamp (by omega)]; rfl
theorem sp_xe {post : Int32 → Prop} (hu : ∀ f, f < 16 → us f = 0 ∨ us f = 1 ∨ us f = 2) (h1 : ∀ g, g < 4 → (∀ i, i < 4 → us (4 * g + i) = 0) → post (nI g)) (h2 : post (-1)) : wpX_emptyGroup post (ck, wd, us, ba, lk, la, ho, sm, ca) := by
  refine sp_l0 (W := fun n i => wX_emptyGroup_2 post ck wd us ba lk la ho sm ca n (nI i)) 4 (fun n => br_t (nI_le (a := 4) (b := 4) (by omega) (by omega)) h2) ?_
  intro n i hi k
  refine br_f (nI_ge (b := 4) hi (by omega)) (sp_xu hi (br_c (fun e0 => And.intro (vp_in_nI hi (by omega)) (br_c (fun _ => nm_r (nI_1 i) k) (fun _ => h1 i hi ?_))) (fun _ => nm_r (nI_1 i) k)))
  intro j hj
  have hle := sp_cn_le (fun j => decide (¬ us (4 * i + j) ≤ 0)) 4
  have e1 := (nI_eq (by omega) (by omega)).1 (e0.trans nI_0.symm)
  have e2 := sp_cn_0 4 e1 j hj
  have e3 : us (4 * i + j) ≤ 0 := Classical.byContradiction (of_decide_eq_false (p := ¬ us (4 * i + j) ≤ 0) e2)
  rcases hu (4 * i + j) (by omega) with h5 | h5 | h5
  · exact h5
  · rw [h5] at e3; exact absurd e3 (by decide)
  · rw [h5] at e3; exact absurd e3 (by decide)
theorem sp_xc {post : SX → Prop} (ha : a < 16) (hb : b < 16) (h : post (ck, sp_fill wd (4 * b) (fun i => wd (4 * a + i)) 4, us, ba, lk, la, ho, sm, ca)) : wpX_copyFrame post (ck, wd, us, ba, lk, la, ho, sm, ca) (nI a) (nI b) := by
  refine sp_l0 (W := fun n i => wX_copyFrame_2 post (nI a) (nI b) ck n (nI i) (sp_fill wd (4 * b) (fun i => wd (4 * a + i)) i) us ba lk la ho sm ca) 4 (fun n => br_t (nI_le (a := 4) (b := 4) (by omega) (by omega)) h) ?_
  intro n i hi k
  refine br_f (nI_ge (b := 4) hi (by omega)) (And.intro (pk_in (4 * a + i) 64 (by omega) (sp_m4 a i)) (And.intro (pk_in (4 * b + i) 64 (by omega) (sp_m4 b i)) (nm_r (e' := sp_fill wd (4 * b) (fun i => wd (4 * a + i)) (i + 1)) ?_ (nm_r (nI_1 i) k))))
  rw [sp_m4, sp_m4, nI_clamp (by omega), nI_clamp (by omega), sp_fo (j := 4 * a + i) (by omega)]; rfl
theorem sp_xo {post : SX → Prop} (h : ∀ ho', post (ck, wd, us, ba, lk, la, ho', sm, ca)) : wpX_dropOthers post (ck, wd, us, ba, lk, la, ho, sm, ca) x y :=
  loop_0 (fun n i s => wX_dropOthers_2 post x y ck n (nI i) wd us ba lk la s sm ca) (fun _ _ => True) 4 ho trivial (fun n s _ => br_t (nI_le (a := 4) (b := 4) (by omega) (by omega)) (h s))
    (fun n i s hi _ k => br_f (nI_ge (b := 4) hi (by omega)) (br_c (fun _ => nm_r (nI_1 i) (k s trivial)) (fun _ => And.intro (vp_in_nI hi (by omega)) (br_c (fun _ => And.intro (vp_in_nI hi (by omega)) (nm_e (nm_r (nI_1 i) (k _ trivial)))) (fun _ => nm_r (nI_1 i) (k s trivial))))))
theorem sp_xh {post : Int32 → Prop} (h1 : ∀ g, g < 4 → post (nI g)) (h2 : post (-1)) : wpX_heldBy post (ck, wd, us, ba, lk, la, ho, sm, ca) x :=
  loop_0 (fun n i s => wX_heldBy_4 post x ck wd us ba lk la ho sm ca n s (nI i)) (fun _ s => post s) 4 (-1) h2 (fun n s hs => br_t (nI_le (a := 4) (b := 4) (by omega) (by omega)) hs)
    (fun n i s hi hs k => br_f (nI_ge (b := 4) hi (by omega)) (And.intro (vp_in_nI hi (by omega)) (br_c (fun _ => nm_r (nI_1 i) (k _ (h1 i hi))) (fun _ => nm_r (nI_1 i) (k s hs)))))
theorem sp_xl {post : Int32 → Prop} (h1 : ∀ f, f < 16 → us f = 0 → post (nI f)) (h2 : (∀ f, f < 16 → us f = 0 → ¬ ho (f / 4) < 0) → post (-1)) : wpX_looseFrame post (ck, wd, us, ba, lk, la, ho, sm, ca) := by
  refine loop_0 (σ := Unit) (fun n i _ => wX_looseFrame_2 post ck wd us ba lk la ho sm ca n (nI i)) (fun i _ => ∀ f, f < i → us f = 0 → ¬ ho (f / 4) < 0) 16 () lt_0 (fun n _ hs => br_t (nI_le (a := 16) (b := 16) (by omega) (by omega)) (h2 hs)) ?_
  intro n i _ hi hs k
  have es : nI i >>> ((2 : Int32) &&& 31) = nI (i / 4) := sp_sh (by omega)
  have ec : (nI i).toNatClampNeg = i := nI_clamp (by omega)
  have ed : (nI i >>> ((2 : Int32) &&& 31)).toNatClampNeg = i / 4 := by rw [es, nI_clamp (by omega)]
  refine br_f (nI_ge (b := 16) hi (by omega)) (And.intro (vp_in_nI hi (by omega)) (br_c (fun e0 => And.intro (pk_in (i / 4) 4 (by omega) es) (br_c (fun e1 => nm_r (nI_1 i) (k () (lt_s hs ?_))) (fun e1 => h1 i hi ?_))) (fun e0 => nm_r (nI_1 i) (k () (lt_s hs ?_)))))
  · intro _
    rw [ed] at e1; exact Int32.not_lt.mpr e1
  · rw [ec] at e0; exact e0
  · intro z
    rw [ec] at e0; exact absurd z e0
end
end
section
/-! relocate, promote -/
/-- pages below i of range r are in group g, the others still alone elsewhere, group g free for them -/
def sp_ri (r g i : Nat) (F : Nat → Nat) (us : Nat → Int32) : Prop := ∀ j, j < 4 → (j < i → F (4 * r + j) = 4 * g + j ∧ us (4 * g + j) = 1) ∧ (i ≤ j → F (4 * r + j) < 16 ∧ us (F (4 * r + j)) = 1 ∧ us (4 * g + j) = 0)
/-- what promote has seen below i -/
def sp_pi (r i : Nat) (F : Nat → Nat) (us : Nat → Int32) (x z : Int32) : Prop := (∀ j, j < i → F (4 * r + j) < 16 ∧ us (F (4 * r + j)) = 1) ∧ (z = 0 ∨ (z = 1 ∧ (0 < i → ∃ g, g < 4 ∧ x = nI g ∧ ∀ j, j < i → F (4 * r + j) = 4 * g + j)))
section
variable {F : Nat → Nat} {ck : Int32} {wd us ba lk la ho sm ca st yw cm : Nat → Int32} {q r g i : Nat} {x y : Int32}
theorem sp_rin (R : sp_Rep F wd us ba lk la st yw cm) (hr : r < 8) (hg : g < 4) (hi : i < 4) (h : sp_ri r g i F us) : sp_ri r g (i + 1) (sp_fu F (4 * r + i) (4 * g + i)) (upd (upd us (F (4 * r + i)) 0) (4 * g + i) 1) := by
  have h0 := (h i hi).2 (Nat.le_refl _)
  have ho := (sp_only R (q := 4 * r + i) (by omega) h0.1 h0.2.1).2
  have hf := sp_free R (f := 4 * g + i) (by omega) h0.2.2
  intro j hj
  constructor
  · intro hji
    by_cases e : j = i
    · rw [e, sp_fus, pk_us]; exact ⟨rfl, rfl⟩
    · have h1 := (h j hj).1 (by omega)
      have hne : 4 * g + j ≠ F (4 * r + i) := fun z => by
        have := ho (4 * r + j) (by omega) (h1.1.trans z)
        omega
      rw [sp_fn (show 4 * r + j ≠ 4 * r + i by omega), pk_un (show 4 * g + j ≠ 4 * g + i by omega), pk_un hne]; exact h1
  · intro hij
    have h1 := (h j hj).2 (by omega)
    have hne : F (4 * r + j) ≠ F (4 * r + i) := fun z => by
      have := ho (4 * r + j) (by omega) z
      omega
    have hne2 : 4 * g + j ≠ F (4 * r + i) := fun z => by
      have h5 := h1.2.2
      rw [z, h0.2.1] at h5; exact sp_01 h5.symm
    rw [sp_fn (show 4 * r + j ≠ 4 * r + i by omega), pk_un (hf _ (by omega)), pk_un hne, pk_un (show 4 * g + j ≠ 4 * g + i by omega), pk_un hne2]; exact h1
theorem sp_ba (R : sp_Rep F wd us ba lk la st yw cm) (hr : r < 8) (hi : i < 4) (hla : la r < 0) (h16 : F (4 * r + i) < 16) : ba (4 * r + i) = nI (F (4 * r + i)) := by
  rcases sp_rD R (4 * r + i) (by omega) (by rw [show (4 * r + i) / 4 = r by omega]; exact hla) with h | h
  · exact h.2
  · omega
theorem sp_xrl {post : SX → Prop} (hr : r < 8) (hg : g < 4) (hla : la r < 0)
    (h : ∀ F' wd' us' ba', sp_Rep F' wd' us' ba' lk la st yw cm → (∀ j, j < 4 → F' (4 * r + j) = 4 * g + j ∧ us' (4 * g + j) = 1) → post (ck, wd', us', ba', lk, la, ho, sm, ca)) :
    ∀ d i F wd us ba, i + d = 4 → sp_Rep F wd us ba lk la st yw cm → sp_ri r g i F us → wX_relocate_2 post (nI (4 * r)) (nI g) (d + 1) (nI i) ck wd us ba lk la ho sm ca := by
  intro d
  induction d with
  | zero =>
    intro i F wd us ba hd R hI
    rw [show i = 4 by omega] at hI ⊢
    exact br_t (nI_le (a := 4) (b := 4) (by omega) (by omega)) (h F wd us ba R (fun j hj => (hI j hj).1 hj))
  | succ d ih =>
    intro i F wd us ba hd R hI
    have hi : i < 4 := by omega
    have h0 := (hI i hi).2 (Nat.le_refl _)
    have ec : (nI (4 * r) + nI i).toNatClampNeg = 4 * r + i := by rw [nI_add, nI_clamp (by omega)]
    have ein : vp_in (nI (4 * r) + nI i) 32 := pk_in (4 * r + i) 32 (by omega) (nI_add _ _)
    have R2 := sp_mv R (q := 4 * r + i) (b := 4 * g + i) (by omega) (by rw [show (4 * r + i) / 4 = r by omega]; exact hla) h0.1 h0.2.1 (by omega) h0.2.2
    refine br_f (nI_ge (b := 4) hi (by omega)) (And.intro ein (nm_r (e' := nI (F (4 * r + i))) (by rw [ec]; exact sp_ba R hr hi hla h0.1) (nm_r (sp_m4 g i) (sp_xc h0.1 (by omega) ?_))))
    refine And.intro (vp_in_nI h0.1 (by omega)) (nm_r (e' := upd us (F (4 * r + i)) 0) (by rw [nI_clamp (by omega)]) (And.intro (vp_in_nI (by omega) (by omega)) (nm_r (e' := upd (upd us (F (4 * r + i)) 0) (4 * g + i) 1) (by rw [nI_clamp (by omega)]) (And.intro ein (nm_r (e' := upd ba (4 * r + i) (nI (4 * g + i))) (by rw [ec]) (nm_r (nI_1 i) ?_))))))
    exact ih (i + 1) _ _ _ _ (by omega) R2 (sp_rin R hr hg hi hI)
theorem sp_x134 {post : SX → Prop} (R : sp_Rep F wd us ba lk la st yw cm) (hr : r < 8) (hg : g < 4) (hi : ∀ i, i < 4 → F (4 * r + i) = 4 * g + i ∧ us (4 * g + i) = 1)
    (h : ∀ ba' la' ho', sp_Rep F wd us ba' lk la' st yw cm → post (ck, wd, us, ba', lk, la', ho', sm, ca)) : wX_promote_134 post (nI r) (nI (4 * r)) (nI g) ck wd us ba lk la ho sm ca := by
  refine And.intro (vp_in_nI hr (by omega)) (nm_r (e' := upd la r (nI g)) (by rw [nI_clamp (by omega)]) (And.intro (vp_in_nI hg (by omega)) (nm_e (sp_xo (fun ho' => ?_)))))
  refine sp_l0 (W := fun n i => wX_promote_157 post (nI (4 * r)) ck n (nI i) wd us (sp_fill ba (4 * r) (fun _ => -1) i) lk (upd la r (nI g)) ho' sm ca) 4 ?_ ?_
  · intro n
    exact br_t (nI_le (a := 4) (b := 4) (by omega) (by omega)) (h _ _ _ (sp_pro R hr hg hi _))
  · intro n i hi4 k
    refine br_f (nI_ge (b := 4) hi4 (by omega)) (And.intro (pk_in (4 * r + i) 32 (by omega) (nI_add _ _)) (nm_r (e' := sp_fill ba (4 * r) (fun _ => -1) (i + 1)) ?_ (nm_r (nI_1 i) k)))
    rw [nI_add, nI_clamp (by omega)]; rfl
theorem sp_x22 {post : SX → Prop} (R : sp_Rep F wd us ba lk la st yw cm) (hr : r < 8) (hla : la r < 0)
    (h : ∀ wd' us' ba' la' ho', sp_R wd' us' ba' lk la' st yw cm → post (ck, wd', us', ba', lk, la', ho', sm, ca)) :
    ∀ d i x z, i + d = 4 → sp_pi r i F us x z → wX_promote_22 post (nI r) (nI (4 * r)) ck wd us ba lk la ho sm ca (d + 1) x z (nI i) := by
  have hS := h wd us ba la ho ⟨F, R⟩
  intro d
  induction d with
  | zero =>
    intro i x z hd hI
    rw [show i = 4 by omega] at hI ⊢
    refine br_t (nI_le (a := 4) (b := 4) (by omega) (by omega)) (br_c (fun _ => ?_) (fun hz => ?_))
    · refine sp_xe (sp_u3 R) (fun g hg he => br_t (nI_pos' (by omega)) ?_) (br_f sp_nneg1 hS)
      refine ⟨_, sp_xrl hr hg hla (fun F' wd' us' ba' R' hi' => ?_) 4 0 F wd us ba (by omega) R (fun j hj => ⟨fun hn => absurd hn (Nat.not_lt_zero _), fun _ => ⟨(hI.1 j hj).1, (hI.1 j hj).2, he j hj⟩⟩)⟩
      exact sp_x134 R' hr hg hi' (fun ba2 la2 ho2 R2 => h _ _ _ _ _ ⟨F', R2⟩)
    · rcases hI.2 with h5 | ⟨_, h5⟩
      · exact absurd h5 hz
      · obtain ⟨g, hg, ex, hj⟩ := h5 (by omega)
        rw [ex]
        exact sp_x134 R hr hg (fun j j4 => ⟨hj j j4, by rw [← hj j j4]; exact (hI.1 j j4).2⟩) (fun ba2 la2 ho2 R2 => h _ _ _ _ _ ⟨F, R2⟩)
  | succ d ih =>
    intro i x z hd hI
    have hi : i < 4 := by omega
    have ec : (nI (4 * r) + nI i).toNatClampNeg = 4 * r + i := by rw [nI_add, nI_clamp (by omega)]
    have ein : vp_in (nI (4 * r) + nI i) 32 := pk_in (4 * r + i) 32 (by omega) (nI_add _ _)
    refine br_f (nI_ge (b := 4) hi (by omega)) (And.intro ein ?_)
    rcases sp_rD R (4 * r + i) (by omega) (by rw [show (4 * r + i) / 4 = r by omega]; exact hla) with ⟨h16, eb⟩ | ⟨_, hb⟩
    · refine nm_r (e' := nI (F (4 * r + i))) (by rw [ec]; exact eb) (br_f (nI_pos (by omega)) (And.intro (vp_in_nI h16 (by omega)) (br_c (fun hu => And.intro ein (And.intro (vp_in_nI (by omega) (by omega)) (br_c (fun _ => ?_) (fun _ => hS)))) (fun _ => hS))))
      rw [nI_clamp (by omega)] at hu
      have hI1 : ∀ j, j < i + 1 → F (4 * r + j) < 16 ∧ us (F (4 * r + j)) = 1 := lt_s hI.1 ⟨h16, hu⟩
      have key : ∀ x', (0 < i → x' = x) → (i = 0 → x' = nI (F (4 * r + i) / 4)) → wX_promote_84 post (wX_promote_22 post (nI r) (nI (4 * r)) ck wd us ba lk la ho sm ca (d + 1)) (nI r) (nI (4 * r)) x' z (nI i) (nI (F (4 * r + i))) ck wd us ba lk la ho sm ca := by
        intro x' k1 k2
        have kz : wX_promote_22 post (nI r) (nI (4 * r)) ck wd us ba lk la ho sm ca (d + 1) x' 0 (nI (i + 1)) := ih (i + 1) x' 0 (by omega) ⟨hI1, Or.inl rfl⟩
        refine br_c (fun _ => nm_r (nI_1 i) kz) (fun hz => br_c (fun e6 => nm_r (nI_1 i) (ih (i + 1) x' 1 (by omega) ⟨hI1, Or.inr ⟨rfl, fun _ => ?_⟩⟩)) (fun _ => nm_r (nI_1 i) kz))
        by_cases i0 : i = 0
        · rw [k2 i0, sp_m4] at e6
          have e7 := (nI_eq (by omega) (by omega)).1 e6
          refine ⟨F (4 * r + i) / 4, by omega, k2 i0, fun j hj => ?_⟩
          rw [show j = i by omega]; exact e7
        · rcases hI.2 with h5 | ⟨_, h5⟩
          · exact absurd h5 hz
          · obtain ⟨g, hg, ex, hj⟩ := h5 (by omega)
            rw [k1 (by omega), ex, sp_m4] at e6
            have e7 := (nI_eq (by omega) (by omega)).1 e6
            exact ⟨g, hg, (k1 (by omega)).trans ex, lt_s hj e7⟩
      refine br_c (fun e0 => nm_r (sp_sh (by omega)) (key _ (fun hi0 => ?_) (fun _ => rfl))) (fun e0 => key _ (fun _ => rfl) (fun hi0 => ?_))
      · exact absurd e0 (nI_ne0 hi0 (by omega))
      · exact absurd (by rw [hi0]; rfl) e0
    · exact nm_r (e' := ba (4 * r + i)) (by rw [ec]) (br_t hb hS)
theorem sp_xp {post : SX → Prop} (R : sp_Rep F wd us ba lk la st yw cm) (hr : r < 8)
    (h : ∀ wd' us' ba' la' ho', sp_R wd' us' ba' lk la' st yw cm → post (ck, wd', us', ba', lk, la', ho', sm, ca)) : wpX_promote post (ck, wd, us, ba, lk, la, ho, sm, ca) (nI r) := by
  refine And.intro (vp_in_nI hr (by omega)) (br_c (fun hl => nm_r (sp_m4' r) ⟨5, ?_⟩) (fun _ => h wd us ba la ho ⟨F, R⟩))
  rw [nI_clamp (by omega)] at hl
  exact sp_x22 R hr hl h 4 0 (-1) 1 (by omega) ⟨lt_0, Or.inr ⟨rfl, fun z => absurd z (Nat.lt_irrefl _)⟩⟩
end
end
section
/-! preempt, takeFrame, release, remove -/
section
variable {F : Nat → Nat} {ck : Int32} {wd us ba lk la ho sm ca st yw cm : Nat → Int32} {q r g i : Nat} {x y : Int32}
theorem sp_xpre {post : SX → Prop} (hu : ∀ f, f < 16 → us f = 0 ∨ us f = 1 ∨ us f = 2) (he : ∃ f, f < 16 ∧ us f = 0 ∧ ¬ ho (f / 4) < 0)
    (h : ∀ ho', (∃ f, f < 16 ∧ us f = 0 ∧ ho' (f / 4) < 0) → post (ck, wd, us, ba, lk, la, ho', sm, ca)) : wpX_preempt post (ck, wd, us, ba, lk, la, ho, sm, ca) := by
  refine loop_0 (fun n i s => wX_preempt_4 post ck wd us ba lk la ho sm ca n s (nI i)) (fun i s => (s = -1 ∧ ∀ g, g < i → ¬ ho g < 0 → ∀ j, j < 4 → ¬ us (4 * g + j) = 0) ∨ (∃ g, g < 4 ∧ s = nI g ∧ ∃ j, j < 4 ∧ us (4 * g + j) = 0)) 4 (-1) (Or.inl ⟨rfl, lt_0⟩) ?_ ?_
  · intro n s hs
    refine br_t (nI_le (a := 4) (b := 4) (by omega) (by omega)) ?_
    rcases hs with ⟨_, hs⟩ | ⟨g, hg, es, j, hj, ej⟩
    · obtain ⟨f, hf, e0, hh⟩ := he
      have h5 := hs (f / 4) (by omega) hh (f % 4) (by omega)
      rw [show 4 * (f / 4) + f % 4 = f by omega] at h5
      exact absurd e0 h5
    · rw [es]
      refine br_f (nI_pos (by omega)) (And.intro (vp_in_nI hg (by omega)) (nm_r (e' := upd ho g (-1)) (by rw [nI_clamp (by omega)]) (h _ ⟨4 * g + j, by omega, ej, ?_⟩)))
      rw [show (4 * g + j) / 4 = g by omega, pk_us]; exact sp_neg1
  · intro n i s hi hs k
    have ec : (nI i).toNatClampNeg = i := nI_clamp (by omega)
    have hle := sp_cn_le (fun j => decide (¬ us (4 * i + j) ≤ 0)) 4
    refine br_f (nI_ge (b := 4) hi (by omega)) (sp_xu hi (And.intro (vp_in_nI hi (by omega)) ?_))
    rw [ec]
    have kskip : (¬ ho i < 0 → ∀ j, j < 4 → ¬ us (4 * i + j) = 0) → wX_preempt_4 post ck wd us ba lk la ho sm ca n s (nI (i + 1)) := by
      intro z
      refine k s ?_
      rcases hs with ⟨e1, hs⟩ | hs
      · exact Or.inl ⟨e1, lt_s hs z⟩
      · exact Or.inr hs
    refine br_c (fun hneg => nm_r (nI_1 i) (kskip (fun z => absurd hneg z))) (fun hpos => br_c (fun h4 => nm_r (nI_1 i) (kskip (fun _ j hj ez => ?_))) (fun h4 => ?_))
    · have h5 := (nI_leI (a := 4) (by omega) (by omega)).1 h4
      have h6 := sp_cn_not (p := fun j => decide (¬ us (4 * i + j) ≤ 0)) (n := 4)
      have h7 : sp_cn (fun j => decide (¬ us (4 * i + j) ≤ 0)) 4 = 4 := by omega
      have h8 : sp_cn (fun j => decide (¬ us (4 * i + j) ≤ 0)) 4 < 4 := by
        have a1 := sp_cn_imp (p := fun t => decide (¬ us (4 * i + t) ≤ 0)) (q := fun t => decide (t ≠ j)) 4 (fun t ht hp => ?_)
        · have a2 : sp_cn (fun t => decide (t ≠ j)) 4 ≤ 3 := by
            have a3 : ∀ j, j < 4 → sp_cn (fun t => decide (t ≠ j)) 4 ≤ 3 := by decide
            exact a3 j hj
          omega
        · refine decide_eq_true (fun et => ?_)
          have hp2 : ¬ us (4 * i + t) ≤ 0 := of_decide_eq_true hp
          rw [et, ez] at hp2; exact hp2 (by decide)
      omega
    · have hfree : ∃ j, j < 4 ∧ us (4 * i + j) = 0 := by
        have h6 := sp_cn_not (p := fun j => decide (¬ us (4 * i + j) ≤ 0)) (n := 4) (fun z => h4 (by rw [z]; exact nI_le (a := 4) (b := 4) (by omega) (by omega)))
        obtain ⟨j, hj, ej⟩ := h6
        refine ⟨j, hj, ?_⟩
        have e3 : us (4 * i + j) ≤ 0 := Classical.byContradiction (of_decide_eq_false (p := ¬ us (4 * i + j) ≤ 0) ej)
        rcases hu (4 * i + j) (by omega) with h5 | h5 | h5
        · exact h5
        · rw [h5] at e3; exact absurd e3 (by decide)
        · rw [h5] at e3; exact absurd e3 (by decide)
      have ktake : wX_preempt_4 post ck wd us ba lk la ho sm ca n (nI i) (nI (i + 1)) := k (nI i) (Or.inr ⟨i, hi, rfl, hfree⟩)
      rcases hs with ⟨e1, hs⟩ | ⟨g, hg, es, hh⟩
      · rw [e1]
        exact br_t sp_neg1 (nm_r (nI_1 i) ktake)
      · have kk := k s (Or.inr ⟨g, hg, es, hh⟩)
        have hvin : vp_in s 4 := by rw [es]; exact vp_in_nI hg (by omega)
        exact br_c (fun _ => nm_r (nI_1 i) ktake) (fun _ => And.intro (vp_in_nI hi (by omega)) (And.intro hvin (br_c (fun _ => nm_r (nI_1 i) kk) (fun _ => nm_r (nI_1 i) ktake))))
theorem sp_x77 {post : Int32 → SX → Prop} (hu : ∀ f, f < 16 → us f = 0 ∨ us f = 1 ∨ us f = 2) (he : ∃ f, f < 16 ∧ us f = 0)
    (h : ∀ f, f < 16 → us f = 0 → ∀ ck' ho' sm', post (nI f) (ck', wd, us, ba, lk, la, ho', sm', ca)) : wX_takeFrame_77 post ck wd us ba lk la ho sm ca := by
  refine sp_xl (fun f hf e0 => br_t (nI_pos' (by omega)) (h f hf e0 _ _ _)) (fun hn => br_f sp_nneg1 (sp_xpre hu ?_ (fun ho' he' => sp_xl (fun f hf e0 => h f hf e0 _ _ _) (fun hn' => ?_))))
  · obtain ⟨f, hf, e0⟩ := he
    exact ⟨f, hf, e0, hn f hf e0⟩
  · obtain ⟨f, hf, e0, hl⟩ := he'
    exact absurd hl (hn' f hf e0)
theorem sp_x30 {post : Int32 → SX → Prop} (hq : q < 32) (hu : ∀ f, f < 16 → us f = 0 ∨ us f = 1 ∨ us f = 2) (he : ∃ f, f < 16 ∧ us f = 0)
    (h : ∀ f, f < 16 → us f = 0 → ∀ ck' ho' sm', post (nI f) (ck', wd, us, ba, lk, la, ho', sm', ca)) (hx : x = -1 ∨ ∃ g, g < 4 ∧ x = nI g) : wX_takeFrame_30 post (nI q) x ck wd us ba lk la ho sm ca := by
  rcases hx with e | ⟨g, hg, e⟩
  · rw [e]; exact br_t sp_neg1 (sp_x77 hu he h)
  · rw [e]
    have ef : nI g * 4 + (nI q &&& 3) = nI (4 * g + q % 4) := by rw [sp_a3 (by omega), sp_m4]
    refine br_f (nI_pos (by omega)) (And.intro (pk_in (4 * g + q % 4) 16 (by omega) ef) (br_c (fun e0 => nm_e (And.intro (vp_in_nI hg (by omega)) (nm_e ?_))) (fun _ => sp_x77 hu he h)))
    rw [ef] at e0 ⊢
    rw [nI_clamp (by omega)] at e0
    exact h (4 * g + q % 4) (by omega) e0 _ _ _
theorem sp_xt {post : Int32 → SX → Prop} (hq : q < 32) (hu : ∀ f, f < 16 → us f = 0 ∨ us f = 1 ∨ us f = 2) (he : ∃ f, f < 16 ∧ us f = 0)
    (h : ∀ f, f < 16 → us f = 0 → ∀ ck' ho' sm', post (nI f) (ck', wd, us, ba, lk, la, ho', sm', ca)) : wpX_takeFrame post (ck, wd, us, ba, lk, la, ho, sm, ca) (nI q) := by
  refine nm_e (sp_xh (fun g hg => br_t (nI_pos' (by omega)) (sp_x30 hq hu he h (Or.inr ⟨g, hg, rfl⟩))) (br_f sp_nneg1 (sp_xe hu (fun g hg _ => ?_) ?_)))
  · exact br_f (nI_pos (by omega)) (And.intro (vp_in_nI hg (by omega)) (nm_e (sp_x30 hq hu he h (Or.inr ⟨g, hg, rfl⟩))))
  · exact br_t sp_neg1 (sp_x30 hq hu he h (Or.inl rfl))
theorem sp_xrel {post : SX → Prop} (hr : r < 8) (h : ∀ ho', post (ck, wd, us, ba, lk, la, ho', sm, ca)) : wpX_release post (ck, wd, us, ba, lk, la, ho, sm, ca) (nI r) := by
  refine sp_xh (fun g hg => br_f (nI_pos (by omega)) (And.intro (vp_in_nI hr (by omega)) (br_c (fun _ => ?_) (fun _ => h ho)))) (br_t sp_neg1 (h ho))
  refine loop_0 (fun n i s => wX_release_25 post (nI r) (nI g) ck wd us ba lk la ho sm ca n s (nI i)) (fun _ _ => True) 4 0 trivial ?_ ?_
  · intro n s _
    exact br_t (nI_le (a := 4) (b := 4) (by omega) (by omega)) (br_c (fun _ => And.intro (vp_in_nI hg (by omega)) (nm_e (h _))) (fun _ => h ho))
  · intro n i s hi _ k
    exact br_f (nI_ge (b := 4) hi (by omega)) (And.intro (pk_in (4 * r + i) 32 (by omega) (sp_m4 r i)) (nm_e (br_c (fun _ => br_c (fun _ => nm_r (nI_1 i) (k _ trivial)) (fun _ => br_c (fun _ => nm_r (nI_1 i) (k _ trivial)) (fun _ => nm_r (nI_1 i) (k _ trivial)))) (fun _ => nm_r (nI_1 i) (k _ trivial)))))
theorem sp_xrm {post : SX → Prop} (R : sp_Rep F wd us ba lk la st yw cm) (hq : q < 32) (h16 : F q < 16)
    (h : ∀ us' ba' la' ho', sp_R wd us' ba' lk la' (upd st q 0) yw (upd cm (q % 16) 0) → post (ck, wd, us', ba', lk, la', ho', sm, ca)) : wpX_remove post (ck, wd, us, ba, lk, la, ho, sm, ca) (nI q) := by
  refine nm_r (sp_sh (by omega)) (sp_xd R (by omega) (fun ba1 la1 R1 hl _ => ?_))
  have ec : (nI q).toNatClampNeg = q := nI_clamp (by omega)
  have eb : ba1 q = nI (F q) := by
    rcases sp_rD R1 q hq hl with h5 | h5
    · exact h5.2
    · omega
  refine And.intro (vp_in_nI hq (by omega)) (nm_r (e' := nI (F q)) (by rw [ec, eb]) (And.intro (vp_in_nI h16 (by omega)) (And.intro (vp_in_nI h16 (by omega)) (nm_r (e' := upd us (F q) (us (F q) - 1)) (by rw [nI_clamp (by omega)]) (And.intro (vp_in_nI hq (by omega)) (nm_r (e' := upd ba1 q (-1)) (by rw [ec]) ?_))))))
  exact sp_xrel (by omega) (fun ho' => h _ _ _ _ ⟨_, sp_rem R1 hq hl h16⟩)
end
end
section
/-! bringIn and touch; making a page writable -/
/-- what the relation says of the reference alone -/
def sp_V (st cm : Nat → Int32) : Prop := sp_cn (fun v => decide (¬ cm v = 0)) 16 ≤ sp_cn (fun v => decide (¬ st v = 0)) 16 + sp_cn (fun v => decide (¬ st (16 + v) = 0)) 16 ∧ (∀ q, q < 32 → st q = 0 ∨ st q = 1 ∨ st q = 2) ∧ (∀ q, q < 32 → st q = 0 → cm (q % 16) = 0) ∧ sp_use st cm ≤ 16
/-- any component state that stands for the reference's, with carried as it is -/
def sp_K (st yw cm ca : Nat → Int32) (P : SX → Prop) : Prop := ∀ ck wd us ba lk la ho sm, sp_R wd us ba lk la st yw cm → P (ck, wd, us, ba, lk, la, ho, sm, ca)
/-- what read answers -/
def sp_rv (st yw : Nat → Int32) (q w : Nat) : Int32 := if st q = 0 then 0 else yw (4 * q + w)
section
variable {F : Nat → Nat} {ck : Int32} {wd us ba lk la ho sm ca st yw cm : Nat → Int32} {p v q r g i : Nat} {x y : Int32}
theorem sp_RV (R : sp_Rep F wd us ba lk la st yw cm) : sp_V st cm := by
  refine ⟨sp_useC R, fun q hq => ?_, fun q hq h0 => sp_cm0 R hq (fun z => by have := (sp_st0 R hq).1 h0; omega), sp_useL R⟩
  have h := sp_rS R q hq
  by_cases h16 : F q < 16
  · rcases h.1 with h1 | h1
    · exact Or.inr (Or.inl ((h.2.1 h16).1 h1))
    · exact Or.inr (Or.inr ((h.2.1 h16).2 h1))
  · exact Or.inl (h.2.2 (by omega))
theorem sp_yp {post : Int32 → Prop} (hp : p < 2) (h : post (nI (sp_cn (fun v => decide (¬ st (16 * p + v) = 0)) 16))) : wpY_present post (st, yw, cm) (nI p) := by
  refine br_f (nI_pos (by omega)) (br_t (nI_le (a := p) (b := 1) (by omega) (by omega)) ?_)
  refine sp_lc (W := wY_present_15 post (nI p) st yw cm) 16 (fun v => decide (¬ st (16 * p + v) = 0)) (fun n => br_t (nI_le (a := 16) (b := 16) (by omega) (by omega)) h) ?_ ?_
  · intro n i c hi hp1 k
    have hp2 : ¬ st (16 * p + i) = 0 := of_decide_eq_true hp1
    refine br_f (nI_ge (b := 16) hi (by omega)) (And.intro (pk_in (16 * p + i) 32 (by omega) (sp_16m p i)) (br_f ?_ (nm_r (nI_1 c) (nm_r (nI_1 i) k))))
    rw [sp_16m, nI_clamp (by omega)]; exact hp2
  · intro n i c hi hp1 k
    have hp2 : st (16 * p + i) = 0 := Classical.byContradiction (of_decide_eq_false (p := ¬ st (16 * p + i) = 0) hp1)
    refine br_f (nI_ge (b := 16) hi (by omega)) (And.intro (pk_in (16 * p + i) 32 (by omega) (sp_16m p i)) (br_t ?_ (nm_r (nI_1 i) k)))
    rw [sp_16m, nI_clamp (by omega)]; exact hp2
theorem sp_yul {post : Int32 → Prop} (t : Nat) (hC : sp_cn (fun v => decide (¬ cm v = 0)) 16 ≤ t) (h : post (nI (t - sp_cn (fun v => decide (¬ cm v = 0)) 16))) : ∃ n, wY_inUse_14 post st yw cm n (nI t) 0 := by
  have hx : ∀ n, wY_inUse_14 post st yw cm (n + 1) (nI (t - sp_cn (fun v => decide (¬ cm v = 0)) 16)) (nI 16) := fun n => br_t (nI_le (a := 16) (b := 16) (by omega) (by omega)) h
  have hs : ∀ n i, i < 16 → wY_inUse_14 post st yw cm n (nI (t - sp_cn (fun v => decide (¬ cm v = 0)) (i + 1))) (nI (i + 1)) → wY_inUse_14 post st yw cm (n + 1) (nI (t - sp_cn (fun v => decide (¬ cm v = 0)) i)) (nI i) := by
    intro n i hi k
    have ec : (nI i).toNatClampNeg = i := nI_clamp (by omega)
    have hm := sp_cn_mono (fun v => decide (¬ cm v = 0)) (m := i + 1) 16 (by omega)
    have hS := sp_cnS (fun v => decide (¬ cm v = 0)) i
    refine br_f (nI_ge (b := 16) hi (by omega)) (And.intro (vp_in_nI hi (by omega)) (br_c (fun e0 => nm_r (nI_1 i) ?_) (fun e0 => nm_r ?_ (nm_r (nI_1 i) k))))
    · rw [ec] at e0
      have e1 : sp_b (decide (¬ cm i = 0)) = 0 := sp_d0 (fun z => z e0)
      rw [show sp_cn (fun v => decide (¬ cm v = 0)) (i + 1) = sp_cn (fun v => decide (¬ cm v = 0)) i from by omega] at k
      exact k
    · rw [ec] at e0
      have e1 : sp_b (decide (¬ cm i = 0)) = 1 := sp_d1 e0
      have e2 : t - sp_cn (fun v => decide (¬ cm v = 0)) i = t - sp_cn (fun v => decide (¬ cm v = 0)) (i + 1) + 1 := by omega
      rw [e2]; exact pk_m1 _
  have H := sp_lp (W := fun n i => wY_inUse_14 post st yw cm n (nI (t - sp_cn (fun v => decide (¬ cm v = 0)) i)) (nI i)) 16 hx hs 16 0 rfl
  exact ⟨17, H⟩
theorem sp_yu {post : Int32 → Prop} (hV : sp_V st cm) (h : post (nI (sp_use st cm))) : wpY_inUse post (st, yw, cm) := by
  unfold wpY_inUse
  refine sp_yp (p := 0) (by omega) ?_
  refine sp_yp (p := 1) (by omega) (nm_r (nI_add _ _) ?_)
  have eA : sp_cn (fun v => decide (¬ st (16 * 0 + v) = 0)) 16 = sp_cn (fun v => decide (¬ st v = 0)) 16 := sp_cn_c (fun i _ => by rw [Nat.mul_zero, Nat.zero_add])
  have eB : sp_cn (fun v => decide (¬ st (16 * 1 + v) = 0)) 16 = sp_cn (fun v => decide (¬ st (16 + v) = 0)) 16 := sp_cn_c (fun i _ => by rw [Nat.mul_one])
  rw [eA, eB]
  exact sp_yul _ hV.1 h
theorem sp_xn2 {post : Int32 → Prop} (R : sp_Rep F wd us ba lk la st yw cm) (h : post (nI (sp_use st cm))) : wpX_framesInUse post (ck, wd, us, ba, lk, la, ho, sm, ca) :=
  sp_xn (by rw [sp_useX R]; exact h)
theorem sp_yt {post : Int32 → SY → Prop} (hp : p < 2) (hv : v < 16) (hq : q = 16 * p + v) (hV : sp_V st cm) (h0 : ¬ st q = 0 → post 0 (st, yw, cm)) (hF : st q = 0 → sp_use st cm = 16 → post (-2) (st, yw, cm))
    (h1 : st q = 0 → ¬ sp_use st cm = 16 → post 1 (upd st q 1, sp_fill yw (4 * q) (fun _ => 0) 4, cm)) : wpY_touch post (st, yw, cm) (nI p) (nI v) := by
  have hL := hV.2.2.2
  have e1 : 16 * nI p + nI v = nI q := by rw [sp_16m, hq]
  have ec : (nI q).toNatClampNeg = q := nI_clamp (by omega)
  unfold wpY_touch
  refine sp_yb1 hp hv (br_f (fun z => sp_01 z.symm) (nm_r e1 (And.intro (vp_in_nI (by omega) (by omega)) ?_)))
  rw [ec]
  refine br_c (fun hs => sp_yu hV (br_c (fun hu => ?_) (fun hu => And.intro (vp_in_nI (by omega) (by omega)) (nm_e ?_)))) h0
  · exact hF hs ((nI_eq (b := 16) (by omega) (by omega)).1 hu)
  · have hu2 : ¬ sp_use st cm = 16 := fun z => hu (by rw [z]; rfl)
    refine sp_l0 (W := fun n i => wY_touch_51 post (nI q) n (nI i) (upd st q 1) (sp_fill yw (4 * q) (fun _ => 0) i) cm) 4 (fun n => br_t (nI_le (a := 4) (b := 4) (by omega) (by omega)) (h1 hs hu2)) ?_
    intro n i hi k
    refine br_f (nI_ge (b := 4) hi (by omega)) (And.intro (pk_in (4 * q + i) 128 (by omega) (sp_4m q i)) (nm_r (e' := sp_fill yw (4 * q) (fun _ => 0) (i + 1)) ?_ (nm_r (nI_1 i) k)))
    rw [sp_4m, nI_clamp (by omega)]; rfl
theorem sp_xB {post : Int32 → SX → Prop} (R : sp_Rep F wd us ba lk la st yw cm) (hq : q < 32) (h0 : ¬ st q = 0 → post 0 (ck, wd, us, ba, lk, la, ho, sm, ca)) (hF : st q = 0 → sp_use st cm = 16 → post (-2) (ck, wd, us, ba, lk, la, ho, sm, ca))
    (h1 : st q = 0 → ¬ sp_use st cm = 16 → sp_K (upd st q 1) (sp_fill yw (4 * q) (fun _ => 0) 4) cm ca (post 1)) : wpX_bringIn post (ck, wd, us, ba, lk, la, ho, sm, ca) (nI q) := by
  have hs := sp_st0 R hq
  have hL := sp_useL R
  have ec : (nI q).toNatClampNeg = q := nI_clamp (by omega)
  unfold wpX_bringIn
  refine sp_xf R hq (fun h => br_f (nI_pos (by omega)) (h0 (fun z => by have := hs.1 z; omega))) (fun h x hx => br_t hx (sp_xn2 R (br_c (fun hu => ?_) (fun hu => sp_xt hq (sp_u3 R) (sp_room R (fun z => hu (by rw [z]; rfl))) (fun f hf e0 ck' ho' sm' => br_t (nI_pos' (by omega)) ?_)))))
  · exact hF (hs.2 h) ((nI_eq (b := 16) (by omega) (by omega)).1 hu)
  · have hu2 : ¬ sp_use st cm = 16 := fun z => hu (by rw [z]; rfl)
    refine sp_l0 (W := fun n i => wX_bringIn_42 post (nI q) (nI f) ck' n (nI i) (sp_fill wd (4 * f) (fun _ => 0) i) us ba lk la ho' sm' ca) 4 ?_ ?_
    · intro n
      refine br_t (nI_le (a := 4) (b := 4) (by omega) (by omega)) (And.intro (vp_in_nI hf (by omega)) (nm_r (e' := upd us f 1) (by rw [nI_clamp (by omega)]) (And.intro (vp_in_nI hq (by omega)) (nm_r (e' := upd ba q (nI f)) (by rw [ec]) (And.intro (vp_in_nI hq (by omega)) (nm_r (e' := upd lk q 0) (by rw [ec, sp_n0]) ?_))))))
      rw [sp_sh (by omega)]
      exact sp_xp (sp_new R hq h hf e0) (by omega) (fun wd2 us2 ba2 la2 ho2 R2 => h1 (hs.2 h) hu2 _ _ _ _ _ _ _ _ R2)
    · intro n i hi k
      refine br_f (nI_ge (b := 4) hi (by omega)) (And.intro (pk_in (4 * f + i) 64 (by omega) (sp_m4 f i)) (nm_r (e' := sp_fill wd (4 * f) (fun _ => 0) (i + 1)) ?_ (nm_r (nI_1 i) k)))
      rw [sp_m4, nI_clamp (by omega)]; rfl
/-- a page that is there and writable is made its own -/
theorem sp_xO {post : Int32 → SX → Prop} (R : sp_Rep F wd us ba lk la st yw cm) (hq : q < 32) (h16 : F q < 16) (h1 : cm (q % 16) = 0 → post 0 (ck, wd, us, ba, lk, la, ho, sm, ca)) (hF : ¬ cm (q % 16) = 0 → sp_use st cm = 16 → post (-2) (ck, wd, us, ba, lk, la, ho, sm, ca))
    (h2 : ¬ cm (q % 16) = 0 → ¬ sp_use st cm = 16 → sp_K st yw (upd cm (q % 16) 0) ca (post 0)) (hl : lk q = 0) : wpX_open post (ck, wd, us, ba, lk, la, ho, sm, ca) (nI q) := by
  have hL := sp_useL R
  have ec : (nI q).toNatClampNeg = q := nI_clamp (by omega)
  have ecf : (nI (F q)).toNatClampNeg = F q := nI_clamp (by omega)
  unfold wpX_open
  refine sp_xf R hq (fun h => br_t (nI_pos' (by omega)) (And.intro (vp_in_nI hq (by omega)) (br_t (by rw [ec]; exact hl) (And.intro (vp_in_nI h16 (by omega)) (br_c (fun hu => ?_) (fun hu => ?_)))))) (fun h x hx => absurd h16 (by omega))
  · rw [ecf] at hu
    exact h1 (sp_cm0 R hq (fun z => (sp_only R hq h16 hu).1 z.2))
  · rw [ecf] at hu
    have hsh := sp_u2 R hq h16 hu
    have hc : ¬ cm (q % 16) = 0 := fun z => sp_01 (z.symm.trans (sp_cm1 R hq h16 hsh.1))
    refine sp_xn2 R (br_c (fun hu => ?_) (fun hu => sp_xt hq (sp_u3 R) (sp_room R (fun z => hu (by rw [z]; rfl))) (fun o ho' e0 ck' ho' sm' => br_t (nI_pos' (by omega)) (sp_xc h16 (by omega) ?_))))
    · exact hF hc ((nI_eq (b := 16) (by omega) (by omega)).1 hu)
    · have hu2 : ¬ sp_use st cm = 16 := fun z => hu (by rw [z]; rfl)
      refine And.intro (vp_in_nI h16 (by omega)) (nm_r (e' := upd us (F q) 1) (by rw [ecf]) (And.intro (vp_in_nI (by omega) (by omega)) (nm_r (e' := upd (upd us (F q) 1) o 1) (by rw [nI_clamp (by omega)]) (And.intro (vp_in_nI hq (by omega)) (nm_r (e' := upd ba q (nI o)) (by rw [ec]) ?_)))))
      rw [sp_sh (by omega), sp_x4 (by omega)]
      refine sp_xrel (by omega) (fun ho2 => sp_xp (sp_own R hq h16 hsh.1 (by omega) e0) (by omega) (fun wd2 us2 ba2 la2 ho3 hR2 => ?_))
      obtain ⟨F2, R2⟩ := hR2
      exact sp_xp R2 (sp_x4l _ (by omega)) (fun wd2 us2 ba2 la2 ho3 hR3 => h2 hc hu2 _ _ _ _ _ _ _ _ hR3)
/-- making a page writable, side by side -/
theorem sp_opn (hp : p < 2) (hv : v < 16) (hq : q = 16 * p + v) (hV : sp_V st cm) : ∃ r : Int32, ∃ st' yw' cm' : Nat → Int32,
    ((r < 0 ∧ st' = st ∧ yw' = yw ∧ cm' = cm) ∨ (r = 0 ∧ st' q = 1 ∧ cm' v = 0 ∧ (∀ j, j ≠ q → st' j = st j) ∧ (∀ j, (j < 4 * q ∨ 4 * q + 4 ≤ j) → yw' j = yw j) ∧ (∀ w, w < 4 → yw' (4 * q + w) = sp_rv st yw q w))) ∧
    (∀ ck wd us ba lk la ho sm ca, sp_R wd us ba lk la st yw cm → ∀ post : Int32 → SX → Prop, sp_K st' yw' cm' ca (post r) → wpX_open post (ck, wd, us, ba, lk, la, ho, sm, ca) (nI q)) ∧
    (∀ post : Int32 → SY → Prop, post r (st', yw', cm') → wpY_own post (st, yw, cm) (nI p) (nI v)) := by
  have hL := hV.2.2.2
  have e1 : 16 * nI p + nI v = nI q := by rw [sp_16m, hq]
  have hq32 : q < 32 := by omega
  have ec : (16 * nI p + nI v).toNatClampNeg = q := by rw [e1, nI_clamp (by omega)]
  have ein : vp_in (16 * nI p + nI v) 32 := pk_in q 32 hq32 e1
  have ev : (nI v).toNatClampNeg = v := nI_clamp (by omega)
  have eq16 : q % 16 = v := by omega
  by_cases h2 : st q = 2
  · refine ⟨-4, st, yw, cm, Or.inl ⟨by decide, rfl, rfl, rfl⟩, ?_, ?_⟩
    · rintro ck wd us ba lk la ho sm ca ⟨F, R⟩ post K
      have hS := sp_rS R q hq32
      have h16 : F q < 16 := by
        apply Classical.byContradiction
        intro z
        have := hS.2.2 (by omega)
        rw [h2] at this; exact sp_02 this.symm
      have hl : ¬ lk q = 0 := fun z => by
        have := (hS.2.1 h16).1 z
        rw [h2] at this; exact sp_12 this.symm
      unfold wpX_open
      exact sp_xf R hq32 (fun h => br_t (nI_pos' (by omega)) (And.intro (vp_in_nI hq32 (by omega)) (br_f (by rw [nI_clamp (by omega)]; exact hl) (K _ _ _ _ _ _ _ _ ⟨F, R⟩)))) (fun h x hx => absurd h16 (by omega))
    · intro post h
      exact And.intro ein (br_t (by rw [ec]; exact h2) h)
  · by_cases h0 : st q = 0
    · by_cases hu : sp_use st cm = 16
      · refine ⟨-2, st, yw, cm, Or.inl ⟨by decide, rfl, rfl, rfl⟩, ?_, ?_⟩
        · rintro ck wd us ba lk la ho sm ca ⟨F, R⟩ post K
          have hs := sp_st0 R hq32
          unfold wpX_open
          refine sp_xf R hq32 (fun h => absurd (hs.1 h0) (by omega)) (fun h x hx => br_f (sp_lt0 hx) (sp_xB R hq32 (fun z => absurd h0 z) (fun _ _ => br_f (by decide) (K _ _ _ _ _ _ _ _ ⟨F, R⟩)) (fun _ z => absurd hu z)))
        · intro post h
          exact And.intro ein (br_f (by rw [ec]; exact h2) (And.intro ein (br_t (by rw [ec]; exact h0) (sp_yt hp hv hq hV (fun z => absurd h0 z) (fun _ _ => br_t rfl h) (fun _ z => absurd hu z)))))
      · refine ⟨0, upd st q 1, sp_fill yw (4 * q) (fun _ => 0) 4, cm, Or.inr ⟨rfl, pk_us, ?_, fun j hj => pk_un hj, fun j hj => sp_fo hj, fun w hw => by rw [sp_fi hw]; unfold sp_rv; rw [if_pos h0]⟩, ?_, ?_⟩
        · have := hV.2.2.1 q hq32 h0
          rw [eq16] at this; exact this
        · rintro ck wd us ba lk la ho sm ca ⟨F, R⟩ post K
          have hs := sp_st0 R hq32
          unfold wpX_open
          refine sp_xf R hq32 (fun h => absurd (hs.1 h0) (by omega)) (fun h x hx => br_f (sp_lt0 hx) (sp_xB R hq32 (fun z => absurd h0 z) (fun _ z => absurd z hu) (fun _ _ => ?_)))
          intro ck2 wd2 us2 ba2 lk2 la2 ho2 sm2 R2
          exact br_t (by decide) (K _ _ _ _ _ _ _ _ R2)
        · intro post h
          exact And.intro ein (br_f (by rw [ec]; exact h2) (And.intro ein (br_t (by rw [ec]; exact h0) (sp_yt hp hv hq hV (fun z => absurd h0 z) (fun _ z => absurd z hu) (fun _ _ => br_f (by decide) h)))))
    · have h1 : st q = 1 := by
        rcases hV.2.1 q hq32 with h | h | h
        · exact absurd h h0
        · exact h
        · exact absurd h h2
      have hX : ∀ {F wd us ba lk la}, sp_Rep F wd us ba lk la st yw cm → F q < 16 ∧ lk q = 0 := by
        intro F wd us ba lk la R
        have hS := sp_rS R q hq32
        have h16 : F q < 16 := by
          apply Classical.byContradiction
          intro z
          exact h0 (hS.2.2 (by omega))
        refine ⟨h16, ?_⟩
        rcases hS.1 with h | h
        · exact h
        · exact absurd ((hS.2.1 h16).2 h) h2
      have hrv : ∀ w, w < 4 → yw (4 * q + w) = sp_rv st yw q w := fun w _ => by unfold sp_rv; rw [if_neg h0]
      by_cases hc : cm v = 0
      · refine ⟨0, st, yw, cm, Or.inr ⟨rfl, h1, hc, fun _ _ => rfl, fun _ _ => rfl, hrv⟩, ?_, ?_⟩
        · rintro ck wd us ba lk la ho sm ca ⟨F, R⟩ post K
          exact sp_xO R hq32 (hX R).1 (fun _ => K _ _ _ _ _ _ _ _ ⟨F, R⟩) (fun z => absurd hc (by rw [eq16] at z; exact z)) (fun z => absurd hc (by rw [eq16] at z; exact z)) (hX R).2
        · intro post h
          exact And.intro ein (br_f (by rw [ec]; exact h2) (And.intro ein (br_f (by rw [ec]; exact h0) (And.intro (vp_in_nI hv (by omega)) (br_t (by rw [ev]; exact hc) h)))))
      · by_cases hu : sp_use st cm = 16
        · refine ⟨-2, st, yw, cm, Or.inl ⟨by decide, rfl, rfl, rfl⟩, ?_, ?_⟩
          · rintro ck wd us ba lk la ho sm ca ⟨F, R⟩ post K
            exact sp_xO R hq32 (hX R).1 (fun z => absurd z (by rw [eq16]; exact hc)) (fun _ _ => K _ _ _ _ _ _ _ _ ⟨F, R⟩) (fun _ z => absurd hu z) (hX R).2
          · intro post h
            exact And.intro ein (br_f (by rw [ec]; exact h2) (And.intro ein (br_f (by rw [ec]; exact h0) (And.intro (vp_in_nI hv (by omega)) (br_f (by rw [ev]; exact hc) (sp_yu hV (br_t (by rw [hu]; rfl) h)))))))
        · refine ⟨0, st, yw, upd cm v 0, Or.inr ⟨rfl, h1, pk_us, fun _ _ => rfl, fun _ _ => rfl, hrv⟩, ?_, ?_⟩
          · rintro ck wd us ba lk la ho sm ca ⟨F, R⟩ post K
            exact sp_xO R hq32 (hX R).1 (fun z => absurd z (by rw [eq16]; exact hc)) (fun _ z => absurd z hu) (fun _ _ => by rw [eq16]; exact K) (hX R).2
          · intro post h
            refine And.intro ein (br_f (by rw [ec]; exact h2) (And.intro ein (br_f (by rw [ec]; exact h0) (And.intro (vp_in_nI hv (by omega)) (br_f (by rw [ev]; exact hc) (sp_yu hV (br_f ?_ (And.intro (vp_in_nI hv (by omega)) (nm_r (e' := upd cm v 0) (by rw [ev, sp_n0]) h)))))))))
            exact fun z => hu ((nI_eq (b := 16) (by omega) (by omega)).1 z)
end
end
section
/-! read, write, unmap, side by side -/
theorem sp_wI {x : Int32} (a : ¬ x < 0) (b : x ≤ 3) : ∃ w : Nat, w < 4 ∧ x = nI w := by
  obtain ⟨w, hw, e⟩ := nI_of2 (M := 3) (n := 3) (by decide) a b
  exact ⟨w, by omega, e⟩
section
variable {F : Nat → Nat} {ck : Int32} {wd us ba lk la ho sm ca st yw cm : Nat → Int32} {p v q r g i w : Nat} {x y : Int32}
theorem sp_xread {post : Int32 → Prop} (R : sp_Rep F wd us ba lk la st yw cm) (hp : p < 2) (hv : v < 16) (hw : w < 4) (hq : q = 16 * p + v) (h : post (sp_rv st yw q w)) : wpX_read post (ck, wd, us, ba, lk, la, ho, sm, ca) (nI p) (nI v) (nI w) := by
  have e2 : nI p * 16 + nI v = nI q := by rw [sp_m16, hq]
  have hq32 : q < 32 := by omega
  have hs := sp_st0 R hq32
  unfold wpX_read
  refine sp_xb1 hp hv (br_t rfl (br_f (nI_pos (by omega)) (br_t (nI_le (a := w) (b := 3) (by omega) (by omega)) ?_)))
  rw [e2]
  refine sp_xf R hq32 (fun h16 => br_t (nI_pos' (by omega)) (And.intro (pk_in (4 * F q + w) 64 (by omega) (sp_m4 _ _)) ?_)) (fun h16 x hx => br_f (sp_lt0 hx) ?_)
  · have e3 : sp_rv st yw q w = wd (4 * F q + w) := by
      unfold sp_rv
      rw [if_neg (fun z => by have := hs.1 z; omega)]; exact sp_rW R q hq32 h16 w hw
    rw [sp_m4, nI_clamp (by omega), ← e3]; exact h
  · have e3 : sp_rv st yw q w = 0 := by
      unfold sp_rv
      rw [if_pos (hs.2 h16)]
    rw [← e3]; exact h
theorem sp_yread {post : Int32 → Prop} (hp : p < 2) (hv : v < 16) (hw : w < 4) (hq : q = 16 * p + v) (h : post (sp_rv st yw q w)) : wpY_read post (st, yw, cm) (nI p) (nI v) (nI w) := by
  have e1 : 16 * nI p + nI v = nI q := by rw [sp_16m, hq]
  have hq32 : q < 32 := by omega
  unfold wpY_read
  refine sp_yb1 hp hv (br_f (fun z => sp_01 z.symm) (br_f (nI_pos (by omega)) (br_f (nI_nlt (a := 3) (b := w) (by omega) (by omega)) ?_)))
  rw [e1, sp_4m, nI_clamp (show q < 2 ^ 31 by omega), nI_clamp (show 4 * q + w < 2 ^ 31 by omega)]
  refine And.intro (vp_in_nI hq32 (by omega)) (br_c (fun e0 => ?_) (fun e0 => And.intro (vp_in_nI (by omega) (by omega)) ?_))
  · have e3 : sp_rv st yw q w = 0 := by
      unfold sp_rv
      rw [if_pos e0]
    rw [← e3]; exact h
  · have e3 : sp_rv st yw q w = yw (4 * q + w) := by
      unfold sp_rv
      rw [if_neg e0]
    rw [← e3]; exact h
theorem sp_yun {post : Int32 → SY → Prop} (hp : p < 2) (hv : v < 16) (hq : q = 16 * p + v) (h0 : st q = 0 → post (-3) (st, yw, cm)) (h1 : ¬ st q = 0 → post 0 (upd st q 0, yw, upd cm v 0)) : wpY_unmap post (st, yw, cm) (nI p) (nI v) := by
  have e1 : 16 * nI p + nI v = nI q := by rw [sp_16m, hq]
  have hq32 : q < 32 := by omega
  unfold wpY_unmap
  refine sp_yb1 hp hv (br_f (fun z => sp_01 z.symm) ?_)
  rw [e1, nI_clamp (show q < 2 ^ 31 by omega)]
  refine And.intro (vp_in_nI hq32 (by omega)) (br_c h0 (fun e0 => And.intro (vp_in_nI hq32 (by omega)) (nm_e (And.intro (vp_in_nI hv (by omega)) (nm_r (e' := upd cm v 0) ?_ (h1 e0))))))
  rw [nI_clamp (by omega), sp_n0]
theorem sp_alone (R : sp_Rep F wd us ba lk la st yw cm) (hq : q < 32) (h16 : F q < 16) (hc : cm (q % 16) = 0) : us (F q) = 1 := by
  apply Classical.byContradiction
  intro h
  have := sp_cm1 R hq h16 (sp_u2 R hq h16 h).1
  rw [hc] at this; exact sp_01 this
/-- unmapRange, side by side -/
theorem sp_ur {t : Nat} (hp : p < 2) (ht : t < 16) : ∀ d i (c : Int32) (st cm : Nat → Int32), t + 1 - i = d → i ≤ 16 → ∃ r : Int32, ∃ st' cm' : Nat → Int32,
    (∀ j, (j < 16 * p + i ∨ 16 * p + t < j) → st' j = st j) ∧ (∀ v, i ≤ v → v ≤ t → st' (16 * p + v) = 0) ∧
    (∀ ck wd us ba lk la ho sm ca, sp_R wd us ba lk la st yw cm → ∀ post : Int32 → SX → Prop, sp_K st' yw cm' ca (post r) → wX_unmapRange_26 post (nI p) (nI t) (d + 1) c (nI i) ck wd us ba lk la ho sm ca) ∧
    (∀ post : Int32 → SY → Prop, post r (st', yw, cm') → wY_unmapRange_26 post (nI p) (nI t) (d + 1) c (nI i) st yw cm) := by
  intro d
  induction d with
  | zero =>
    intro i c st cm hd h16
    have hlt : nI t < nI i := nI_lt (by omega) (by omega)
    refine ⟨c, st, cm, fun _ _ => rfl, fun v h1 h2 => absurd h1 (by omega), ?_, ?_⟩
    · intro ck wd us ba lk la ho sm ca R post K
      exact br_t hlt (K _ _ _ _ _ _ _ _ R)
    · intro post h
      exact br_t hlt h
  | succ d ih =>
    intro i c st cm hd h16
    have hlt : ¬ nI t < nI i := nI_nlt (by omega) (by omega)
    have hi : i < 16 := by omega
    have hq : 16 * p + i < 32 := by omega
    by_cases h0 : st (16 * p + i) = 0
    · obtain ⟨r, st', cm', f1, f2, hX, hY⟩ := ih (i + 1) c st cm (by omega) (by omega)
      refine ⟨r, st', cm', fun j hj => f1 j (by omega), fun v h1 h2 => ?_, ?_, ?_⟩
      · by_cases e : v = i
        · rw [e, f1 _ (by omega)]; exact h0
        · exact f2 v (by omega) h2
      · rintro ck wd us ba lk la ho sm ca ⟨F, R⟩ post K
        refine br_f hlt ?_
        rw [sp_m16]
        exact sp_xf R hq (fun z => absurd ((sp_st0 R hq).1 h0) (by omega)) (fun _ x hx => br_t hx (nm_r (nI_1 i) (hX _ _ _ _ _ _ _ _ _ ⟨F, R⟩ post K)))
      · intro post h
        exact br_f hlt (sp_yun hp hi rfl (fun _ => br_f (by decide) (nm_r (nI_1 i) (hY post h))) (fun z => absurd h0 z))
    · obtain ⟨r, st', cm', f1, f2, hX, hY⟩ := ih (i + 1) (c + 1) (upd st (16 * p + i) 0) (upd cm i 0) (by omega) (by omega)
      refine ⟨r, st', cm', fun j hj => ?_, fun v h1 h2 => ?_, ?_, ?_⟩
      · rw [f1 j (by omega), pk_un (by omega)]
      · by_cases e : v = i
        · rw [e, f1 _ (by omega), pk_us]
        · exact f2 v (by omega) h2
      · rintro ck wd us ba lk la ho sm ca ⟨F, R⟩ post K
        have h16 : F (16 * p + i) < 16 := by
          apply Classical.byContradiction
          intro z
          exact h0 ((sp_st0 R hq).2 (by omega))
        refine br_f hlt ?_
        rw [sp_m16]
        refine sp_xf R hq (fun z => br_f (nI_pos (by omega)) (sp_xrm R hq h16 (fun us' ba' la' ho' R2 => nm_e (nm_r (nI_1 i) ?_)))) (fun z => absurd h16 (by omega))
        rw [show (16 * p + i) % 16 = i by omega] at R2
        exact hX _ _ _ _ _ _ _ _ _ R2 post K
      · intro post h
        exact br_f hlt (sp_yun hp hi rfl (fun z => absurd z h0) (fun _ => br_t rfl (nm_e (nm_r (nI_1 i) (hY post h)))))
theorem sp_urw {f t : Nat} (hp : p < 2) (hf : f < 16) (ht : t < 16) : ∃ r : Int32, ∃ st' cm' : Nat → Int32,
    (∀ j, (j < 16 * p + f ∨ 16 * p + t < j) → st' j = st j) ∧ (∀ v, f ≤ v → v ≤ t → st' (16 * p + v) = 0) ∧
    (∀ ck wd us ba lk la ho sm ca, sp_R wd us ba lk la st yw cm → ∀ post : Int32 → SX → Prop, sp_K st' yw cm' ca (post r) → wpX_unmapRange post (ck, wd, us, ba, lk, la, ho, sm, ca) (nI p) (nI f) (nI t)) ∧
    (∀ post : Int32 → SY → Prop, post r (st', yw, cm') → wpY_unmapRange post (st, yw, cm) (nI p) (nI f) (nI t)) := by
  obtain ⟨r, st', cm', f1, f2, hX, hY⟩ := sp_ur (yw := yw) hp ht (t + 1 - f) f 0 st cm rfl (by omega)
  refine ⟨r, st', cm', f1, f2, ?_, ?_⟩
  · intro ck wd us ba lk la ho sm ca R post K
    unfold wpX_unmapRange
    exact sp_xb1 hp hf (br_t rfl (sp_xb1 hp ht (br_t rfl ⟨_, hX _ _ _ _ _ _ _ _ _ R post K⟩)))
  · intro post h
    unfold wpY_unmapRange
    exact sp_yb1 hp hf (br_f (fun z => sp_01 z.symm) (sp_yb1 hp ht (br_f (fun z => sp_01 z.symm) ⟨_, hY post h⟩)))
end
end
section
/-! split -/
def sp_si (p o i : Nat) (st0 yw0 st yw cm : Nat → Int32) : Prop :=
  (∀ v, v < 16 → st (16 * p + v) = st0 (16 * p + v)) ∧ (∀ v, v < 16 → ∀ w, w < 4 → yw (4 * (16 * p + v) + w) = yw0 (4 * (16 * p + v) + w)) ∧
  (∀ v, v < i → st (16 * o + v) = st0 (16 * p + v) ∧ cm v = (if st0 (16 * p + v) = 0 then 0 else 1) ∧ (¬ st0 (16 * p + v) = 0 → ∀ w, w < 4 → yw (4 * (16 * o + v) + w) = yw0 (4 * (16 * p + v) + w))) ∧
  (∀ v, i ≤ v → v < 16 → st (16 * o + v) = 0 ∧ cm v = 0)
section
variable {F : Nat → Nat} {ck : Int32} {wd us ba lk la ho sm ca st yw cm st0 yw0 : Nat → Int32} {p o v q r g i w : Nat} {x y : Int32}
theorem sp_x51 {post : Int32 → SX → Prop} (hp : p < 2) (ho1 : o = 1 - p) (hla : ∀ s, s < 8 → la s < 0)
    (h : ∀ F us ba lk st yw cm, sp_Rep F wd us ba lk la st yw cm → sp_si p o 16 st0 yw0 st yw cm → post (nI (sp_cn (fun v => decide (¬ st0 (16 * p + v) = 0)) 16)) (ck, wd, us, ba, lk, la, ho, sm, ca)) :
    ∀ d i F us ba lk st yw cm, i + d = 16 → sp_Rep F wd us ba lk la st yw cm → sp_si p o i st0 yw0 st yw cm →
      wX_split_51 post (nI p) (nI o) ck (d + 1) (nI (sp_cn (fun v => decide (¬ st0 (16 * p + v) = 0)) i)) (nI i) wd us ba lk la ho sm ca := by
  intro d
  induction d with
  | zero =>
    intro i F us ba lk st yw cm hd R hI
    rw [show i = 16 by omega] at hI ⊢
    exact br_t (nI_le (a := 16) (b := 16) (by omega) (by omega)) (h F us ba lk st yw cm R hI)
  | succ d ih =>
    intro i F us ba lk st yw cm hd R hI
    have hi : i < 16 := by omega
    have hq : 16 * p + i < 32 := by omega
    have ht : 16 * o + i < 32 := by omega
    have eq1 : nI p * 16 + nI i = nI (16 * p + i) := sp_m16 p i
    have et1 : nI o * 16 + nI i = nI (16 * o + i) := sp_m16 o i
    have ecq : (nI p * 16 + nI i).toNatClampNeg = 16 * p + i := by rw [eq1, nI_clamp (by omega)]
    have ect : (nI o * 16 + nI i).toNatClampNeg = 16 * o + i := by rw [et1, nI_clamp (by omega)]
    have einq : vp_in (nI p * 16 + nI i) 32 := pk_in _ 32 hq eq1
    have eint : vp_in (nI o * 16 + nI i) 32 := pk_in _ 32 ht et1
    have hS := sp_cnS (fun v => decide (¬ st0 (16 * p + v) = 0)) i
    have hst := hI.1 i hi
    have hs := sp_st0 R hq
    refine br_f (nI_ge (b := 16) hi (by omega)) (And.intro einq ?_)
    rcases sp_rD R (16 * p + i) hq (hla _ (by omega)) with ⟨h16, eb⟩ | ⟨h16, hb⟩
    · have hne : ¬ st0 (16 * p + i) = 0 := fun z => by
        have := hs.1 (hst.trans z)
        omega
      have e1 : sp_b (decide (¬ st0 (16 * p + i) = 0)) = 1 := sp_d1 hne
      have hta : 16 ≤ F (16 * o + i) := (sp_st0 R ht).1 (hI.2.2.2 i (Nat.le_refl _) hi).1
      have hlk : vp_nar .boolean (lk (16 * p + i)) = lk (16 * p + i) := by
        rcases (sp_rS R _ hq).1 with z | z
        · rw [z]; rfl
        · rw [z]; rfl
      have R2 := sp_shr R (q := 16 * p + i) (t := 16 * o + i) (yw' := sp_fill yw (4 * (16 * o + i)) (fun w => yw (4 * (16 * p + i) + w)) 4) hq (by omega) h16 hta (hla _ (by omega)) (fun j hj => sp_fo hj) (fun w hw => sp_fi hw)
      rw [show (16 * p + i) % 16 = i by omega] at R2
      refine nm_r (e' := nI (F (16 * p + i))) (by rw [ecq, eb]) (br_f (nI_pos (by omega)) (And.intro eint (nm_r (e' := upd ba (16 * o + i) (nI (F (16 * p + i)))) (by rw [ect]) (And.intro einq (And.intro eint (nm_r (e' := upd lk (16 * o + i) (lk (16 * p + i))) (by rw [ecq, ect, hlk]) (And.intro (vp_in_nI h16 (by omega)) (nm_r (e' := upd us (F (16 * p + i)) 2) (by rw [nI_clamp (by omega)]) (nm_r (nI_1 _) (nm_r (nI_1 i) ?_))))))))))
      have hI2 : sp_si p o (i + 1) st0 yw0 (upd st (16 * o + i) (st (16 * p + i))) (sp_fill yw (4 * (16 * o + i)) (fun w => yw (4 * (16 * p + i) + w)) 4) (upd cm i 1) := by
        refine ⟨fun v hv => ?_, fun v hv w hw => ?_, lt_s (fun v hv => ?_) ⟨?_, ?_, fun _ w hw => ?_⟩, fun v h1 h2 => ?_⟩
        · rw [pk_un (by omega)]; exact hI.1 v hv
        · rw [sp_fo (by omega)]; exact hI.2.1 v hv w hw
        · have h5 := hI.2.2.1 v hv
          refine ⟨?_, ?_, fun z w hw => ?_⟩
          · rw [pk_un (by omega)]; exact h5.1
          · rw [pk_un (by omega)]; exact h5.2.1
          · rw [sp_fo (by omega)]; exact h5.2.2 z w hw
        · rw [pk_us]; exact hst
        · rw [pk_us, if_neg hne]
        · rw [sp_fi hw]; exact hI.2.1 i hi w hw
        · have h5 := hI.2.2.2 v (by omega) h2
          rw [pk_un (by omega), pk_un (by omega)]; exact h5
      have k := ih (i + 1) _ _ _ _ _ _ _ (by omega) R2 hI2
      rw [show sp_cn (fun v => decide (¬ st0 (16 * p + v) = 0)) (i + 1) = sp_cn (fun v => decide (¬ st0 (16 * p + v) = 0)) i + 1 by omega] at k
      exact k
    · have he : st0 (16 * p + i) = 0 := hst.symm.trans (hs.2 h16)
      have e1 : sp_b (decide (¬ st0 (16 * p + i) = 0)) = 0 := sp_d0 (fun z => z he)
      refine nm_r (e' := ba (16 * p + i)) (by rw [ecq]) (br_t hb (nm_r (nI_1 i) ?_))
      have h5 := hI.2.2.2 i (Nat.le_refl _) hi
      have hI2 : sp_si p o (i + 1) st0 yw0 st yw cm := by
        refine ⟨hI.1, hI.2.1, lt_s hI.2.2.1 ⟨?_, ?_, fun z => absurd he z⟩, fun v h1 h2 => hI.2.2.2 v (by omega) h2⟩
        · rw [he]; exact h5.1
        · rw [if_pos he]; exact h5.2
      have k := ih (i + 1) F us ba lk st yw cm (by omega) R hI2
      rw [show sp_cn (fun v => decide (¬ st0 (16 * p + v) = 0)) (i + 1) = sp_cn (fun v => decide (¬ st0 (16 * p + v) = 0)) i by omega] at k
      exact k
theorem sp_x26 {post : Int32 → SX → Prop} (hp : p < 2) (ho1 : o = 1 - p) (hob : ∀ v, v < 16 → 16 ≤ F (16 * o + v))
    (h : ∀ ba la, sp_Rep F wd us ba lk la st yw cm → (∀ s, s < 8 → la s < 0) → ∃ n, wX_split_51 post (nI p) (nI o) ck n 0 0 wd us ba lk la ho sm ca) :
    ∀ d i ba la, i + d = 4 → sp_Rep F wd us ba lk la st yw cm → (∀ s, s < i → la (4 * p + s) < 0) → wX_split_26 post (nI p) (nI o) (d + 1) (nI i) ck wd us ba lk la ho sm ca := by
  intro d
  induction d with
  | zero =>
    intro i ba la hd R hI
    rw [show i = 4 by omega] at hI ⊢
    refine br_t (nI_le (a := 4) (b := 4) (by omega) (by omega)) (h ba la R (fun s hs => ?_))
    by_cases e : s / 4 = p
    · have := hI (s % 4) (by omega)
      rw [show 4 * p + s % 4 = s by omega] at this; exact this
    · apply Classical.byContradiction
      intro z
      have h5 := (sp_big R (q := 4 * s) (by omega) (by rw [show 4 * s / 4 = s by omega]; exact z)).1
      have h6 := hob (4 * s - 16 * o) (by omega)
      rw [show 16 * o + (4 * s - 16 * o) = 4 * s by omega] at h6
      omega
  | succ d ih =>
    intro i ba la hd R hI
    have hi : i < 4 := by omega
    refine br_f (nI_ge (b := 4) hi (by omega)) ?_
    rw [sp_m4]
    refine sp_xd R (by omega) (fun ba' la' R' hl hm => nm_r (nI_1 i) (ih (i + 1) ba' la' (by omega) R' (lt_s (fun s hs => hm _ (hI s hs)) hl)))
/-- the reference's split -/
theorem sp_ysp {post : Int32 → SY → Prop} (hp : p < 2) (ho1 : o = 1 - p)
    (h : post (nI (sp_cn (fun v => decide (¬ st (16 * p + v) = 0)) 16)) (sp_fill st (16 * o) (fun v => st (16 * p + v)) 16, sp_fill yw (64 * o) (fun k => yw (64 * p + k)) 64, sp_fill cm 0 (fun v => if st (16 * p + v) = 0 then 0 else 1) 16)) :
    wpY_split post (st, yw, cm) (nI p) := by
  refine br_f (nI_pos (by omega)) (br_t (nI_le (a := p) (b := 1) (by omega) (by omega)) ?_)
  refine sp_l0 (W := fun n i => wY_split_13 post (nI p) n (nI i) (sp_fill st (16 * o) (fun v => st (16 * p + v)) i) (sp_fill yw (64 * o) (fun k => yw (64 * p + k)) (4 * i)) (sp_fill cm 0 (fun v => if st (16 * p + v) = 0 then 0 else 1) i)) 16 ?_ ?_
  · intro n
    refine br_t (nI_le (a := 16) (b := 16) (by omega) (by omega)) (sp_yp hp ?_)
    have e1 : sp_cn (fun v => decide (¬ sp_fill st (16 * o) (fun v => st (16 * p + v)) 16 (16 * p + v) = 0)) 16 = sp_cn (fun v => decide (¬ st (16 * p + v) = 0)) 16 := sp_cn_c (fun v hv => by rw [sp_fo (by omega)])
    rw [e1]; exact h
  · intro n i hi k
    have e3 : 16 * nI p + nI i = nI (16 * p + i) := sp_16m p i
    have e4 : 16 * (1 - nI p) + nI i = nI (16 * o + i) := by rw [sp_1s hp, ← ho1, sp_16m]
    have ec3 : (nI (16 * p + i)).toNatClampNeg = 16 * p + i := nI_clamp (by omega)
    have ec4 : (nI (16 * o + i)).toNatClampNeg = 16 * o + i := nI_clamp (by omega)
    have inner : ∀ stX cmX, wY_split_13 post (nI p) n (nI (i + 1)) stX (sp_fill yw (64 * o) (fun k => yw (64 * p + k)) (4 * (i + 1))) cmX →
        ∃ n72, wY_split_72 post (wY_split_13 post (nI p) n) (nI p) (nI i) (nI (16 * p + i)) (nI (16 * o + i)) n72 0 stX (sp_fill yw (64 * o) (fun k => yw (64 * p + k)) (4 * i)) cmX := by
      intro stX cmX kk
      refine sp_l0 (W := fun m j => wY_split_72 post (wY_split_13 post (nI p) n) (nI p) (nI i) (nI (16 * p + i)) (nI (16 * o + i)) m (nI j) stX (sp_fill yw (64 * o) (fun k => yw (64 * p + k)) (4 * i + j)) cmX) 4 (fun m => br_t (nI_le (a := 4) (b := 4) (by omega) (by omega)) (nm_r (nI_1 i) kk)) ?_
      intro m j hj k2
      refine br_f (nI_ge (b := 4) hj (by omega)) (And.intro (pk_in (4 * (16 * p + i) + j) 128 (by omega) (sp_4m _ _)) (And.intro (pk_in (4 * (16 * o + i) + j) 128 (by omega) (sp_4m _ _)) (nm_r (e' := sp_fill yw (64 * o) (fun k => yw (64 * p + k)) (4 * i + j + 1)) ?_ (nm_r (nI_1 j) k2))))
      rw [sp_4m, sp_4m, nI_clamp (by omega), nI_clamp (by omega), sp_fo (j := 4 * (16 * p + i) + j) (by omega)]
      show upd _ _ _ = upd _ (64 * o + (4 * i + j)) (yw (64 * p + (4 * i + j)))
      rw [show 4 * (16 * o + i) + j = 64 * o + (4 * i + j) by omega, show 4 * (16 * p + i) + j = 64 * p + (4 * i + j) by omega]
    refine br_f (nI_ge (b := 16) hi (by omega)) (nm_r e3 (nm_r e4 (And.intro (vp_in_nI (by omega) (by omega)) (And.intro (vp_in_nI (by omega) (by omega)) (nm_r (e' := sp_fill st (16 * o) (fun v => st (16 * p + v)) (i + 1)) ?_ (And.intro (vp_in_nI (by omega) (by omega)) ?_))))))
    · rw [ec3, ec4, sp_fo (j := 16 * p + i) (by omega)]; rfl
    · rw [ec3, sp_fo (j := 16 * p + i) (by omega)]
      refine br_c (fun e0 => And.intro (vp_in_nI hi (by omega)) (nm_r (e' := sp_fill cm 0 (fun v => if st (16 * p + v) = 0 then 0 else 1) (i + 1)) ?_ (inner _ _ k))) (fun e0 => And.intro (vp_in_nI hi (by omega)) (nm_r (e' := sp_fill cm 0 (fun v => if st (16 * p + v) = 0 then 0 else 1) (i + 1)) ?_ (inner _ _ k)))
      · rw [nI_clamp (by omega), sp_n0]
        show _ = upd _ (0 + i) (if st (16 * p + i) = 0 then 0 else 1)
        rw [Nat.zero_add, if_pos e0]
      · rw [nI_clamp (by omega), sp_n1]
        show _ = upd _ (0 + i) (if st (16 * p + i) = 0 then 0 else 1)
        rw [Nat.zero_add, if_neg e0]
end
end
section
/-! what is owed -/
/-- the component's state stands for the reference's -/
def i_Rel (_ : Nat) (u : SX) (v : SY) : Prop := match u, v with
  | (_, wd, us, ba, lk, la, _, _, _), (st, yw, cm) => sp_R wd us ba lk la st yw cm
theorem i_up {k : Nat} {u : SX} {v : SY} (h : i_Rel k u v) : i_Rel (k + 5) u v := h
theorem i_vc0 : wpX_init (fun u => wpY_init (fun v => i_Rel 0 u v)) := by
  refine sp_l0 (W := fun n i => wX_init_67 (fun u => wpY_init (fun v => i_Rel 0 u v)) 0 n (nI i) (fun _ => 0) (fun _ => 0) (sp_fill (fun _ => 0) 0 (fun _ => -1) i) (fun _ => 0) (fun _ => 0) (fun _ => 0) (fun _ => 0) (fun _ => 0)) 32 ?_ ?_
  · intro n
    refine br_t (nI_le (a := 32) (b := 32) (by omega) (by omega)) ?_
    refine sp_l0 (W := fun n i => wX_init_88 (fun u => wpY_init (fun v => i_Rel 0 u v)) 0 n (nI i) (fun _ => 0) (fun _ => 0) (sp_fill (fun _ => 0) 0 (fun _ => -1) 32) (fun _ => 0) (sp_fill (fun _ => 0) 0 (fun _ => -1) i) (fun _ => 0) (fun _ => 0) (fun _ => 0)) 8 ?_ ?_
    · intro n
      refine br_t (nI_le (a := 8) (b := 8) (by omega) (by omega)) ?_
      refine loop_0 (fun n i s => wX_init_109 (fun u => wpY_init (fun v => i_Rel 0 u v)) 0 n (nI i) (fun _ => 0) (fun _ => 0) (sp_fill (fun _ => 0) 0 (fun _ => -1) 32) (fun _ => 0) (sp_fill (fun _ => 0) 0 (fun _ => -1) 8) s (fun _ => 0) (fun _ => 0)) (fun _ _ => True) 4 (fun _ => 0) trivial ?_ ?_
      · intro n s _
        refine br_t (nI_le (a := 4) (b := 4) (by omega) (by omega)) ?_
        refine (⟨fun _ => 16, sp_ini (fun j hj => ?_) (fun j hj => ?_)⟩ : sp_R _ _ _ _ _ _ _ _)
        · rw [sp_fj (by omega) (by omega)]
        · rw [sp_fj (by omega) (by omega)]
      · intro n i s hi _ k
        exact br_f (nI_ge (b := 4) hi (by omega)) (And.intro (vp_in_nI hi (by omega)) (nm_e (nm_r (nI_1 i) (k _ trivial))))
    · intro n i hi k
      refine br_f (nI_ge (b := 8) hi (by omega)) (And.intro (vp_in_nI hi (by omega)) (nm_r (e' := sp_fill (fun _ => 0) 0 (fun _ => -1) (i + 1)) ?_ (nm_r (nI_1 i) k)))
      rw [nI_clamp (by omega)]
      show _ = upd _ (0 + i) _
      rw [Nat.zero_add]
  · intro n i hi k
    refine br_f (nI_ge (b := 32) hi (by omega)) (And.intro (vp_in_nI hi (by omega)) (nm_r (e' := sp_fill (fun _ => 0) 0 (fun _ => -1) (i + 1)) ?_ (nm_r (nI_1 i) k)))
    rw [nI_clamp (by omega)]
    show _ = upd _ (0 + i) _
    rw [Nat.zero_add]
end
section
/-! the owed statements of the single-page calls -/
section
variable {F : Nat → Nat} {ck : Int32} {wd us ba lk la ho sm ca st yw cm : Nat → Int32} {p v q w : Nat} {x y b s : Int32}
theorem sp_yw1 {r : Int32} {st' yw' cm' : Nat → Int32} {post : Int32 → SY → Prop} (hp : p < 2) (hv : v < 16) (hw : w < 4) (hq : q = 16 * p + v) (hY : ∀ post : Int32 → SY → Prop, post r (st', yw', cm') → wpY_own post (st, yw, cm) (nI p) (nI v))
    (h : r = 0 → post r (st', upd yw' (4 * q + w) x, cm')) (h' : ¬ r = 0 → post r (st', yw', cm')) : wpY_write post (st, yw, cm) (nI p) (nI v) (nI w) x := by
  have e1 : 16 * nI p + nI v = nI q := by rw [sp_16m, hq]
  unfold wpY_write
  refine sp_yb1 hp hv (br_f (fun z => sp_01 z.symm) (br_f (nI_pos (by omega)) (br_t (nI_le (a := w) (b := 3) (by omega) (by omega)) (hY _ ?_))))
  rw [e1, sp_4m, nI_clamp (by omega)]
  exact br_c (fun e => And.intro (vp_in_nI (by omega) (by omega)) (nm_e (h e))) h'
theorem sp_wr1 (R : sp_Rep F wd us ba lk la st yw cm) (hq : q < 32) (h16 : F q < 16) (hc : cm (q % 16) = 0) (hw : w < 4) : sp_Rep F (upd wd (4 * F q + w) x) us ba lk la st (upd yw (4 * q + w) x) cm := by
  refine sp_wr R hq h16 (sp_alone R hq h16 hc) (fun j hj => pk_un (by omega)) (fun j hj => pk_un (by omega)) (fun t ht => ?_)
  by_cases e : t = w
  · rw [e, pk_us, pk_us]
  · rw [pk_un (by omega), pk_un (by omega)]; exact sp_rW R q hq h16 t ht
theorem sp_x94 {post : Int32 → SX → Prop} (R : sp_Rep F wd us ba lk la st yw cm) (hq : q < 32) (h16 : F q < 16) (hb : (b = 0 ∧ y = 1) ∨ (b = 1 ∧ y = 2)) (h : sp_K (upd st q y) yw cm ca (post x)) : wX_protect_94 post (nI q) x b (nI q) ck wd us ba lk la ho sm ca := by
  refine And.intro (vp_in_nI hq (by omega)) (nm_r (e' := upd lk q b) ?_ ?_)
  · rw [nI_clamp (by omega)]
    rcases hb with z | z
    · rw [z.1, sp_n0]
    · rw [z.1, sp_n1]
  · rw [sp_sh (by omega)]
    exact sp_xp (sp_lck R h16 hb) (by omega) (fun wd2 us2 ba2 la2 ho2 R2 => h _ _ _ _ _ _ _ _ R2)
theorem sp_x68 {post : Int32 → SX → Prop} (R : sp_Rep F wd us ba lk la st yw cm) (hq : q < 32) (h16 : F q < 16) (hb : (s = 0 ∧ b = 0 ∧ y = 1) ∨ (¬ s = 0 ∧ b = 1 ∧ y = 2)) (h : sp_K (upd st q y) yw cm ca (post x)) : wX_protect_68 post s (nI q) x b (lk q) ck wd us ba lk la ho sm ca := by
  have hS := sp_rS R q hq
  refine br_c (fun e => ?_) (fun e => ?_)
  · refine h _ _ _ _ _ _ _ _ ⟨F, sp_cg R (fun j hj => ?_) (fun _ _ _ _ _ => rfl) (fun _ _ => rfl)⟩
    by_cases ej : j = q
    · rw [ej, pk_us]
      rcases hb with z | z
      · rw [z.2.2]; exact ((hS.2.1 h16).1 (e.trans z.2.1)).symm
      · rw [z.2.2]; exact ((hS.2.1 h16).2 (e.trans z.2.1)).symm
    · exact pk_un ej
  · rw [sp_sh (by omega)]
    refine sp_xd R (by omega) (fun ba' la' R' _ _ => ?_)
    rcases hb with z | z
    · refine br_t z.1 ?_
      rw [z.2.1] at e
      exact sp_x94 R' hq h16 (Or.inl ⟨rfl, z.2.2⟩) h
    · refine br_f z.1 ?_
      exact sp_x94 R' hq h16 (Or.inr ⟨rfl, z.2.2⟩) h
theorem sp_x50 {post : Int32 → SX → Prop} (R : sp_Rep F wd us ba lk la st yw cm) (hq : q < 32) (h16 : F q < 16) (hb : (s = 0 ∧ y = 1) ∨ (¬ s = 0 ∧ y = 2)) (h : sp_K (upd st q y) yw cm ca (post x)) : wX_protect_50 post s (nI q) x ck wd us ba lk la ho sm ca := by
  refine And.intro (vp_in_nI hq (by omega)) ?_
  rw [nI_clamp (by omega)]
  exact br_c (fun e => sp_x68 R hq h16 (hb.elim (fun z => Or.inl ⟨z.1, rfl, z.2⟩) (fun z => absurd e z.1)) h) (fun e => sp_x68 R hq h16 (hb.elim (fun z => absurd z.1 e) (fun z => Or.inr ⟨z.1, rfl, z.2⟩)) h)
theorem sp_ypr {post : Int32 → SY → Prop} (hp : p < 2) (hv : v < 16) (hq : q = 16 * p + v) (hb : (s = 0 ∧ y = 1) ∨ (¬ s = 0 ∧ y = 2)) (h0 : st q = 0 → post (-3) (st, yw, cm)) (h1 : ¬ st q = 0 → post (st q - 1) (upd st q y, yw, cm)) : wpY_protect post (st, yw, cm) (nI p) (nI v) s := by
  have e1 : 16 * nI p + nI v = nI q := by rw [sp_16m, hq]
  have hq32 : q < 32 := by omega
  unfold wpY_protect
  refine sp_yb1 hp hv (br_f (fun z => sp_01 z.symm) ?_)
  rw [e1, nI_clamp (show q < 2 ^ 31 by omega)]
  refine And.intro (vp_in_nI hq32 (by omega)) (nm_e (br_c h0 (fun e => ?_)))
  rcases hb with z | z
  · refine br_t z.1 (And.intro (vp_in_nI hq32 (by omega)) (nm_e ?_))
    have h5 := h1 e
    rw [z.2] at h5; exact h5
  · refine br_f z.1 (And.intro (vp_in_nI hq32 (by omega)) (nm_e ?_))
    have h5 := h1 e
    rw [z.2] at h5; exact h5
end
theorem i_vc_touch {k : Nat} {u : SX} {v : SY} (I : i_Rel k u v) (hk : k + 5 ≤ 2560) (v1 : Int32) (v2 : Int32) : wpX_touch (fun r u' => wpY_touch (fun r' v' => r' = r ∧ i_Rel (k + 5) u' v') v v1 v2) u v1 v2 := by
  obtain ⟨ck, wd, us, ba, lk, la, ho, sm, ca⟩ := u
  obtain ⟨st, yw, cm⟩ := v
  have hR : sp_R wd us ba lk la st yw cm := I
  obtain ⟨F, R⟩ := hR
  have hV := sp_RV R
  unfold wpX_touch
  by_cases hpg : sp_pg v1 v2
  · obtain ⟨p, v, hp, hv, rfl, rfl⟩ := hpg
    refine sp_xb1 hp hv (br_t rfl ?_)
    rw [sp_m16]
    refine sp_xB R (by omega) (fun h0 => ?_) (fun h0 hu => ?_) (fun h0 hu => ?_)
    · exact sp_yt hp hv rfl hV (fun _ => ⟨rfl, F, R⟩) (fun z => absurd z h0) (fun z => absurd z h0)
    · exact sp_yt hp hv rfl hV (fun z => absurd h0 z) (fun _ _ => ⟨rfl, F, R⟩) (fun _ z => absurd hu z)
    · intro ck' wd' us' ba' lk' la' ho' sm' R2
      exact sp_yt hp hv rfl hV (fun z => absurd h0 z) (fun _ z => absurd z hu) (fun _ _ => ⟨rfl, R2⟩)
  · refine sp_xb2 hpg (br_f (fun z => sp_01 z.symm) ?_)
    unfold wpY_touch
    exact sp_yb2 hpg (br_t rfl ⟨rfl, F, R⟩)
theorem i_vc_write {k : Nat} {u : SX} {v : SY} (I : i_Rel k u v) (hk : k + 5 ≤ 2560) (v1 : Int32) (v2 : Int32) (v3 : Int32) (v4 : Int32) : wpX_write (fun r u' => wpY_write (fun r' v' => r' = r ∧ i_Rel (k + 5) u' v') v v1 v2 v3 v4) u v1 v2 v3 v4 := by
  obtain ⟨ck, wd, us, ba, lk, la, ho, sm, ca⟩ := u
  obtain ⟨st, yw, cm⟩ := v
  have hR : sp_R wd us ba lk la st yw cm := I
  have hR0 := hR
  obtain ⟨F, R⟩ := hR
  have hV := sp_RV R
  unfold wpX_write
  by_cases hpg : sp_pg v1 v2
  · obtain ⟨p, v, hp, hv, rfl, rfl⟩ := hpg
    by_cases hw : ∃ w, w < 4 ∧ v3 = nI w
    · obtain ⟨w, hw, rfl⟩ := hw
      obtain ⟨r, st', yw', cm', hf, hX, hY⟩ := sp_opn (yw := yw) hp hv rfl hV
      refine sp_xb1 hp hv (br_t rfl (br_f (nI_pos (by omega)) (br_t (nI_le (a := w) (b := 3) (by omega) (by omega)) ?_)))
      rw [sp_m16]
      refine hX _ _ _ _ _ _ _ _ _ hR0 _ ?_
      intro ck' wd' us' ba' lk' la' ho' sm' hR'
      rcases hf with ⟨hneg, _⟩ | ⟨h0, h1, hc, _⟩
      · exact br_f (sp_lt0 hneg) (sp_yw1 hp hv hw rfl hY (fun e => absurd (by rw [e] at hneg; exact hneg) (by decide : ¬ (0 : Int32) < 0)) (fun _ => ⟨rfl, hR'⟩))
      · obtain ⟨F', R'⟩ := hR'
        have hq : 16 * p + v < 32 := by omega
        have hc' : cm' ((16 * p + v) % 16) = 0 := by rw [show (16 * p + v) % 16 = v by omega]; exact hc
        refine br_t (by rw [h0]; decide) (sp_xf R' hq (fun h16 => And.intro (pk_in (4 * F' (16 * p + v) + w) 64 (by omega) (sp_m4 _ _)) (nm_r (e' := upd wd' (4 * F' (16 * p + v) + w) v4) (by rw [sp_m4, nI_clamp (by omega)]) ?_)) (fun h16 => ?_))
        · exact sp_yw1 hp hv hw rfl hY (fun _ => ⟨h0, F', sp_wr1 R' hq h16 hc' hw⟩) (fun z => absurd h0 z)
        · have := (sp_st0 R' hq).2 h16
          rw [h1] at this; exact absurd this.symm sp_01
    · have A : ∀ r : Int32, r = -1 → wpY_write (fun r' v' => r' = r ∧ i_Rel (k + 5) (ck, wd, us, ba, lk, la, ho, sm, ca) v') (st, yw, cm) (nI p) (nI v) v3 v4 := by
        intro r hr
        unfold wpY_write
        exact sp_yb1 hp hv (br_f (fun z => sp_01 z.symm) (br_c (fun _ => ⟨hr.symm, F, R⟩) (fun a => br_c (fun b => absurd (sp_wI a b) hw) (fun _ => ⟨hr.symm, F, R⟩))))
      exact sp_xb1 hp hv (br_t rfl (br_c (fun _ => A _ rfl) (fun a => br_c (fun b => absurd (sp_wI a b) hw) (fun _ => A _ rfl))))
  · refine sp_xb2 hpg (br_f (fun z => sp_01 z.symm) ?_)
    unfold wpY_write
    exact sp_yb2 hpg (br_t rfl ⟨rfl, F, R⟩)
theorem i_vc_read {k : Nat} {u : SX} {v : SY} (I : i_Rel k u v) (hk : k + 5 ≤ 2560) (v1 : Int32) (v2 : Int32) (v3 : Int32) : wpX_read (fun r => wpY_read (fun r' => r' = r ∧ i_Rel (k + 5) u v) v v1 v2 v3) u v1 v2 v3 := by
  obtain ⟨ck, wd, us, ba, lk, la, ho, sm, ca⟩ := u
  obtain ⟨st, yw, cm⟩ := v
  have hR : sp_R wd us ba lk la st yw cm := I
  obtain ⟨F, R⟩ := hR
  by_cases hpg : sp_pg v1 v2
  · obtain ⟨p, v, hp, hv, rfl, rfl⟩ := hpg
    by_cases hw : ∃ w, w < 4 ∧ v3 = nI w
    · obtain ⟨w, hw, rfl⟩ := hw
      exact sp_xread R hp hv hw rfl (sp_yread hp hv hw rfl ⟨rfl, F, R⟩)
    · have A : ∀ r : Int32, r = 0 → wpY_read (fun r' => r' = r ∧ i_Rel (k + 5) (ck, wd, us, ba, lk, la, ho, sm, ca) (st, yw, cm)) (st, yw, cm) (nI p) (nI v) v3 := by
        intro r hr
        unfold wpY_read
        exact sp_yb1 hp hv (br_f (fun z => sp_01 z.symm) (br_c (fun _ => ⟨hr.symm, F, R⟩) (fun a => br_c (fun _ => ⟨hr.symm, F, R⟩) (fun b => absurd (sp_wI a (Int32.not_lt.mp b)) hw))))
      unfold wpX_read
      exact sp_xb1 hp hv (br_t rfl (br_c (fun _ => A _ rfl) (fun a => br_c (fun b => absurd (sp_wI a b) hw) (fun _ => A _ rfl))))
  · unfold wpX_read
    refine sp_xb2 hpg (br_f (fun z => sp_01 z.symm) ?_)
    unfold wpY_read
    exact sp_yb2 hpg (br_t rfl ⟨rfl, F, R⟩)
theorem i_vc_unmap {k : Nat} {u : SX} {v : SY} (I : i_Rel k u v) (hk : k + 5 ≤ 2560) (v1 : Int32) (v2 : Int32) : wpX_unmap (fun r u' => wpY_unmap (fun r' v' => r' = r ∧ i_Rel (k + 5) u' v') v v1 v2) u v1 v2 := by
  obtain ⟨ck, wd, us, ba, lk, la, ho, sm, ca⟩ := u
  obtain ⟨st, yw, cm⟩ := v
  have hR : sp_R wd us ba lk la st yw cm := I
  obtain ⟨F, R⟩ := hR
  unfold wpX_unmap
  by_cases hpg : sp_pg v1 v2
  · obtain ⟨p, v, hp, hv, rfl, rfl⟩ := hpg
    have hq : 16 * p + v < 32 := by omega
    have hs := sp_st0 R hq
    refine sp_xb1 hp hv (br_t rfl ?_)
    rw [sp_m16]
    refine sp_xf R hq (fun h16 => br_t (nI_pos' (by omega)) (sp_xrm R hq h16 (fun us' ba' la' ho' R2 => ?_))) (fun h16 x hx => br_f (sp_lt0 hx) ?_)
    · rw [show (16 * p + v) % 16 = v by omega] at R2
      exact sp_yun hp hv rfl (fun z => absurd (hs.1 z) (by omega)) (fun _ => ⟨rfl, R2⟩)
    · exact sp_yun hp hv rfl (fun _ => ⟨rfl, F, R⟩) (fun z => absurd (hs.2 h16) z)
  · refine sp_xb2 hpg (br_f (fun z => sp_01 z.symm) ?_)
    unfold wpY_unmap
    exact sp_yb2 hpg (br_t rfl ⟨rfl, F, R⟩)
theorem i_vc_protect {k : Nat} {u : SX} {v : SY} (I : i_Rel k u v) (hk : k + 5 ≤ 2560) (v1 : Int32) (v2 : Int32) (v3 : Int32) : wpX_protect (fun r u' => wpY_protect (fun r' v' => r' = r ∧ i_Rel (k + 5) u' v') v v1 v2 v3) u v1 v2 v3 := by
  obtain ⟨ck, wd, us, ba, lk, la, ho, sm, ca⟩ := u
  obtain ⟨st, yw, cm⟩ := v
  have hR : sp_R wd us ba lk la st yw cm := I
  obtain ⟨F, R⟩ := hR
  unfold wpX_protect
  by_cases hpg : sp_pg v1 v2
  · obtain ⟨p, v, hp, hv, rfl, rfl⟩ := hpg
    have hq : 16 * p + v < 32 := by omega
    have hs := sp_st0 R hq
    have hS := sp_rS R _ hq
    have ec : (nI (16 * p + v)).toNatClampNeg = 16 * p + v := nI_clamp (by omega)
    obtain ⟨y, hb⟩ : ∃ y : Int32, (v3 = 0 ∧ y = 1) ∨ (¬ v3 = 0 ∧ y = 2) := by
      by_cases z : v3 = 0
      · exact ⟨1, Or.inl ⟨z, rfl⟩⟩
      · exact ⟨2, Or.inr ⟨z, rfl⟩⟩
    refine sp_xb1 hp hv (br_t rfl (nm_r (sp_m16 p v) (sp_xf R hq (fun h16 => br_t (nI_pos' (by omega)) (And.intro (vp_in_nI hq (by omega)) (br_c (fun hl => ?_) (fun hl => ?_)))) (fun h16 x hx => br_f (sp_lt0 hx) ?_))))
    · rw [ec] at hl
      refine sp_x50 R hq h16 hb ?_
      intro ck' wd' us' ba' lk' la' ho' sm' R2
      refine sp_ypr hp hv rfl hb (fun z => absurd (hs.1 z) (by omega)) (fun _ => ⟨?_, R2⟩)
      rw [(hS.2.1 h16).1 hl]; decide
    · rw [ec] at hl
      refine sp_x50 R hq h16 hb ?_
      intro ck' wd' us' ba' lk' la' ho' sm' R2
      refine sp_ypr hp hv rfl hb (fun z => absurd (hs.1 z) (by omega)) (fun _ => ⟨?_, R2⟩)
      rw [(hS.2.1 h16).2 (hS.1.elim (fun z => absurd z hl) (fun z => z))]; decide
    · exact sp_ypr hp hv rfl hb (fun _ => ⟨rfl, F, R⟩) (fun z => absurd (hs.2 h16) z)
  · refine sp_xb2 hpg (br_f (fun z => sp_01 z.symm) ?_)
    unfold wpY_protect
    exact sp_yb2 hpg (br_t rfl ⟨rfl, F, R⟩)
theorem i_vc_state {k : Nat} {u : SX} {v : SY} (I : i_Rel k u v) (hk : k + 5 ≤ 2560) (v1 : Int32) (v2 : Int32) : wpX_state (fun r => wpY_state (fun r' => r' = r ∧ i_Rel (k + 5) u v) v v1 v2) u v1 v2 := by
  obtain ⟨ck, wd, us, ba, lk, la, ho, sm, ca⟩ := u
  obtain ⟨st, yw, cm⟩ := v
  have hR : sp_R wd us ba lk la st yw cm := I
  obtain ⟨F, R⟩ := hR
  unfold wpX_state
  by_cases hpg : sp_pg v1 v2
  · obtain ⟨p, v, hp, hv, rfl, rfl⟩ := hpg
    have hq : 16 * p + v < 32 := by omega
    have hs := sp_st0 R hq
    have hS := sp_rS R _ hq
    have ec : (nI (16 * p + v)).toNatClampNeg = 16 * p + v := nI_clamp (by omega)
    have A : ∀ r : Int32, st (16 * p + v) = r → wpY_state (fun r' => r' = r ∧ i_Rel (k + 5) (ck, wd, us, ba, lk, la, ho, sm, ca) (st, yw, cm)) (st, yw, cm) (nI p) (nI v) := by
      intro r hr
      unfold wpY_state
      refine sp_yb1 hp hv (br_f (fun z => sp_01 z.symm) ?_)
      rw [sp_16m, ec]
      exact And.intro (vp_in_nI hq (by omega)) ⟨hr, F, R⟩
    refine sp_xb1 hp hv (br_t rfl ?_)
    rw [sp_m16, ec]
    exact sp_xf R hq (fun h16 => br_t (nI_pos' (by omega)) (And.intro (vp_in_nI hq (by omega)) (br_c (fun hl => A _ ((hS.2.1 h16).1 hl)) (fun hl => A _ ((hS.2.1 h16).2 (hS.1.elim (fun z => absurd z hl) (fun z => z))))))) (fun h16 x hx => br_f (sp_lt0 hx) (A _ (hs.2 h16)))
  · refine sp_xb2 hpg (br_f (fun z => sp_01 z.symm) ?_)
    unfold wpY_state
    exact sp_yb2 hpg (br_t rfl ⟨rfl, F, R⟩)
theorem i_vc_shared {k : Nat} {u : SX} {v : SY} (I : i_Rel k u v) (hk : k + 5 ≤ 2560) (v1 : Int32) : wpX_shared (fun r => wpY_shared (fun r' => r' = r ∧ i_Rel (k + 5) u v) v v1) u v1 := by
  obtain ⟨ck, wd, us, ba, lk, la, ho, sm, ca⟩ := u
  obtain ⟨st, yw, cm⟩ := v
  have hR : sp_R wd us ba lk la st yw cm := I
  obtain ⟨F, R⟩ := hR
  by_cases h0 : v1 < 0
  · exact br_t h0 (br_t h0 ⟨rfl, F, R⟩)
  · by_cases h15 : v1 ≤ 15
    · obtain ⟨v, hv, rfl⟩ := nI_of2 (M := 15) (n := 15) (by decide) h0 h15
      have hn15 : ¬ 15 < nI v := Int32.not_lt.mpr h15
      have ec : (nI v).toNatClampNeg = v := nI_clamp (by omega)
      have hM := sp_rM R v (by omega)
      have A0 : ∀ r : Int32, r = 0 → cm v = 0 → wpY_shared (fun r' => r' = r ∧ i_Rel (k + 5) (ck, wd, us, ba, lk, la, ho, sm, ca) (st, yw, cm)) (st, yw, cm) (nI v) := by
        intro r hr hc
        exact br_f h0 (br_f hn15 (And.intro (vp_in_nI (by omega) (by omega)) (br_t (by rw [ec]; exact hc) ⟨hr.symm, F, R⟩)))
      have A1 : ∀ r : Int32, r = 1 → cm v = 1 → wpY_shared (fun r' => r' = r ∧ i_Rel (k + 5) (ck, wd, us, ba, lk, la, ho, sm, ca) (st, yw, cm)) (st, yw, cm) (nI v) := by
        intro r hr hc
        exact br_f h0 (br_f hn15 (And.intro (vp_in_nI (by omega) (by omega)) (br_f (by rw [ec, hc]; decide) ⟨hr.symm, F, R⟩)))
      refine br_f h0 (br_t h15 ?_)
      rw [sp_16a]
      refine sp_xf R (q := v) (by omega) (fun h16 => sp_xf R (q := 16 + v) (by omega) (fun g16 => br_f (nI_pos (by omega)) (br_c (fun e => ?_) (fun e => ?_))) (fun g16 x hx => br_f (nI_pos (by omega)) (br_f (fun e => ?_) ?_))) (fun h16 x hx => sp_xf R (q := 16 + v) (by omega) (fun g16 => br_t hx ?_) (fun g16 x hx => br_t (by assumption) ?_))
      · have e2 := (nI_eq (by omega) (by omega)).1 e
        exact A1 _ rfl (hM.1 h16 (by rw [Nat.add_comm v 16]; exact e2.symm))
      · exact A0 _ rfl (hM.2 (fun z => e (by rw [Nat.add_comm v 16] at z; rw [z.2])))
      · rw [← e] at hx; exact absurd hx (nI_pos (by omega))
      · exact A0 _ rfl (hM.2 (fun z => by rw [Nat.add_comm v 16] at z; omega))
      · exact A0 _ rfl (hM.2 (fun z => by omega))
      · exact A0 _ rfl (hM.2 (fun z => by omega))
    · exact br_f h0 (br_f h15 (br_f h0 (br_t (Int32.not_le.mp h15) ⟨rfl, F, R⟩)))
theorem i_vc_present {k : Nat} {u : SX} {v : SY} (I : i_Rel k u v) (hk : k + 5 ≤ 2560) (v1 : Int32) : wpX_present (fun r => wpY_present (fun r' => r' = r ∧ i_Rel (k + 5) u v) v v1) u v1 := by
  obtain ⟨ck, wd, us, ba, lk, la, ho, sm, ca⟩ := u
  obtain ⟨st, yw, cm⟩ := v
  have hR : sp_R wd us ba lk la st yw cm := I
  obtain ⟨F, R⟩ := hR
  by_cases h0 : v1 < 0
  · exact br_t h0 (br_t h0 ⟨rfl, F, R⟩)
  · by_cases h1 : v1 ≤ 1
    · obtain ⟨p, hp, rfl⟩ := nI_of2 (M := 1) (n := 1) (by decide) h0 h1
      refine br_f h0 (br_t h1 ?_)
      refine sp_lc (W := wX_present_15 (fun r => wpY_present (fun r' => r' = r ∧ i_Rel (k + 5) (ck, wd, us, ba, lk, la, ho, sm, ca) (st, yw, cm)) (st, yw, cm) (nI p)) (nI p) ck wd us ba lk la ho sm ca) 16 (fun v => decide (¬ st (16 * p + v) = 0)) (fun n => br_t (nI_le (a := 16) (b := 16) (by omega) (by omega)) (sp_yp (by omega) ⟨rfl, F, R⟩)) ?_ ?_
      · intro n i c hi hp1 kk
        have hp2 : ¬ st (16 * p + i) = 0 := of_decide_eq_true hp1
        refine br_f (nI_ge (b := 16) hi (by omega)) ?_
        rw [sp_m16]
        exact sp_xf R (by omega) (fun h16 => br_f (nI_pos (by omega)) (nm_r (nI_1 c) (nm_r (nI_1 i) kk))) (fun h16 => absurd ((sp_st0 R (by omega)).2 h16) hp2)
      · intro n i c hi hp1 kk
        have hp2 : st (16 * p + i) = 0 := Classical.byContradiction (of_decide_eq_false (p := ¬ st (16 * p + i) = 0) hp1)
        have h16 := (sp_st0 R (q := 16 * p + i) (by omega)).1 hp2
        refine br_f (nI_ge (b := 16) hi (by omega)) ?_
        rw [sp_m16]
        exact sp_xf R (by omega) (fun g16 => absurd h16 (by omega)) (fun _ x hx => br_t hx (nm_r (nI_1 i) kk))
    · exact br_f h0 (br_f h1 (br_f h0 (br_f h1 ⟨rfl, F, R⟩)))
theorem i_vc_inUse {k : Nat} {u : SX} {v : SY} (I : i_Rel k u v) (hk : k + 5 ≤ 2560) : wpX_inUse (fun r => wpY_inUse (fun r' => r' = r ∧ i_Rel (k + 5) u v) v) u := by
  obtain ⟨ck, wd, us, ba, lk, la, ho, sm, ca⟩ := u
  obtain ⟨st, yw, cm⟩ := v
  have hR : sp_R wd us ba lk la st yw cm := I
  obtain ⟨F, R⟩ := hR
  unfold wpX_inUse
  exact sp_xn2 R (sp_yu (sp_RV R) ⟨rfl, F, R⟩)
end
section
/-! the owed statements of unmapRange, split, copy, digest -/
section
variable {F : Nat → Nat} {ck : Int32} {wd us ba lk la ho sm ca st yw cm st' yw' cm' : Nat → Int32} {p v q o w e : Nat} {x y b s : Int32}
/-- what split gives, in the reference's own words -/
theorem sp_sfin (R : sp_Rep F wd us ba lk la st' yw' cm') (hp : p < 2) (ho1 : o = 1 - p) (hI : sp_si p o 16 st yw st' yw' cm') :
    sp_Rep F wd us ba lk la (sp_fill st (16 * o) (fun v => st (16 * p + v)) 16) (sp_fill yw (64 * o) (fun k => yw (64 * p + k)) 64) (sp_fill cm 0 (fun v => if st (16 * p + v) = 0 then 0 else 1) 16) := by
  refine sp_cg R (fun j hj => ?_) (fun j hj h16 w hw => ?_) (fun v hv => ?_)
  · by_cases e : j / 16 = p
    · rw [sp_fo (by omega)]
      have := hI.1 (j % 16) (by omega)
      rw [show 16 * p + j % 16 = j by omega] at this; exact this.symm
    · rw [sp_fj (by omega) (by omega)]
      have := (hI.2.2.1 (j - 16 * o) (by omega)).1
      rw [show 16 * o + (j - 16 * o) = j by omega] at this; exact this.symm
  · by_cases e : j / 16 = p
    · rw [sp_fo (by omega)]
      have := hI.2.1 (j % 16) (by omega) w hw
      rw [show 16 * p + j % 16 = j by omega] at this; exact this.symm
    · rw [sp_fj (by omega) (by omega)]
      have h5 := hI.2.2.1 (j - 16 * o) (by omega)
      have h6 : ¬ st (16 * p + (j - 16 * o)) = 0 := by
        intro z
        have h7 := h5.1
        rw [show 16 * o + (j - 16 * o) = j by omega, z] at h7
        have := (sp_st0 R hj).1 h7
        omega
      have h8 := h5.2.2 h6 w hw
      rw [show 16 * o + (j - 16 * o) = j by omega] at h8
      rw [h8]
      show yw (64 * p + (4 * j + w - 64 * o)) = _
      rw [show 64 * p + (4 * j + w - 64 * o) = 4 * (16 * p + (j - 16 * o)) + w by omega]
  · have := (hI.2.2.1 v hv).2.1
    rw [this, sp_fj (by omega) (by omega)]
    show (if st (16 * p + (v - 0)) = 0 then (0 : Int32) else 1) = _
    rw [Nat.sub_zero]
theorem sp_yown1 {post : Int32 → SY → Prop} (hp : p < 2) (hv : v < 16) (hq : q = 16 * p + v) (h1 : st q = 1) (hc : cm v = 0) (h : post 0 (st, yw, cm)) : wpY_own post (st, yw, cm) (nI p) (nI v) := by
  have e1 : 16 * nI p + nI v = nI q := by rw [sp_16m, hq]
  have hq32 : q < 32 := by omega
  have ec : (16 * nI p + nI v).toNatClampNeg = q := by rw [e1, nI_clamp (by omega)]
  have ein : vp_in (16 * nI p + nI v) 32 := pk_in q 32 hq32 e1
  have ev : (nI v).toNatClampNeg = v := nI_clamp (by omega)
  exact And.intro ein (br_f (by rw [ec, h1]; decide) (And.intro ein (br_f (by rw [ec, h1]; decide) (And.intro (vp_in_nI hv (by omega)) (br_t (by rw [ev]; exact hc) h)))))
/-- the reference's copy, once the page is its own: e is the page read, q the page written -/
theorem sp_ycl {post : Int32 → SY → Prop} {c : Nat} {rv : Nat → Int32} (hp : p < 2) (hv : v < 16) (hc16 : c < 16) (hq : q = 16 * p + v) (he : e = 16 * p + c) (h1 : st q = 1) (hc : cm v = 0)
    (hrv : ∀ i, i < 4 → sp_rv st (sp_fill yw (4 * q) rv i) e i = rv i) (h : post 0 (st, sp_fill yw (4 * q) rv 4, cm)) :
    ∀ d i, i + d = 4 → wY_copy_26 post (nI p) (nI c) (nI v) (d + 1) 0 (nI i) st (sp_fill yw (4 * q) rv i) cm := by
  refine sp_lp (W := fun n i => wY_copy_26 post (nI p) (nI c) (nI v) n 0 (nI i) st (sp_fill yw (4 * q) rv i) cm) 4 (fun n => br_t (nI_le (a := 4) (b := 4) (by omega) (by omega)) h) ?_
  intro n i hi k
  refine br_f (nI_ge (b := 4) hi (by omega)) (br_t rfl (sp_yread hp hc16 hi he ?_))
  rw [hrv i hi]
  exact sp_yw1 hp hv hi hq (r := 0) (fun post hp => sp_yown1 (by assumption) hv hq h1 hc hp) (fun _ => nm_r (nI_1 i) k) (fun z => absurd rfl z)
end
theorem i_vc_unmapRange {k : Nat} {u : SX} {v : SY} (I : i_Rel k u v) (hk : k + 5 ≤ 2560) (v1 : Int32) (v2 : Int32) (v3 : Int32) : wpX_unmapRange (fun r u' => wpY_unmapRange (fun r' v' => r' = r ∧ i_Rel (k + 5) u' v') v v1 v2 v3) u v1 v2 v3 := by
  obtain ⟨ck, wd, us, ba, lk, la, ho, sm, ca⟩ := u
  obtain ⟨st, yw, cm⟩ := v
  have hR : sp_R wd us ba lk la st yw cm := I
  by_cases hpg : sp_pg v1 v2
  · obtain ⟨p, f, hp, hf, rfl, rfl⟩ := hpg
    by_cases hpg2 : sp_pg (nI p) v3
    · obtain ⟨p2, t, hp2, ht, _, rfl⟩ := hpg2
      obtain ⟨r, st', cm', _, _, hX, hY⟩ := sp_urw (st := st) (yw := yw) (cm := cm) hp hf ht
      refine hX _ _ _ _ _ _ _ _ _ hR _ ?_
      intro ck' wd' us' ba' lk' la' ho' sm' R2
      exact hY _ ⟨rfl, R2⟩
    · unfold wpX_unmapRange
      refine sp_xb1 hp hf (br_t rfl (sp_xb2 hpg2 (br_f (fun z => sp_01 z.symm) ?_)))
      unfold wpY_unmapRange
      exact sp_yb1 hp hf (br_f (fun z => sp_01 z.symm) (sp_yb2 hpg2 (br_t rfl ⟨rfl, hR⟩)))
  · unfold wpX_unmapRange
    refine sp_xb2 hpg (br_f (fun z => sp_01 z.symm) ?_)
    unfold wpY_unmapRange
    exact sp_yb2 hpg (br_t rfl ⟨rfl, hR⟩)
theorem i_vc_split {k : Nat} {u : SX} {v : SY} (I : i_Rel k u v) (hk : k + 5 ≤ 2560) (v1 : Int32) : wpX_split (fun r u' => wpY_split (fun r' v' => r' = r ∧ i_Rel (k + 5) u' v') v v1) u v1 := by
  obtain ⟨ck, wd, us, ba, lk, la, ho, sm, ca⟩ := u
  obtain ⟨st, yw, cm⟩ := v
  have hR : sp_R wd us ba lk la st yw cm := I
  by_cases h0 : v1 < 0
  · exact br_t h0 (br_t h0 ⟨rfl, hR⟩)
  · by_cases h1 : v1 ≤ 1
    · obtain ⟨p, hp, rfl⟩ := nI_of2 (M := 1) (n := 1) (by decide) h0 h1
      have hp2 : p < 2 := by omega
      obtain ⟨r, st1, cm1, f1, f2, hX, _⟩ := sp_urw (p := 1 - p) (f := 0) (t := 15) (st := st) (yw := yw) (cm := cm) (by omega) (by omega) (by omega)
      refine br_f h0 (br_t h1 (nm_r (sp_1s hp2) ?_))
      refine hX _ _ _ _ _ _ _ _ _ hR _ ?_
      rintro ck' wd' us' ba' lk' la' ho' sm' ⟨F, R⟩
      have hob : ∀ v, v < 16 → 16 ≤ F (16 * (1 - p) + v) := fun v hv => (sp_st0 R (by omega)).1 (f2 v (by omega) (by omega))
      refine ⟨5, sp_x26 hp2 rfl hob (fun ba2 la2 R2 hla => ?_) 4 0 ba' la' (by omega) R lt_0⟩
      have hI0 : sp_si p (1 - p) 0 st yw st1 yw cm1 := by
        refine ⟨fun v hv => f1 _ (by omega), fun _ _ _ _ => rfl, lt_0, fun v _ hv => ⟨f2 v (by omega) (by omega), ?_⟩⟩
        have := sp_cm0 R (q := 16 * (1 - p) + v) (by omega) (fun z => by have := hob v hv; omega)
        rw [show (16 * (1 - p) + v) % 16 = v by omega] at this; exact this
      refine ⟨17, sp_x51 hp2 rfl hla (fun F3 us3 ba3 lk3 st3 yw3 cm3 R3 hI3 => ?_) 16 0 F us' ba2 lk' st1 yw cm1 (by omega) R2 hI0⟩
      exact sp_ysp hp2 rfl ⟨rfl, F3, sp_sfin R3 hp2 rfl hI3⟩
    · exact br_f h0 (br_f h1 (br_f h0 (br_f h1 ⟨rfl, hR⟩)))
theorem i_vc_copy {k : Nat} {u : SX} {v : SY} (I : i_Rel k u v) (hk : k + 5 ≤ 2560) (v1 : Int32) (v2 : Int32) (v3 : Int32) : wpX_copy (fun r u' => wpY_copy (fun r' v' => r' = r ∧ i_Rel (k + 5) u' v') v v1 v2 v3) u v1 v2 v3 := by
  obtain ⟨ck, wd, us, ba, lk, la, ho, sm, ca⟩ := u
  obtain ⟨st, yw, cm⟩ := v
  have hR : sp_R wd us ba lk la st yw cm := I
  have hR0 := hR
  obtain ⟨F, R⟩ := hR
  have hV := sp_RV R
  unfold wpX_copy
  by_cases hpg : sp_pg v1 v2
  · obtain ⟨p, c, hp, hc16, rfl, rfl⟩ := hpg
    by_cases hpg2 : sp_pg (nI p) v3
    · obtain ⟨p2, v, hp2, hv, _, rfl⟩ := hpg2
      obtain ⟨r, st', yw', cm', hf, hX, hY⟩ := sp_opn (yw := yw) hp hv rfl hV
      refine sp_xb1 hp hc16 (br_t rfl (sp_xb1 hp hv (br_t rfl ?_)))
      refine sp_l0 (W := fun n i => wX_copy_23 (fun r u' => wpY_copy (fun r' v' => r' = r ∧ i_Rel (k + 5) u' v') (st, yw, cm) (nI p) (nI c) (nI v)) (nI p) (nI c) (nI v) ck n (nI i) wd us ba lk la ho sm (sp_fill ca 0 (sp_rv st yw (16 * p + c)) i)) 4 ?_ ?_
      · intro n
        refine br_t (nI_le (a := 4) (b := 4) (by omega) (by omega)) ?_
        rw [sp_m16]
        refine hX _ _ _ _ _ _ _ _ _ hR0 _ ?_
        intro ck' wd' us' ba' lk' la' ho' sm' hR'
        rcases hf with ⟨hneg, _⟩ | ⟨h0, h1, hc, h3, h4, h5⟩
        · refine br_f (sp_lt0 hneg) ?_
          have hne : ¬ r = 0 := fun e => absurd (by rw [e] at hneg; exact hneg) (by decide : ¬ (0 : Int32) < 0)
          unfold wpY_copy
          refine sp_yb1 hp hc16 (br_f (fun z => sp_01 z.symm) (sp_yb1 hp hv (br_f (fun z => sp_01 z.symm) ⟨2, ?_⟩)))
          refine br_f (by decide) (br_t rfl (sp_yread (w := 0) hp hc16 (by omega) rfl (sp_yw1 (w := 0) hp hv (by omega) rfl hY (fun e => absurd e hne) (fun _ => nm_r (nI_1 0) ?_))))
          exact br_f (nI_ge (a := 0 + 1) (b := 4) (by omega) (by omega)) (br_f hne ⟨rfl, hR'⟩)
        · obtain ⟨F', R'⟩ := hR'
          have hq : 16 * p + v < 32 := by omega
          have hc' : cm' ((16 * p + v) % 16) = 0 := by rw [show (16 * p + v) % 16 = v by omega]; exact hc
          have hrv : ∀ i, i < 4 → sp_rv st' (sp_fill yw' (4 * (16 * p + v)) (sp_rv st yw (16 * p + c)) i) (16 * p + c) i = sp_rv st yw (16 * p + c) i := by
            intro i hi
            by_cases e : c = v
            · subst e
              rw [← h5 i hi]
              unfold sp_rv
              rw [if_neg (by rw [h1]; decide), sp_fo (by omega)]
            · unfold sp_rv
              rw [h3 _ (by omega), sp_fo (by omega), h4 _ (by omega)]
          have hfin : ∀ wd2, wd2 = sp_fill wd' (4 * F' (16 * p + v)) (sp_rv st yw (16 * p + c)) 4 → F' (16 * p + v) < 16 → wpY_copy (fun r' v' => r' = r ∧ i_Rel (k + 5) (ck', wd2, us', ba', lk', la', ho', sm', sp_fill ca 0 (sp_rv st yw (16 * p + c)) 4) v') (st, yw, cm) (nI p) (nI c) (nI v) := by
            intro wd2 e2 h16
            have R2 : sp_Rep F' wd2 us' ba' lk' la' st' (sp_fill yw' (4 * (16 * p + v)) (sp_rv st yw (16 * p + c)) 4) cm' := by
              rw [e2]
              exact sp_wr R' hq h16 (sp_alone R' hq h16 hc') (fun j hj => sp_fo hj) (fun j hj => sp_fo hj) (fun w hw => by rw [sp_fi hw, sp_fi hw])
            unfold wpY_copy
            refine sp_yb1 hp hc16 (br_f (fun z => sp_01 z.symm) (sp_yb1 hp hv (br_f (fun z => sp_01 z.symm) ⟨5, ?_⟩)))
            refine br_f (by decide) (br_t rfl (sp_yread (w := 0) hp hc16 (by omega) rfl (sp_yw1 (w := 0) hp hv (by omega) rfl hY (fun _ => nm_r (nI_1 0) ?_) (fun z => absurd h0 z))))
            rw [h0]
            exact sp_ycl hp hv hc16 rfl rfl h1 hc hrv ⟨rfl, F', R2⟩ 3 1 (by omega)
          refine br_t (by rw [h0]; decide) (sp_xf R' hq (fun h16 => ?_) (fun h16 => ?_))
          · refine sp_l0 (W := fun n i => wX_copy_85 (fun r u' => wpY_copy (fun r' v' => r' = r ∧ i_Rel (k + 5) u' v') (st, yw, cm) (nI p) (nI c) (nI v)) (nI (F' (16 * p + v))) ck' n (nI i) (sp_fill wd' (4 * F' (16 * p + v)) (sp_rv st yw (16 * p + c)) i) us' ba' lk' la' ho' sm' (sp_fill ca 0 (sp_rv st yw (16 * p + c)) 4)) 4 ?_ ?_
            · intro n
              refine br_t (nI_le (a := 4) (b := 4) (by omega) (by omega)) ?_
              have := hfin _ rfl h16
              rw [h0] at this; exact this
            · intro n i hi kk
              refine br_f (nI_ge (b := 4) hi (by omega)) (And.intro (vp_in_nI hi (by omega)) (And.intro (pk_in (4 * F' (16 * p + v) + i) 64 (by omega) (sp_m4 _ _)) (nm_r (e' := sp_fill wd' (4 * F' (16 * p + v)) (sp_rv st yw (16 * p + c)) (i + 1)) ?_ (nm_r (nI_1 i) kk))))
              rw [sp_m4, nI_clamp (by omega), nI_clamp (by omega)]
              have e3 : sp_fill ca 0 (sp_rv st yw (16 * p + c)) 4 i = sp_rv st yw (16 * p + c) i := by
                rw [sp_fj (by omega) (by omega), Nat.sub_zero]
              rw [e3]; rfl
          · have := (sp_st0 R' hq).2 h16
            rw [h1] at this; exact absurd this.symm sp_01
      · intro n i hi kk
        refine br_f (nI_ge (b := 4) hi (by omega)) (sp_xread R hp hc16 hi rfl (And.intro (vp_in_nI hi (by omega)) (nm_r (e' := sp_fill ca 0 (sp_rv st yw (16 * p + c)) (i + 1)) ?_ (nm_r (nI_1 i) kk))))
        rw [nI_clamp (by omega)]
        show _ = upd _ (0 + i) _
        rw [Nat.zero_add]
    · refine sp_xb1 hp hc16 (br_t rfl (sp_xb2 hpg2 (br_f (fun z => sp_01 z.symm) ?_)))
      unfold wpY_copy
      exact sp_yb1 hp hc16 (br_f (fun z => sp_01 z.symm) (sp_yb2 hpg2 (br_t rfl ⟨rfl, hR0⟩)))
  · refine sp_xb2 hpg (br_f (fun z => sp_01 z.symm) ?_)
    unfold wpY_copy
    exact sp_yb2 hpg (br_t rfl ⟨rfl, hR0⟩)
section
variable {F : Nat → Nat} {ck : Int32} {wd us ba lk la ho sm ca st yw cm : Nat → Int32} {p v : Nat}
theorem sp_dg1 (R : sp_Rep F wd us ba lk la st yw cm) (hp : p < 2) (hv : v < 16) : ∀ d w (s : Int32), w + d = 4 → ∃ s' : Int32,
    (∀ (post : Int32 → Prop) (J : Int32 → Int32 → Prop), J s' (nI (v + 1)) → wX_digest_24 post J (nI p) (nI v) ck wd us ba lk la ho sm ca (d + 1) s (nI w)) ∧
    (∀ (post : Int32 → Prop) (J : Int32 → Int32 → Prop), J s' (nI (v + 1)) → wY_digest_24 post J (nI p) (nI v) st yw cm (d + 1) s (nI w)) := by
  intro d
  induction d with
  | zero =>
    intro w s hd
    have h4 : (4 : Int32) ≤ nI w := nI_le (a := 4) (by omega) (by omega)
    exact ⟨s, fun post J h => br_t h4 (nm_r (nI_1 v) h), fun post J h => br_t h4 (nm_r (nI_1 v) h)⟩
  | succ d ih =>
    intro w s hd
    have h4 : ¬ (4 : Int32) ≤ nI w := nI_ge (b := 4) (by omega) (by omega)
    obtain ⟨s', hX, hY⟩ := ih (w + 1) (s + sp_rv st yw (16 * p + v) w * (4 * nI v + nI w + 1)) (by omega)
    exact ⟨s', fun post J h => br_f h4 (sp_xread R hp hv (by omega) rfl (nm_e (nm_r (nI_1 w) (hX post J h)))), fun post J h => br_f h4 (sp_yread hp hv (by omega) rfl (nm_e (nm_r (nI_1 w) (hY post J h))))⟩
theorem sp_dg2 (R : sp_Rep F wd us ba lk la st yw cm) (hp : p < 2) : ∀ d v (s : Int32), v + d = 16 → ∃ s' : Int32,
    (∀ post : Int32 → Prop, post s' → wX_digest_15 post (nI p) ck wd us ba lk la ho sm ca (d + 1) s (nI v)) ∧
    (∀ post : Int32 → Prop, post s' → wY_digest_15 post (nI p) st yw cm (d + 1) s (nI v)) := by
  intro d
  induction d with
  | zero =>
    intro v s hd
    have h4 : (16 : Int32) ≤ nI v := nI_le (a := 16) (by omega) (by omega)
    exact ⟨s, fun post h => br_t h4 h, fun post h => br_t h4 h⟩
  | succ d ih =>
    intro v s hd
    have h4 : ¬ (16 : Int32) ≤ nI v := nI_ge (b := 16) (by omega) (by omega)
    obtain ⟨s1, aX, aY⟩ := sp_dg1 (ck := ck) (ho := ho) (sm := sm) (ca := ca) R hp (v := v) (by omega) 4 0 s (by omega)
    obtain ⟨s', hX, hY⟩ := ih (v + 1) s1 (by omega)
    exact ⟨s', fun post h => br_f h4 ⟨5, aX post _ (hX post h)⟩, fun post h => br_f h4 ⟨5, aY post _ (hY post h)⟩⟩
end
theorem i_vc_digest {k : Nat} {u : SX} {v : SY} (I : i_Rel k u v) (hk : k + 5 ≤ 2560) (v1 : Int32) : wpX_digest (fun r => wpY_digest (fun r' => r' = r ∧ i_Rel (k + 5) u v) v v1) u v1 := by
  obtain ⟨ck, wd, us, ba, lk, la, ho, sm, ca⟩ := u
  obtain ⟨st, yw, cm⟩ := v
  have hR : sp_R wd us ba lk la st yw cm := I
  have hR0 := hR
  obtain ⟨F, R⟩ := hR
  by_cases h0 : v1 < 0
  · exact br_t h0 (br_t h0 ⟨rfl, hR0⟩)
  · by_cases h1 : v1 ≤ 1
    · obtain ⟨p, hp, rfl⟩ := nI_of2 (M := 1) (n := 1) (by decide) h0 h1
      obtain ⟨s', hX, hY⟩ := sp_dg2 (ck := ck) (ho := ho) (sm := sm) (ca := ca) R (p := p) (by omega) 16 0 0 (by omega)
      exact br_f h0 (br_t h1 ⟨17, hX _ (br_f h0 (br_t h1 ⟨17, hY _ ⟨rfl, hR0⟩⟩))⟩)
    · exact br_f h0 (br_f h1 (br_f h0 (br_f h1 ⟨rfl, hR0⟩)))
end
