section
/-! pasted rows: PURE-ROWS (pk_), BITS (bt family) -/
theorem pk_us {f : Nat → Int32} {k : Nat} {x : Int32} : upd f k x k = x := if_pos rfl
theorem pk_un {f : Nat → Int32} {k j : Nat} {x : Int32} (h : j ≠ k) : upd f k x j = f j := if_neg h
theorem pk_sub {a b : Nat} (h : b ≤ a) : nI a - nI b = nI (a - b) := by
  obtain ⟨c, rfl⟩ : ∃ c, a = c + b := ⟨a - b, by omega⟩
  rw [← nI_add, Int32.add_sub_cancel, Nat.add_sub_cancel]
theorem pk_m1 (n : Nat) : nI (n + 1) + (-1) = nI n := by
  rw [← nI_1, Int32.add_assoc, show (1 : Int32) + (-1) = 0 from rfl, Int32.add_zero]
theorem pk_mul (a b : Nat) : nI a * nI b = nI (a * b) := (Int32.ofNat_mul a b).symm
theorem pk_ix (x : Int32) {n : Nat} (hn : n < 2 ^ 31) : x < 0 ∨ nI n ≤ x ∨ ∃ j : Nat, j < n ∧ x = nI j := by
  by_cases h : x < 0
  · exact Or.inl h
  · obtain ⟨j, hj, rfl⟩ := nI_of h
    by_cases h2 : j < n
    · exact Or.inr (Or.inr ⟨j, h2, rfl⟩)
    · exact Or.inr (Or.inl (nI_le (by omega) hj))
theorem pk_le {x y : Int32} {A B : Prop} (a b : Nat) (f : a ≤ b → A) (g : b < a → B) (hx : x = nI a := by rfl) (hy : y = nI b := by rfl) (ha : a < 2 ^ 31 := by omega) (hb : b < 2 ^ 31 := by omega) : (x ≤ y → A) ∧ (¬ x ≤ y → B) := by
  subst hx hy
  rw [nI_leI ha hb]
  exact ⟨f, fun z => g (by omega)⟩
theorem pk_lt {x y : Int32} {A B : Prop} (a b : Nat) (f : a < b → A) (g : b ≤ a → B) (hx : x = nI a := by rfl) (hy : y = nI b := by rfl) (ha : a < 2 ^ 31 := by omega) (hb : b < 2 ^ 31 := by omega) : (x < y → A) ∧ (¬ x < y → B) := by
  subst hx hy
  rw [nI_ltI ha hb]
  exact ⟨f, fun z => g (by omega)⟩
theorem pk_eq {x y : Int32} {A B : Prop} (a b : Nat) (f : a = b → A) (g : a ≠ b → B) (hx : x = nI a := by rfl) (hy : y = nI b := by rfl) (ha : a < 2 ^ 31 := by omega) (hb : b < 2 ^ 31 := by omega) : (x = y → A) ∧ (¬ x = y → B) := by
  subst hx hy
  rw [nI_eq ha hb]
  exact ⟨f, g⟩
theorem pk_in {x : Int32} (n N : Nat) (h : n < N) (hx : x = nI n := by rfl) (hN : N < 2 ^ 31 := by omega) : vp_in x N := by
  subst hx
  exact vp_in_nI h hN
theorem pk_cl {x : Int32} (n : Nat) (hx : x = nI n := by rfl) (h : n < 2 ^ 31 := by omega) : x.toNatClampNeg = n := by
  subst hx
  exact nI_clamp h
theorem pk_shr (a s : Int32) (k : Nat) (hs : (s.toBitVec.smod 32).toNat = k) : (a >>> s).toInt = a.toInt >>> k := by
  show (a.toBitVec.sshiftRight (s.toBitVec.smod 32).toNat).toInt = _
  rw [hs, BitVec.toInt_sshiftRight]
  rfl
theorem pk_shrN {n : Nat} (h : n < 2 ^ 31) (s : Int32) (k : Nat) (hs : (s.toBitVec.smod 32).toNat = k) : nI n >>> s = nI (n / 2 ^ k) := by
  apply Int32.toInt_inj.mp
  have h2 : n / 2 ^ k ≤ n := Nat.div_le_self _ _
  rw [pk_shr _ _ k hs, nI_toInt h, nI_toInt (by omega), Int.shiftRight_eq_div_pow]
  rfl
def bt (x : Int32) (i : Nat) : Bool := x.toBitVec.getLsbD i
theorem b_ext {x y : Int32} (h : ∀ i, i < 32 → bt x i = bt y i) : x = y := Int32.toBitVec_inj.mp (BitVec.eq_of_getLsbD_eq (fun i hi => h i hi))
theorem b_or (x y : Int32) (i : Nat) : bt (x ||| y) i = (bt x i || bt y i) := by unfold bt; rw [Int32.toBitVec_or, BitVec.getLsbD_or]
theorem b_and (x y : Int32) (i : Nat) : bt (x &&& y) i = (bt x i && bt y i) := by unfold bt; rw [Int32.toBitVec_and, BitVec.getLsbD_and]
theorem b_xor (x y : Int32) (i : Nat) : bt (x ^^^ y) i = (bt x i ^^ bt y i) := by unfold bt; rw [Int32.toBitVec_xor, BitVec.getLsbD_xor]
theorem b_big {x : Int32} {i : Nat} (h : 32 ≤ i) : bt x i = false := BitVec.getLsbD_of_ge _ _ h
theorem b_m1 : ∀ i, i < 32 → bt (-1) i = true := by decide +kernel
theorem b_0 (i : Nat) : bt 0 i = false := BitVec.getLsbD_zero
theorem s_l : ∀ n, n < 32 → ((nI n &&& 31).toBitVec.smod 32).toNat = n := by decide +kernel
theorem b_shl (n : Nat) (hn : n < 32) (x : Int32) {i : Nat} (hi : i < 32) : bt (x <<< (nI n &&& 31)) i = (decide (n ≤ i) && bt x (i - n)) := by
  unfold bt
  rw [Int32.toBitVec_shiftLeft]
  show (x.toBitVec <<< ((nI n &&& 31).toBitVec.smod 32).toNat).getLsbD i = _
  rw [s_l n hn, BitVec.getLsbD_shiftLeft]
  rcases Nat.lt_or_ge i n with h | h
  · simp [h, Nat.not_le.mpr h]
  · simp [hi, h, Nat.not_lt.mpr h]
theorem b_sshr (n : Nat) (hn : n < 32) (x : Int32) {i : Nat} (hi : i < 32) : bt (x >>> (nI n &&& 31)) i = if n + i < 32 then bt x (n + i) else bt x 31 := by
  unfold bt
  rw [Int32.toBitVec_shiftRight]
  show (x.toBitVec.sshiftRight ((nI n &&& 31).toBitVec.smod 32).toNat).getLsbD i = _
  rw [s_l n hn, BitVec.getLsbD_sshiftRight, BitVec.msb_eq_getLsbD_last]
  simp [hi]
/-! own: numbers -/
theorem sw_8z (f : Nat) : 8 * nI f = nI (8 * f) := pk_mul 8 f
theorem sw_8 (f b : Nat) : 8 * nI f + nI b = nI (8 * f + b) := by rw [sw_8z, nI_add]
theorem sw_8y (f b : Nat) : nI f * 8 + nI b = nI (8 * f + b) := by
  rw [show nI f * (8 : Int32) = nI (f * 8) from pk_mul f 8, nI_add, Nat.mul_comm]
theorem sw_6z (k : Nat) : nI k * 6 = nI (6 * k) := (pk_mul k 6).trans (congrArg nI (Nat.mul_comm k 6))
theorem sw_6 (k i : Nat) : 6 * nI k + nI i = nI (6 * k + i) := by
  rw [show (6 : Int32) * nI k = nI (6 * k) from pk_mul 6 k, nI_add]
theorem sw_6y (k i : Nat) : nI k * 6 + nI i = nI (6 * k + i) := by rw [sw_6z, nI_add]
theorem sw_m2 (j : Nat) : nI (j + 2) - 2 = nI j := pk_sub (a := j + 2) (b := 2) (by omega)
theorem sw_4 (l j : Nat) : 4 * nI l + nI (j + 2) - 2 = nI (4 * l + j) := by
  rw [show (4 : Int32) * nI l = nI (4 * l) from pk_mul 4 l, nI_add, ← Nat.add_assoc]
  exact sw_m2 _
theorem sw_1p (n : Nat) : 1 + nI n = nI (1 + n) := nI_add 1 n
theorem sw_b0 : vp_nar .boolean 0 = 0 := by decide
theorem sw_b1 : vp_nar .boolean 1 = 1 := by decide
theorem sw_10 : ¬ (1 : Int32) = 0 := by decide
theorem sw_eqN {a b : Nat} (ha : a < 2 ^ 31) (hb : b < 2 ^ 31) (h : nI a = nI b) : a = b := (nI_eq ha hb).mp h
/-! own: bits -/
theorem sw_1b : ∀ j, j < 32 → bt 1 j = decide (j = 0) := by decide +kernel
theorem sw_bitv (x : Int32) {i : Nat} (hi : i < 32) : ((x >>> (nI i &&& 31)) &&& 1) = cond (bt x i) 1 0 := by
  apply b_ext
  intro j hj
  rw [b_and, sw_1b j hj, b_sshr i hi x hj]
  by_cases h : j = 0
  · subst h
    rw [Nat.add_zero, if_pos hi]
    cases bt x i
    · exact (b_0 0).symm
    · exact (sw_1b 0 (by omega)).symm
  · rw [decide_eq_false h, Bool.and_false]
    cases bt x i
    · exact (b_0 j).symm
    · show false = bt 1 j
      rw [sw_1b j hj, decide_eq_false h]
theorem sw_bit0 (x : Int32) {i : Nat} (hi : i < 32) : ((x >>> (nI i &&& 31)) &&& 1) = 0 ↔ ¬ bt x i = true := by
  rw [sw_bitv x hi]
  cases bt x i <;> decide
theorem sw_bit1 (x : Int32) {i : Nat} (hi : i < 32) : ((x >>> (nI i &&& 31)) &&& 1) = 1 ↔ bt x i = true := by
  rw [sw_bitv x hi]
  cases bt x i <;> decide
theorem sw_sb {t : Nat} (ht : t < 32) (c : Nat) : bt ((1 : Int32) <<< (nI t &&& 31)) c = true ↔ c = t := by
  rcases Nat.lt_or_ge c 32 with hc | hc
  · rw [b_shl t ht 1 hc, sw_1b (c - t) (by omega), ← Bool.decide_and, decide_eq_true_eq]
    omega
  · rw [b_big hc]
    exact ⟨fun h => (by cases h), fun h => by omega⟩
theorem sw_orB (x y : Int32) (c : Nat) : bt (x ||| y) c = true ↔ bt x c = true ∨ bt y c = true := by
  rw [b_or, Bool.or_eq_true]
theorem sw_andB (x y : Int32) (c : Nat) : bt (x &&& y) c = true ↔ bt x c = true ∧ bt y c = true := by
  rw [b_and, Bool.and_eq_true]
theorem sw_notB (x y : Int32) (c : Nat) : bt (x &&& (y ^^^ (-1))) c = true ↔ bt x c = true ∧ ¬ bt y c = true := by
  rcases Nat.lt_or_ge c 32 with hc | hc
  · rw [b_and, b_xor, b_m1 c hc]
    cases bt x c <;> cases bt y c <;> decide
  · rw [b_big hc, b_big hc]
    exact ⟨fun h => (by cases h), fun h => (by cases h.1)⟩
theorem sw_0B (c : Nat) : bt 0 c = true ↔ False := by
  rw [b_0]
  exact ⟨fun h => (by cases h), fun h => h.elim⟩
theorem sw_ext {x y : Int32} (h : ∀ c, bt x c = true ↔ bt y c = true) : x = y := by
  apply b_ext
  intro i _
  exact Bool.eq_iff_iff.mpr (h i)
def sw_m (r : Nat) : Int32 := if r < 2 then 0 else (1 : Int32) <<< (nI (r - 2) &&& 31)
theorem sw_mB {r : Nat} (hr : r < 34) (j : Nat) : bt (sw_m r) j = true ↔ r = j + 2 := by
  unfold sw_m
  by_cases h : r < 2
  · rw [if_pos h, sw_0B]
    exact ⟨fun z => z.elim, fun z => by omega⟩
  · rw [if_neg h, sw_sb (by omega)]
    omega
theorem sw_mz (x : Int32) {j : Nat} (hj : j < 32) : (x &&& sw_m (j + 2)) = 0 ↔ ¬ bt x j = true := by
  constructor
  · intro h hb
    have h1 : bt (x &&& sw_m (j + 2)) j = true := (sw_andB _ _ _).mpr ⟨hb, (sw_mB (by omega) j).mpr rfl⟩
    rw [h, b_0] at h1
    cases h1
  · intro h
    apply sw_ext
    intro c
    rw [sw_andB, sw_mB (by omega), sw_0B]
    constructor
    · intro ⟨h1, h2⟩
      have e : c = j := by omega
      subst e
      exact h h1
    · exact fun z => z.elim
/-! own: choices and sums -/
noncomputable def sw_i (P : Prop) (a b : Int32) : Int32 := @ite Int32 P (Classical.propDecidable P) a b
theorem sw_it {P : Prop} {a b : Int32} (h : P) : sw_i P a b = a := by unfold sw_i; rw [if_pos h]
theorem sw_if {P : Prop} {a b : Int32} (h : ¬ P) : sw_i P a b = b := by unfold sw_i; rw [if_neg h]
theorem sw_ic {P Q : Prop} {a b : Int32} (h : P ↔ Q) : sw_i P a b = sw_i Q a b := by
  rcases Classical.em P with hp | hp
  · rw [sw_it hp, sw_it (h.mp hp)]
  · rw [sw_if hp, sw_if (fun q => hp (h.mpr q))]
noncomputable def sw_sm (P : Nat → Prop) : Nat → Int32
  | 0 => 0
  | n + 1 => sw_sm P n + sw_i (P n) 1 0
theorem sw_sm_congr {P Q : Nat → Prop} : ∀ {n : Nat}, (∀ j, j < n → (P j ↔ Q j)) → sw_sm P n = sw_sm Q n
  | 0, _ => rfl
  | n + 1, h => by
    have a := sw_sm_congr (P := P) (Q := Q) (n := n) (fun j hj => h j (by omega))
    simp only [sw_sm]
    rw [a, sw_ic (h n (by omega))]
theorem sw_sm_end {P : Nat → Prop} {n : Nat} : ∀ {m : Nat}, (∀ j, n ≤ j → ¬ P j) → sw_sm P (n + m) = sw_sm P n
  | 0, _ => rfl
  | m + 1, h => by
    have a := sw_sm_end (P := P) (n := n) (m := m) h
    rw [← Nat.add_assoc]
    simp only [sw_sm]
    rw [a, sw_if (h (n + m) (by omega)), Int32.add_zero]
theorem sw_sm_mv (A B : Nat → Prop) : ∀ n : Nat, sw_sm B n + sw_sm (fun j => A j ∧ ¬ B j) n = sw_sm A n + sw_sm (fun j => B j ∧ ¬ A j) n
  | 0 => rfl
  | n + 1 => by
    have a := sw_sm_mv A B n
    simp only [sw_sm]
    rcases Classical.em (A n) with hA | hA <;> rcases Classical.em (B n) with hB | hB
    · rw [sw_it hA, sw_it hB, sw_if (fun z => z.2 hB), sw_if (fun z => z.2 hA)]; grind
    · rw [sw_it hA, sw_if hB, sw_it ⟨hA, hB⟩, sw_if (fun z => hB z.1)]; grind
    · rw [sw_if hA, sw_it hB, sw_if (fun z => hA z.1), sw_it ⟨hB, hA⟩]; grind
    · rw [sw_if hA, sw_if hB, sw_if (fun z => hA z.1), sw_if (fun z => hB z.1)]; grind
def sw_cn (x : Int32) : Nat → Nat
  | 0 => 0
  | n + 1 => sw_cn x n + (bt x n).toNat
theorem sw_cn_le (x : Int32) : ∀ n, sw_cn x n ≤ n
  | 0 => Nat.le_refl _
  | n + 1 => by
    have a := sw_cn_le x n
    have b : (bt x n).toNat ≤ 1 := by cases bt x n <;> decide
    simp only [sw_cn]
    omega
theorem sw_cn_mono {x y : Int32} (h : ∀ c, bt x c = true → bt y c = true) : ∀ n, sw_cn x n ≤ sw_cn y n
  | 0 => Nat.le_refl _
  | n + 1 => by
    have a := sw_cn_mono h n
    have b : (bt x n).toNat ≤ (bt y n).toNat := by
      cases hx : bt x n
      · exact Nat.zero_le _
      · rw [h n hx]
        exact Nat.le_refl _
    simp only [sw_cn]
    omega
theorem sw_cn_lt {x y : Int32} (h : ∀ c, bt x c = true → bt y c = true) {b : Nat} (hx : ¬ bt x b = true) (hy : bt y b = true) : ∀ n, b < n → sw_cn x n < sw_cn y n
  | 0, hb => by omega
  | n + 1, hb => by
    simp only [sw_cn]
    rcases Nat.lt_or_ge b n with z | z
    · have a := sw_cn_lt h hx hy n z
      have b : (bt x n).toNat ≤ (bt y n).toNat := by
        cases hx : bt x n
        · exact Nat.zero_le _
        · rw [h n hx]
          exact Nat.le_refl _
      omega
    · have e : b = n := by omega
      subst e
      have a := sw_cn_mono h b
      have hx' : bt x b = false := by
        cases hh : bt x b
        · rfl
        · exact absurd hh hx
      rw [hx', hy]
      show sw_cn x b + 0 < sw_cn y b + 1
      omega
end
section
/-! the program's graph: edges, paths, touches, regions -/
def sw_Ed (nb : Nat) (_ops _argA _argB _len br _er fi se : Nat → Int32) (f b c : Nat) : Prop := b < nb ∧ c < nb ∧ ¬ br (8 * f + b) = 0 ∧ (fi (8 * f + b) = nI c ∨ se (8 * f + b) = nI c)
def sw_Pa (nb : Nat) (ops argA argB len br er fi se : Nat → Int32) (f x y : Nat) : Prop := ∀ S : Nat → Prop, S x → (∀ b c, S b → sw_Ed nb ops argA argB len br er fi se f b c → S c) → S y
def sw_T1 (ops argA argB : Nat → Int32) (i r : Nat) : Prop := (¬ ops i = 6 ∧ argA i = nI r) ∨ (¬ ops i < 2 ∧ ¬ 5 < ops i ∧ argB i = nI r)
def sw_To (_nb : Nat) (ops argA argB len br er _fi _se : Nat → Int32) (k r : Nat) : Prop := r < 6 ∧ ((∃ i, i < 6 ∧ i < (len k).toNatClampNeg ∧ sw_T1 ops argA argB (6 * k + i) r) ∨ (¬ br k = 0 ∧ er k = nI r))
def sw_Rg (nb : Nat) (ops argA argB len br er fi se : Nat → Int32) (f b r : Nat) : Prop := (∃ x, x < nb ∧ sw_To nb ops argA argB len br er fi se (8 * f + x) r ∧ sw_Pa nb ops argA argB len br er fi se f 0 x ∧ sw_Pa nb ops argA argB len br er fi se f x b) ∧ (∃ x, x < nb ∧ sw_To nb ops argA argB len br er fi se (8 * f + x) r ∧ sw_Pa nb ops argA argB len br er fi se f b x)
/-- well formed programs -/
def sw_PG (nf nb ns : Nat) (ops argA argB len er fi se : Nat → Int32) : Prop :=
  (∀ k, k < 32 → ∃ j, j ≤ 6 ∧ len k = nI j) ∧ (∀ k, k < 32 → ∃ j, j < nb ∧ fi k = nI j) ∧ (∀ k, k < 32 → ∃ j, j < nb ∧ se k = nI j) ∧ (∀ k, k < 32 → ∃ j, j < 2 + ns ∧ er k = nI j) ∧
  (∀ i, i < 192 → ∃ o a, o ≤ 6 ∧ ops i = nI o ∧ argA i = nI a ∧ (o = 6 → a < nf) ∧ (o ≠ 6 → a < 2 + ns) ∧ (2 ≤ o → o ≤ 5 → ∃ b, b < 2 + ns ∧ argB i = nI b))
def sw_HE (br en : Nat → Int32) : Prop := ∀ k, k < 32 → (br k = 0 ∧ en k = 7) ∨ (¬ br k = 0 ∧ en k = 8)
def sw_HW (raw wr : Nat → Int32) : Prop := ∀ f, f < 4 → (raw f = 0 ∧ ¬ wr f = 0) ∨ (¬ raw f = 0 ∧ wr f = 0)
def sw_SZ (nf nb ns nl cu d : Nat) : Prop := 1 ≤ nf ∧ nf ≤ 4 ∧ 2 ≤ nb ∧ nb ≤ 8 ∧ 1 ≤ ns ∧ ns ≤ 4 ∧ 1 ≤ nl ∧ nl ≤ 8 ∧ cu < 32 ∧ d ≤ nl
/-- the plan of f is right -/
def sw_PF (nb : Nat) (ops argA argB len br er fi se : Nat → Int32) (ns : Nat) (rch rgn ec : Nat → Int32) (f : Nat) : Prop :=
  (∀ b, b < nb → ∀ y, (bt (rch (8 * f + b)) y = true ↔ sw_Pa nb ops argA argB len br er fi se f b y)) ∧ (∀ b, b < nb → ∀ j, (bt (rgn (8 * f + b)) j = true ↔ sw_Rg nb ops argA argB len br er fi se f b (j + 2))) ∧ ec f = sw_sm (fun j => ∃ b, b < nb ∧ sw_To nb ops argA argB len br er fi se (8 * f + b) (j + 2) ∧ sw_Pa nb ops argA argB len br er fi se f 0 b) ns
def sw_PV (nf nb : Nat) (ops argA argB len br er fi se : Nat → Int32) (ns : Nat) (pln rch rgn ec : Nat → Int32) : Prop := ∀ f, f < nf → ¬ pln f = 0 → sw_PF nb ops argA argB len br er fi se ns rch rgn ec f
section PP
variable {nf nb ns : Nat} {ops argA argB len br er fi se : Nat → Int32} {f : Nat}
theorem sw_Pa_r {x : Nat} : sw_Pa nb ops argA argB len br er fi se f x x := fun _ h _ => h
theorem sw_Pa_e {x y : Nat} (h : sw_Ed nb ops argA argB len br er fi se f x y) : sw_Pa nb ops argA argB len br er fi se f x y := fun _ hx hs => hs x y hx h
theorem sw_Pa_t {x y z : Nat} (h1 : sw_Pa nb ops argA argB len br er fi se f x y) (h2 : sw_Pa nb ops argA argB len br er fi se f y z) : sw_Pa nb ops argA argB len br er fi se f x z := fun S hx hs => h2 S (h1 S hx hs) hs
theorem sw_Pa_lt {x y : Nat} (hx : x < nb) (h : sw_Pa nb ops argA argB len br er fi se f x y) : y < nb := h (fun z => z < nb) hx (fun _ _ _ e => e.2.1)
theorem sw_Rg_cv {b c y r : Nat} (h : sw_Rg nb ops argA argB len br er fi se f b r) (e : sw_Pa nb ops argA argB len br er fi se f b c) (h2 : sw_Pa nb ops argA argB len br er fi se f c y) (h3 : sw_Rg nb ops argA argB len br er fi se f y r) : sw_Rg nb ops argA argB len br er fi se f c r := by
  obtain ⟨⟨x, hx, t, p0, p1⟩, _⟩ := h
  obtain ⟨_, ⟨z, hz, tz, pz⟩⟩ := h3
  exact ⟨⟨x, hx, t, p0, sw_Pa_t p1 e⟩, ⟨z, hz, tz, sw_Pa_t h2 pz⟩⟩
/-- X's form of a region: both touches are reachable -/
theorem sw_Rg_x {b r : Nat} : sw_Rg nb ops argA argB len br er fi se f b r ↔ (∃ x, x < nb ∧ (sw_To nb ops argA argB len br er fi se (8 * f + x) r ∧ sw_Pa nb ops argA argB len br er fi se f 0 x) ∧ sw_Pa nb ops argA argB len br er fi se f x b) ∧ (∃ x, x < nb ∧ (sw_To nb ops argA argB len br er fi se (8 * f + x) r ∧ sw_Pa nb ops argA argB len br er fi se f 0 x) ∧ sw_Pa nb ops argA argB len br er fi se f b x) := by
  constructor
  · intro ⟨⟨x, hx, t, p0, p1⟩, ⟨z, hz, tz, pz⟩⟩
    exact ⟨⟨x, hx, ⟨t, p0⟩, p1⟩, ⟨z, hz, ⟨tz, sw_Pa_t p0 (sw_Pa_t p1 pz)⟩, pz⟩⟩
  · intro ⟨⟨x, hx, ⟨t, p0⟩, p1⟩, ⟨z, hz, ⟨tz, _⟩, pz⟩⟩
    exact ⟨⟨x, hx, t, p0, p1⟩, ⟨z, hz, tz, pz⟩⟩
theorem sw_To_lt (hP : sw_PG nf nb ns ops argA argB len er fi se) (hns : ns ≤ 4) {k r : Nat} (hk : k < 32) (h : sw_To nb ops argA argB len br er fi se k r) : r < 2 + ns := by
  obtain ⟨hr, h | h⟩ := h
  · obtain ⟨i, hi, _, h⟩ := h
    obtain ⟨o, a, ho, e1, e2, _, h3, h4⟩ := hP.2.2.2.2 (6 * k + i) (by omega)
    rcases h with ⟨h, h'⟩ | ⟨h, h', h''⟩
    · have ho6 : o ≠ 6 := fun z => h (by rw [e1, z]; rfl)
      have e : a = r := sw_eqN (by have := h3 ho6; omega) (by omega) (e2.symm.trans h')
      have := h3 ho6
      omega
    · have o2 : 2 ≤ o := by
        rcases Nat.lt_or_ge o 2 with z | z
        · exact absurd (by rw [e1]; exact nI_lt (b := 2) z (by decide)) h
        · exact z
      have o5 : o ≤ 5 := by
        rcases Nat.lt_or_ge 5 o with z | z
        · exact absurd (by rw [e1]; exact nI_lt (a := 5) z (by omega)) h'
        · exact z
      obtain ⟨b, hb, e⟩ := h4 o2 o5
      have e : b = r := sw_eqN (by omega) (by omega) (e.symm.trans h'')
      omega
  · obtain ⟨j, hj, e⟩ := hP.2.2.2.1 k hk
    have e : j = r := sw_eqN (by omega) (by omega) (e.symm.trans h.2)
    omega
theorem sw_Rg_lt (hP : sw_PG nf nb ns ops argA argB len er fi se) (hns : ns ≤ 4) (hnb : nb ≤ 8) (hf : f < 4) {b r : Nat} (h : sw_Rg nb ops argA argB len br er fi se f b r) : r < 2 + ns := by
  obtain ⟨⟨x, hx, t, _⟩, _⟩ := h
  exact sw_To_lt hP hns (by omega) t
theorem sw_Rg_lt6 {b r : Nat} (h : sw_Rg nb ops argA argB len br er fi se f b r) : r < 6 := by
  obtain ⟨⟨x, hx, t, _⟩, _⟩ := h
  exact t.1
end PP
section CG
variable {nb ns : Nat} {ops argA argB len br er fi se : Nat → Int32} {ops' argA' argB' len' br' er' fi' se' : Nat → Int32} {f : Nat}
/-- two programs agree on function f -/
def sw_Ag (ops argA argB len br er fi se ops' argA' argB' len' br' er' fi' se' : Nat → Int32) (f : Nat) : Prop :=
  (∀ k, k / 8 = f → len' k = len k ∧ br' k = br k ∧ er' k = er k ∧ fi' k = fi k ∧ se' k = se k) ∧ (∀ i, i / 48 = f → ops' i = ops i ∧ argA' i = argA i ∧ argB' i = argB i)
theorem sw_Ag_E (hnb : nb ≤ 8) (h : sw_Ag ops argA argB len br er fi se ops' argA' argB' len' br' er' fi' se' f) (b c : Nat) : sw_Ed nb ops' argA' argB' len' br' er' fi' se' f b c ↔ sw_Ed nb ops argA argB len br er fi se f b c := by
  unfold sw_Ed
  constructor
  · intro ⟨hb, hc, h1, h2⟩
    obtain ⟨_, e1, _, e2, e3⟩ := h.1 (8 * f + b) (by omega)
    rw [e1] at h1
    rw [e2, e3] at h2
    exact ⟨hb, hc, h1, h2⟩
  · intro ⟨hb, hc, h1, h2⟩
    obtain ⟨_, e1, _, e2, e3⟩ := h.1 (8 * f + b) (by omega)
    rw [e1, e2, e3]
    exact ⟨hb, hc, h1, h2⟩
theorem sw_Ag_P (hnb : nb ≤ 8) (h : sw_Ag ops argA argB len br er fi se ops' argA' argB' len' br' er' fi' se' f) (x y : Nat) : sw_Pa nb ops' argA' argB' len' br' er' fi' se' f x y ↔ sw_Pa nb ops argA argB len br er fi se f x y := by
  constructor
  · exact fun p S hx hs => p S hx (fun b c hb he => hs b c hb ((sw_Ag_E hnb h b c).mp he))
  · exact fun p S hx hs => p S hx (fun b c hb he => hs b c hb ((sw_Ag_E hnb h b c).mpr he))
theorem sw_Ag_T (hnb : nb ≤ 8) (h : sw_Ag ops argA argB len br er fi se ops' argA' argB' len' br' er' fi' se' f) {b : Nat} (hb : b < nb) (r : Nat) : sw_To nb ops' argA' argB' len' br' er' fi' se' (8 * f + b) r ↔ sw_To nb ops argA argB len br er fi se (8 * f + b) r := by
  obtain ⟨e0, e1, e2, _, _⟩ := h.1 (8 * f + b) (by omega)
  unfold sw_To sw_T1
  rw [e0, e1, e2]
  constructor
  · intro ⟨hr, z⟩
    refine ⟨hr, z.imp_left ?_⟩
    intro ⟨i, hi, hl, t⟩
    obtain ⟨a0, a1, a2⟩ := h.2 (6 * (8 * f + b) + i) (by omega)
    rw [a0, a1, a2] at t
    exact ⟨i, hi, hl, t⟩
  · intro ⟨hr, z⟩
    refine ⟨hr, z.imp_left ?_⟩
    intro ⟨i, hi, hl, t⟩
    obtain ⟨a0, a1, a2⟩ := h.2 (6 * (8 * f + b) + i) (by omega)
    refine ⟨i, hi, hl, ?_⟩
    rw [a0, a1, a2]
    exact t
theorem sw_Ag_F (hnb : nb ≤ 8) (h : sw_Ag ops argA argB len br er fi se ops' argA' argB' len' br' er' fi' se' f) {rch rgn ec : Nat → Int32} (hp : sw_PF nb ops argA argB len br er fi se ns rch rgn ec f) : sw_PF nb ops' argA' argB' len' br' er' fi' se' ns rch rgn ec f := by
  obtain ⟨h1, h2, h3⟩ := hp
  refine ⟨fun b hb y => (h1 b hb y).trans (sw_Ag_P hnb h b y).symm, fun b hb j => (h2 b hb j).trans ?_, h3.trans (sw_sm_congr ?_)⟩
  · constructor
    · intro ⟨⟨x, hx, t, p0, p1⟩, ⟨z, hz, tz, pz⟩⟩
      exact ⟨⟨x, hx, (sw_Ag_T hnb h hx _).mpr t, (sw_Ag_P hnb h _ _).mpr p0, (sw_Ag_P hnb h _ _).mpr p1⟩, ⟨z, hz, (sw_Ag_T hnb h hz _).mpr tz, (sw_Ag_P hnb h _ _).mpr pz⟩⟩
    · intro ⟨⟨x, hx, t, p0, p1⟩, ⟨z, hz, tz, pz⟩⟩
      exact ⟨⟨x, hx, (sw_Ag_T hnb h hx _).mp t, (sw_Ag_P hnb h _ _).mp p0, (sw_Ag_P hnb h _ _).mp p1⟩, ⟨z, hz, (sw_Ag_T hnb h hz _).mp tz, (sw_Ag_P hnb h _ _).mp pz⟩⟩
  · intro j _
    constructor
    · intro ⟨b, hb, t, p⟩
      exact ⟨b, hb, (sw_Ag_T hnb h hb _).mpr t, (sw_Ag_P hnb h _ _).mpr p⟩
    · intro ⟨b, hb, t, p⟩
      exact ⟨b, hb, (sw_Ag_T hnb h hb _).mp t, (sw_Ag_P hnb h _ _).mp p⟩
end CG
end
section
/-! the machine, over any relation H of holders (level, register) -/
noncomputable def sw_rd (H : Nat → Nat → Prop) (vrs cel : Nat → Int32) : Nat → Nat → Int32
  | 0, r => cel r
  | m + 1, r => sw_i (H m r) (vrs (6 * m + r)) (sw_rd H vrs cel m r)
noncomputable def sw_hc (H : Nat → Nat → Prop) (ns : Nat) : Nat → Int32
  | 0 => 0
  | l + 1 => sw_hc H ns l + sw_sm (fun j => H l (j + 2)) ns
theorem sw_rd_congr {H H' : Nat → Nat → Prop} {vrs vrs' cel cel' : Nat → Int32} {r : Nat} (hc : cel' r = cel r) : ∀ {m : Nat}, (∀ l, l < m → (H' l r ↔ H l r)) → (∀ l, l < m → vrs' (6 * l + r) = vrs (6 * l + r)) → sw_rd H' vrs' cel' m r = sw_rd H vrs cel m r
  | 0, _, _ => hc
  | m + 1, h, hv => by
    have a := sw_rd_congr (H := H) (H' := H') (vrs := vrs) (vrs' := vrs') hc (m := m) (fun l hl => h l (by omega)) (fun l hl => hv l (by omega))
    simp only [sw_rd]
    rw [a, hv m (by omega), sw_ic (h m (by omega))]
theorem sw_rd_skip {H : Nat → Nat → Prop} {vrs cel : Nat → Int32} {r a : Nat} : ∀ {m : Nat}, a ≤ m → (∀ l, a ≤ l → l < m → ¬ H l r) → sw_rd H vrs cel m r = sw_rd H vrs cel a r
  | 0, ha, _ => by
    have e : a = 0 := by omega
    rw [e]
  | m + 1, ha, h => by
    rcases Nat.lt_or_ge m a with z | z
    · have e : a = m + 1 := by omega
      rw [e]
    · have b := sw_rd_skip (H := H) (vrs := vrs) (cel := cel) (r := r) (a := a) (m := m) z (fun l h1 h2 => h l h1 (by omega))
      rw [← b]
      exact sw_if (h m z (by omega))
theorem sw_hc_congr {H H' : Nat → Nat → Prop} {ns : Nat} : ∀ {m : Nat}, (∀ l, l < m → ∀ r, (H' l r ↔ H l r)) → sw_hc H' ns m = sw_hc H ns m
  | 0, _ => rfl
  | m + 1, h => by
    have a := sw_hc_congr (H := H) (H' := H') (ns := ns) (m := m) (fun l hl => h l (by omega))
    simp only [sw_hc]
    rw [a, sw_sm_congr (fun j _ => h m (by omega) (j + 2))]
def sw_M1 (ns d : Nat) (H : Nat → Nat → Prop) (vrs cel slt : Nat → Int32) : Prop := ∀ l, l < d → ∀ j, j < ns → H l (j + 2) → slt (4 * l + j) = sw_rd H vrs cel l (j + 2)
def sw_M2 (d : Nat) (H : Nat → Nat → Prop) (hd : Nat → Int32) : Prop := ∀ l, l < d → ∀ j, (bt (hd l) j = true ↔ H l (j + 2))
def sw_M3 (ns d : Nat) (enx eny : Nat → Int32) : Prop := ∀ l, l < d → ∀ j, j < ns → enx (4 * l + j) = eny (6 * l + (j + 2))
def sw_M4 (ns d : Nat) (H F : Nat → Nat → Prop) (vrs had : Nat → Int32) : Prop := ∀ l, l < d → ∀ j, j < ns → (had (6 * l + (j + 2)) = 0 → vrs (6 * l + (j + 2)) = 0 ∧ ¬ H l (j + 2)) ∧ (¬ had (6 * l + (j + 2)) = 0 → H l (j + 2) ∨ F l (j + 2))
def sw_M5 (ns d : Nat) (H : Nat → Nat → Prop) (vrs cel fil : Nat → Int32) : Prop := ∀ r, r < 2 + ns → fil r = sw_rd H vrs cel d r
def sw_MC (ns d : Nat) (H F : Nat → Nat → Prop) (sv rs : Int32) (fil hd slt enx cel vrs eny had : Nat → Int32) : Prop :=
  sw_M5 ns d H vrs cel fil ∧ sw_M1 ns d H vrs cel slt ∧ sw_M2 d H hd ∧ sw_M3 ns d enx eny ∧ sw_M4 ns d H F vrs had ∧ rs = sv - sw_hc H ns d
/-- the move of the innermost level l: Ho what it held, H what it holds then -/
theorem sw_move {ns l : Nat} {H F : Nat → Nat → Prop} {Ho : Nat → Prop} {sv rs sv' rs' : Int32} {fil hd slt enx cel vrs eny had fil' hd' slt' had' : Nat → Int32} (hns : ns ≤ 4)
    (h1 : sw_M1 ns l H vrs cel slt) (h2 : sw_M2 l H hd) (h3 : sw_M3 ns (l + 1) enx eny) (h4 : sw_M4 ns l H F vrs had)
    (hr : ∀ m r, r < 2 → ¬ H m r) (hF : ∀ r, F l r → ¬ H l r)
    (t5 : ∀ r, r < 2 → fil r = sw_rd H vrs cel l r)
    (t6 : ∀ j, j < ns → fil (j + 2) = sw_i (Ho j) (vrs (6 * l + (j + 2))) (sw_rd H vrs cel l (j + 2)))
    (t7 : ∀ j, j < ns → Ho j → slt (4 * l + j) = sw_rd H vrs cel l (j + 2))
    (t8 : ∀ j, j < ns → had (6 * l + (j + 2)) = 0 → vrs (6 * l + (j + 2)) = 0 ∧ ¬ Ho j)
    (t9 : ∀ j, j < ns → ¬ had (6 * l + (j + 2)) = 0 → (¬ Ho j ∨ ¬ H l (j + 2)) → F l (j + 2))
    (ts : rs = sv - (sw_hc H ns l + sw_sm Ho ns))
    (x1 : ∀ r, r < 2 → fil' r = fil r)
    (x2 : ∀ j, j < ns → fil' (j + 2) = sw_i (H l (j + 2) ∧ ¬ Ho j) 0 (sw_i (Ho j ∧ ¬ H l (j + 2)) (slt (4 * l + j)) (fil (j + 2))))
    (x3 : ∀ j, j < ns → slt' (4 * l + j) = sw_i (H l (j + 2) ∧ ¬ Ho j) (fil (j + 2)) (slt (4 * l + j)))
    (x4 : ∀ k, k < 4 * l → slt' k = slt k)
    (x5 : ∀ j, (bt (hd' l) j = true ↔ H l (j + 2))) (x6 : ∀ m, m < l → hd' m = hd m)
    (x7 : rs' = rs + sw_sm (fun j => Ho j ∧ ¬ H l (j + 2)) ns) (x8 : sv' = sv + sw_sm (fun j => H l (j + 2) ∧ ¬ Ho j) ns)
    (y1 : ∀ j, j < ns → (had' (6 * l + (j + 2)) = 0 ↔ had (6 * l + (j + 2)) = 0 ∧ ¬ H l (j + 2))) (y2 : ∀ k, k < 6 * l → had' k = had k) :
    sw_MC ns (l + 1) H F sv' rs' fil' hd' slt' enx cel vrs eny had' ∧ sv' = sv + sw_sm (fun j => had (6 * l + (j + 2)) = 0 ∧ H l (j + 2)) ns := by
  have k1 : ∀ j, j < ns → H l (j + 2) → ¬ Ho j → had (6 * l + (j + 2)) = 0 := by
    intro j hj a b
    rcases Classical.em (had (6 * l + (j + 2)) = 0) with z | z
    · exact z
    · exact absurd a (hF _ (t9 j hj z (Or.inl b)))
  refine ⟨⟨?_, ?_, ?_, h3, ?_, ?_⟩, ?_⟩
  · intro r hlr
    rcases Nat.lt_or_ge r 2 with z | z
    · rw [x1 r z, t5 r z]
      exact (sw_if (hr l r z)).symm
    · obtain ⟨j, rfl⟩ : ∃ j, r = j + 2 := ⟨r - 2, by omega⟩
      have hj : j < ns := by omega
      show _ = sw_i (H l (j + 2)) _ _
      rw [x2 j hj, t6 j hj]
      rcases Classical.em (H l (j + 2)) with a | a <;> rcases Classical.em (Ho j) with b | b
      · rw [sw_if (fun z => z.2 b), sw_if (fun z => z.2 a), sw_it b, sw_it a]
      · rw [sw_it ⟨a, b⟩, sw_it a, (t8 j hj (k1 j hj a b)).1]
      · rw [sw_if (fun z => a z.1), sw_it ⟨b, a⟩, sw_if a, t7 j hj b]
      · rw [sw_if (fun z => a z.1), sw_if (fun z => b z.1), sw_if b, sw_if a]
  · intro m hm j hj hH
    rcases Nat.lt_or_ge m l with z | z
    · rw [x4 _ (by omega)]
      exact h1 m z j hj hH
    · have e : m = l := by omega
      subst e
      rw [x3 j hj]
      rcases Classical.em (Ho j) with b | b
      · rw [sw_if (fun z => z.2 b), t7 j hj b]
      · rw [sw_it ⟨hH, b⟩, t6 j hj, sw_if b]
  · intro m hm j
    rcases Nat.lt_or_ge m l with z | z
    · rw [x6 m z]
      exact h2 m z j
    · have e : m = l := by omega
      subst e
      exact x5 j
  · intro m hm j hj
    rcases Nat.lt_or_ge m l with z | z
    · rw [y2 _ (by omega)]
      exact h4 m z j hj
    · have e : m = l := by omega
      subst e
      constructor
      · intro hh
        have := (y1 j hj).mp hh
        exact ⟨(t8 j hj this.1).1, this.2⟩
      · intro hh
        rcases Classical.em (H m (j + 2)) with a | a
        · exact Or.inl a
        · refine Or.inr (t9 j hj (fun z => hh ((y1 j hj).mpr ⟨z, a⟩)) (Or.inr a))
  · have k := sw_sm_mv Ho (fun j => H l (j + 2)) ns
    rw [x7, x8, ts]
    simp only [sw_hc]
    generalize sw_hc H ns l = a at *
    generalize sw_sm Ho ns = b at *
    generalize sw_sm (fun j => H l (j + 2)) ns = c at *
    generalize sw_sm (fun j => Ho j ∧ ¬ H l (j + 2)) ns = p at *
    generalize sw_sm (fun j => H l (j + 2) ∧ ¬ Ho j) ns = q at *
    clear x1 x2 x3 x4 x5 x6 x7 x8 y1 y2 t5 t6 t7 t8 t9 ts k1 h1 h2 h3 h4 hr hF
    grind
  · rw [x8]
    refine congrArg (fun z => sv + z) (sw_sm_congr ?_)
    intro j hj
    exact ⟨fun z => ⟨k1 j hj z.1 z.2, z.1⟩, fun z => ⟨z.2, (t8 j hj z.1).2⟩⟩
/-- one level is left (or unwound) -/
theorem sw_pop5 {ns l : Nat} {H : Nat → Nat → Prop} {fil slt cel vrs fil' : Nat → Int32}
    (h5 : sw_M5 ns (l + 1) H vrs cel fil) (hs : ∀ j, j < ns → H l (j + 2) → slt (4 * l + j) = sw_rd H vrs cel l (j + 2)) (hr : ∀ m r, r < 2 → ¬ H m r)
    (x1 : ∀ r, r < 2 → fil' r = fil r) (x2 : ∀ j, j < ns → fil' (j + 2) = sw_i (H l (j + 2)) (slt (4 * l + j)) (fil (j + 2))) : sw_M5 ns l H vrs cel fil' := by
  intro r hlr
  have a := h5 r hlr
  rcases Nat.lt_or_ge r 2 with z | z
  · rw [x1 r z, a]
    exact sw_if (hr l r z)
  · obtain ⟨j, rfl⟩ : ∃ j, r = j + 2 := ⟨r - 2, by omega⟩
    rw [x2 j (by omega)]
    rcases Classical.em (H l (j + 2)) with b | b
    · rw [sw_it b]
      exact hs j (by omega) b
    · rw [sw_if b, a]
      exact sw_if b
theorem sw_popR {ns l : Nat} {H : Nat → Nat → Prop} {sv rs : Int32} (h : rs = sv - sw_hc H ns (l + 1)) : rs + sw_sm (fun j => H l (j + 2)) ns = sv - sw_hc H ns l := by
  rw [h]
  simp only [sw_hc]
  generalize sw_hc H ns l = a
  generalize sw_sm (fun j => H l (j + 2)) ns = b
  clear h
  grind
/-- a write of register a -/
def sw_Wr (d : Nat) (H : Nat → Nat → Prop) (a : Nat) (v : Int32) (vrs cel vrs' cel' : Nat → Int32) : Prop :=
  (∃ t, t < d ∧ H t a ∧ (∀ l, t < l → l < d → ¬ H l a) ∧ vrs' = upd vrs (6 * t + a) v ∧ cel' = cel) ∨ ((∀ l, l < d → ¬ H l a) ∧ vrs' = vrs ∧ cel' = upd cel a v)
theorem sw_write {ns d a : Nat} {H F : Nat → Nat → Prop} {v sv rs : Int32} {fil hd slt enx cel vrs eny had vrs' cel' : Nat → Int32} (hns : ns ≤ 4) (ha : a < 2 + ns)
    (h : sw_MC ns d H F sv rs fil hd slt enx cel vrs eny had) (hw : sw_Wr d H a v vrs cel vrs' cel') : sw_MC ns d H F sv rs (upd fil a v) hd slt enx cel' vrs' eny had := by
  obtain ⟨h5, h1, h2, h3, h4, hR⟩ := h
  rcases hw with ⟨t, ht, hH, hn, rfl, rfl⟩ | ⟨hn, rfl, rfl⟩
  · have ne : ∀ l r, r < 6 → (l ≠ t ∨ r ≠ a) → 6 * l + r ≠ 6 * t + a := by
      intro l r h6 hh
      omega
    have cg : ∀ m r, r < 6 → (m ≤ t ∨ r ≠ a) → sw_rd H (upd vrs (6 * t + a) v) cel' m r = sw_rd H vrs cel' m r := by
      intro m r h6 hh
      refine sw_rd_congr rfl (fun _ _ => Iff.rfl) (fun l hl => pk_un (ne l r h6 ?_))
      rcases hh with z | z
      · exact Or.inl (by omega)
      · exact Or.inr z
    refine ⟨?_, ?_, h2, h3, ?_, hR⟩
    · intro r hr
      by_cases e : r = a
      · subst e
        rw [pk_us, sw_rd_skip (a := t + 1) (by omega) (fun l h1 h2 => hn l (by omega) h2)]
        show _ = sw_i (H t r) _ _
        rw [sw_it hH, pk_us]
      · rw [pk_un e, cg d r (by omega) (Or.inr e)]
        exact h5 r hr
    · intro l hl j hj hh
      rw [cg l (j + 2) (by omega) ?_]
      · exact h1 l hl j hj hh
      · by_cases e : j + 2 = a
        · refine Or.inl ?_
          rcases Nat.lt_or_ge t l with z | z
          · exact absurd (e ▸ hh) (hn l z hl)
          · exact z
        · exact Or.inr e
    · intro l hl j hj
      refine ⟨fun z => ?_, (h4 l hl j hj).2⟩
      have q := (h4 l hl j hj).1 z
      refine ⟨?_, q.2⟩
      rw [pk_un (ne l (j + 2) (by omega) ?_)]
      · exact q.1
      · by_cases e : l = t
        · refine Or.inr (fun e2 => ?_)
          subst e
          exact q.2 (e2 ▸ hH)
        · exact Or.inl e
  · have cg : ∀ m r, r ≠ a → sw_rd H vrs' (upd cel a v) m r = sw_rd H vrs' cel m r := by
      intro m r hh
      exact sw_rd_congr (pk_un hh) (fun _ _ => Iff.rfl) (fun _ _ => rfl)
    refine ⟨?_, ?_, h2, h3, h4, hR⟩
    · intro r hr
      by_cases e : r = a
      · subst e
        rw [pk_us, sw_rd_skip (a := 0) (by omega) (fun l _ h2 => hn l h2)]
        show _ = upd cel r v r
        rw [pk_us]
      · rw [pk_un e, cg d r e]
        exact h5 r hr
    · intro l hl j hj hh
      rw [cg l (j + 2) (fun e => hn l hl (e ▸ hh))]
      exact h1 l hl j hj hh
/-! the holders of the two machines -/
def sw_Ho (nb : Nat) (ops argA argB len br er fi se : Nat → Int32) (raw fn bk : Nat → Int32) (l r : Nat) : Prop := 2 ≤ r ∧ raw (fn l).toNatClampNeg = 0 ∧ sw_Rg nb ops argA argB len br er fi se (fn l).toNatClampNeg (bk l).toNatClampNeg r
def sw_Fu (nb : Nat) (ops argA argB len br er fi se : Nat → Int32) (fn bk : Nat → Int32) (l r : Nat) : Prop := ∀ y, sw_Pa nb ops argA argB len br er fi se (fn l).toNatClampNeg (bk l).toNatClampNeg y → ¬ sw_Rg nb ops argA argB len br er fi se (fn l).toNatClampNeg y r
section HH
variable {nb : Nat} {ops argA argB len br er fi se raw fn bk fn' bk' : Nat → Int32}
theorem sw_Ho_2 : ∀ m r, r < 2 → ¬ sw_Ho nb ops argA argB len br er fi se raw fn bk m r := fun _ _ h z => by have := z.1; omega
theorem sw_Ho_F {l : Nat} : ∀ r, sw_Fu nb ops argA argB len br er fi se fn bk l r → ¬ sw_Ho nb ops argA argB len br er fi se raw fn bk l r := fun _ h z => h _ sw_Pa_r z.2.2
theorem sw_Ho_c {l : Nat} (h1 : fn' l = fn l) (h2 : bk' l = bk l) (r : Nat) : sw_Ho nb ops argA argB len br er fi se raw fn' bk' l r ↔ sw_Ho nb ops argA argB len br er fi se raw fn bk l r := by
  unfold sw_Ho
  rw [h1, h2]
theorem sw_Fu_c {l : Nat} (h1 : fn' l = fn l) (h2 : bk' l = bk l) (r : Nat) : sw_Fu nb ops argA argB len br er fi se fn' bk' l r ↔ sw_Fu nb ops argA argB len br er fi se fn bk l r := by
  unfold sw_Fu
  rw [h1, h2]
end HH
/-- the lower levels' facts under another relation that agrees with H below d -/
theorem sw_low {ns d : Nat} {H H' F F' : Nat → Nat → Prop} {vrs vrs' cel slt hd had had' : Nat → Int32} (hns : ns ≤ 4) (hH : ∀ l, l < d → ∀ r, (H' l r ↔ H l r)) (hF : ∀ l, l < d → ∀ r, (F' l r ↔ F l r))
    (hv : ∀ k, k < 6 * d → vrs' k = vrs k) (hh : ∀ k, k < 6 * d → had' k = had k)
    (h1 : sw_M1 ns d H vrs cel slt) (h2 : sw_M2 d H hd) (h4 : sw_M4 ns d H F vrs had) :
    sw_M1 ns d H' vrs' cel slt ∧ sw_M2 d H' hd ∧ sw_M4 ns d H' F' vrs' had' ∧ (∀ m r, m ≤ d → r < 6 → sw_rd H' vrs' cel m r = sw_rd H vrs cel m r) ∧ sw_hc H' ns d = sw_hc H ns d := by
  have cg : ∀ m r, m ≤ d → r < 6 → sw_rd H' vrs' cel m r = sw_rd H vrs cel m r := by
    intro m r hm hr
    exact sw_rd_congr rfl (fun l hl => hH l (by omega) r) (fun l hl => hv _ (by omega))
  refine ⟨?_, ?_, ?_, cg, sw_hc_congr hH⟩
  · intro l hl j hj hh
    rw [cg l (j + 2) (by omega) (by omega)]
    exact h1 l hl j hj ((hH l hl _).mp hh)
  · intro l hl j
    exact (h2 l hl j).trans (hH l hl _).symm
  · intro l hl j hj
    rw [hv _ (by omega), hh _ (by omega), hH l hl, hF l hl]
    exact h4 l hl j hj
end
section
/-! Y's readers: path, touches, inRegion, holds, read -/
def sw_YC (nf nb : Nat) (ops argA argB len br er fi se : Nat → Int32) (ns : Nat) (en : Nat → Int32) : Prop := sw_PG nf nb ns ops argA argB len er fi se ∧ sw_HE br en ∧ nf ≤ 4 ∧ nb ≤ 8 ∧ ns ≤ 4 ∧ 0 < nb
def sw_Rn (nb : Nat) (ops argA argB len br er fi se : Nat → Int32) (f x : Nat) (m0 m : Int32) (i : Nat) : Prop :=
  (∀ c, bt m0 c = true → bt m c = true) ∧ (∀ c, bt m c = true → sw_Pa nb ops argA argB len br er fi se f x c) ∧ (∀ b, b < i → bt m0 b = true → ∀ c, sw_Ed nb ops argA argB len br er fi se f b c → bt m c = true)
def sw_HF (nf nb : Nat) (fn bk ix : Nat → Int32) : Prop := ∀ l, (∃ g, g < nf ∧ fn l = nI g) ∧ (∃ b, b < nb ∧ bk l = nI b) ∧ (∃ i, i ≤ 6 ∧ ix l = nI i)
section YR
variable {nf nb ns nl cu d : Nat} {st sv es : Int32} {ops argA argB len br en er fi se wr cel fn bk ix vrs eny had raw : Nat → Int32}
theorem sw_rnd {f x t : Nat} {m m' : Int32} (hx : bt m x = true) (hc : (∀ b c, bt m b = true → sw_Ed nb ops argA argB len br er fi se f b c → bt m c = true) ∨ t + 1 ≤ sw_cn m nb) (h : sw_Rn nb ops argA argB len br er fi se f x m m' nb) :
    bt m' x = true ∧ (∀ c, bt m' c = true → sw_Pa nb ops argA argB len br er fi se f x c) ∧ ((∀ b c, bt m' b = true → sw_Ed nb ops argA argB len br er fi se f b c → bt m' c = true) ∨ (t + 1) + 1 ≤ sw_cn m' nb) := by
  obtain ⟨a1, a2, a3⟩ := h
  refine ⟨a1 x hx, a2, ?_⟩
  rcases Classical.em (∀ b c, bt m' b = true → sw_Ed nb ops argA argB len br er fi se f b c → bt m' c = true) with z | z
  · exact Or.inl z
  · have q : ∃ b c, bt m' b = true ∧ sw_Ed nb ops argA argB len br er fi se f b c ∧ ¬ bt m' c = true := by
      apply Classical.byContradiction
      intro hn
      apply z
      intro b c hb he
      apply Classical.byContradiction
      intro hcc
      exact hn ⟨b, c, hb, he, hcc⟩
    obtain ⟨b, c, hb, he, hn⟩ := q
    have hbm : ¬ bt m b = true := fun q => hn (a3 b he.1 q c he)
    rcases hc with hc | hc
    · exact absurd ((a2 b hb) (fun c => bt m c = true) hx hc) hbm
    · have := sw_cn_lt a1 hbm hb nb he.1
      exact Or.inr (by omega)
theorem ya_20 {post : Int32 → Prop} {J : Int32 → Int32 → Prop} {f x y t : Nat} {m0 : Int32} (hf : f < 4) (hC : sw_YC nf nb ops argA argB len br er fi se ns en)
    (hJ : ∀ m, sw_Rn nb ops argA argB len br er fi se f x m0 m nb → J m (nI (t + 1))) :
    ∀ q i m, i + q = nb → sw_Rn nb ops argA argB len br er fi se f x m0 m i → ∀ n, q < n → wY_path_20 post J (nI f) (nI y) (nI t) (nI nf) (nI nb) (nI ns) (nI nl) (nI cu) st (nI d) sv es ops argA argB len en er fi se wr cel fn bk ix vrs eny had n m (nI i) := by
  obtain ⟨hP, hE, hnf, hnb, hns, h0⟩ := hC
  intro q
  induction q with
  | zero =>
    intro i m hi hm n hn
    obtain ⟨n, rfl⟩ : ∃ n', n = n' + 1 := ⟨n - 1, by omega⟩
    have e : i = nb := by omega
    rw [e] at hm ⊢
    exact br_t (nI_le (Nat.le_refl _) (by omega)) (nm_r (nI_1 t) (hJ m hm))
  | succ q ih =>
    intro i m hi hm n hn
    obtain ⟨n, rfl⟩ : ∃ n', n = n' + 1 := ⟨n - 1, by omega⟩
    have hi' : i < nb := by omega
    have hin : vp_in (nI (8 * f + i)) 32 := vp_in_nI (by omega) (by omega)
    obtain ⟨t1, ht1, e1⟩ := hP.2.1 (8 * f + i) (by omega)
    obtain ⟨t2, ht2, e2⟩ := hP.2.2.1 (8 * f + i) (by omega)
    obtain ⟨a1, a2, a3⟩ := hm
    refine br_f (nI_ge hi' (by omega)) ?_
    rw [sw_8y, sw_bit1 m (by omega), nI_clamp (by omega : 8 * f + i < 2 ^ 31), e1, e2]
    have keep : ¬ bt m i = true ∨ br (8 * f + i) = 0 → sw_Rn nb ops argA argB len br er fi se f x m0 m (i + 1) := by
      intro hh
      refine ⟨a1, a2, ?_⟩
      intro b hb h0b c he
      rcases Nat.lt_or_ge b i with z | z
      · exact a3 b z h0b c he
      · have e : b = i := by omega
        subst e
        rcases hh with hh | hh
        · exact absurd (a1 _ h0b) hh
        · exact absurd hh he.2.2.1
    refine br_c (fun hb => ⟨hin, br_c (fun he => ⟨hin, hin, nm_e (nm_r (nI_1 i) (ih (i + 1) _ (by omega) ?_ n (by omega)))⟩) (fun he => nm_r (nI_1 i) (ih (i + 1) m (by omega) (keep (Or.inr ?_)) n (by omega)))⟩) (fun hb => nm_r (nI_1 i) (ih (i + 1) m (by omega) (keep (Or.inl hb)) n (by omega)))
    · have hbr : ¬ br (8 * f + i) = 0 := by
        rcases hE (8 * f + i) (by omega) with z | z
        · rw [z.2] at he
          exact absurd he (by decide)
        · exact z.1
      have k : ∀ c, bt ((m ||| ((1 : Int32) <<< (nI t1 &&& 31))) ||| ((1 : Int32) <<< (nI t2 &&& 31))) c = true ↔ (bt m c = true ∨ c = t1) ∨ c = t2 := by
        intro c
        rw [sw_orB, sw_orB, sw_sb (by omega), sw_sb (by omega)]
      refine ⟨fun c hc => (k c).mpr (Or.inl (Or.inl (a1 c hc))), ?_, ?_⟩
      · intro c hc
        rcases (k c).mp hc with (z | z) | z
        · exact a2 c z
        · subst z
          exact sw_Pa_t (a2 i hb) (sw_Pa_e ⟨hi', ht1, hbr, Or.inl e1⟩)
        · subst z
          exact sw_Pa_t (a2 i hb) (sw_Pa_e ⟨hi', ht2, hbr, Or.inr e2⟩)
      · intro b hb' h0b c hed
        refine (k c).mpr ?_
        rcases Nat.lt_or_ge b i with z | z
        · exact Or.inl (Or.inl (a3 b z h0b c hed))
        · have e : b = i := by omega
          subst e
          rcases hed.2.2.2 with z | z
          · exact Or.inl (Or.inr (sw_eqN (by have := hed.2.1; omega) (by omega) (z.symm.trans e1)))
          · exact Or.inr (sw_eqN (by have := hed.2.1; omega) (by omega) (z.symm.trans e2))
    · rcases hE (8 * f + i) (by omega) with z | z
      · exact z.1
      · exact absurd z.2 he
theorem ya_8 {post : Int32 → Prop} {f x y : Nat} (hf : f < 4) (hC : sw_YC nf nb ops argA argB len br er fi se ns en) (hy : y < nb)
    (h1 : sw_Pa nb ops argA argB len br er fi se f x y → post 1) (h0 : ¬ sw_Pa nb ops argA argB len br er fi se f x y → post 0) :
    ∀ q t m, t + q = nb → bt m x = true → (∀ c, bt m c = true → sw_Pa nb ops argA argB len br er fi se f x c) → ((∀ b c, bt m b = true → sw_Ed nb ops argA argB len br er fi se f b c → bt m c = true) ∨ t + 1 ≤ sw_cn m nb) → ∀ n, q < n → wY_path_8 post (nI f) (nI y) (nI nf) (nI nb) (nI ns) (nI nl) (nI cu) st (nI d) sv es ops argA argB len en er fi se wr cel fn bk ix vrs eny had n m (nI t) := by
  have hnb : nb ≤ 8 := hC.2.2.2.1
  intro q
  induction q with
  | zero =>
    intro t m ht hx hs hc n hn
    obtain ⟨n, rfl⟩ : ∃ n', n = n' + 1 := ⟨n - 1, by omega⟩
    have hcl : ∀ b c, bt m b = true → sw_Ed nb ops argA argB len br er fi se f b c → bt m c = true := by
      rcases hc with hc | hc
      · exact hc
      · have := sw_cn_le m nb
        omega
    refine br_t (nI_le (by omega) (by omega)) ?_
    rw [sw_bit1 m (by omega)]
    exact br_c (fun hb => h1 (hs y hb)) (fun hb => h0 (fun p => hb (p (fun c => bt m c = true) hx hcl)))
  | succ q ih =>
    intro t m ht hx hs hc n hn
    obtain ⟨n, rfl⟩ : ∃ n', n = n' + 1 := ⟨n - 1, by omega⟩
    refine br_f (nI_ge (by omega) (by omega)) ⟨nb + 1, ?_⟩
    refine ya_20 (x := x) (m0 := m) hf hC ?_ nb 0 m (by omega) ⟨fun _ h => h, hs, fun b hb => by omega⟩ (nb + 1) (by omega)
    intro m' hm'
    obtain ⟨b1, b2, b3⟩ := sw_rnd hx hc hm'
    exact ih (t + 1) m' (by omega) b1 b2 b3 n (by omega)
theorem ya_path {post : Int32 → Prop} {f x y : Nat} (hf : f < 4) (hC : sw_YC nf nb ops argA argB len br er fi se ns en) (hx : x < nb) (hy : y < nb)
    (h1 : sw_Pa nb ops argA argB len br er fi se f x y → post 1) (h0 : ¬ sw_Pa nb ops argA argB len br er fi se f x y → post 0) : wpY_path post ((nI nf), (nI nb), (nI ns), (nI nl), (nI cu), st, (nI d), sv, es, ops, argA, argB, len, en, er, fi, se, wr, cel, fn, bk, ix, vrs, eny, had) (nI f) (nI x) (nI y) := by
  have hnb : nb ≤ 8 := hC.2.2.2.1
  refine nm_e ⟨nb + 1, ya_8 (x := x) hf hC hy h1 h0 nb 0 _ (by omega) ((sw_sb (by omega) x).mpr rfl) ?_ (Or.inr ?_) (nb + 1) (by omega)⟩
  · intro c hc
    rw [(sw_sb (by omega) c).mp hc]
    exact sw_Pa_r
  · have := sw_cn_lt (x := 0) (y := (1 : Int32) <<< (nI x &&& 31)) (fun c hc => ((sw_0B c).mp hc).elim) (b := x) (fun hc => (sw_0B x).mp hc) ((sw_sb (by omega) x).mpr rfl) nb hx
    omega
/-! touches -/
theorem ya_58 {post : Int32 → Prop} {J : Int32 → Prop} {i r : Nat} {x4 : Int32} (hi : i < 192) (h : ¬ ops i < 2 → ¬ 5 < ops i → argB i = nI r → post 1)
    (hJ : ¬ (¬ ops i < 2 ∧ ¬ 5 < ops i ∧ argB i = nI r) → J (nI (i + 1))) : wY_touches_58 post J (nI r) x4 (nI i) (nI nf) (nI nb) (nI ns) (nI nl) (nI cu) st (nI d) sv es ops argA argB len en er fi se wr cel fn bk ix vrs eny had := by
  have hin : vp_in (nI i) 192 := vp_in_nI hi (by omega)
  unfold wY_touches_58
  rw [nI_clamp (by omega : i < 2 ^ 31)]
  exact ⟨hin, br_c (fun h2 => nm_r (nI_1 i) (hJ (fun z => z.1 h2))) (fun h2 => ⟨hin, br_c (fun h5 => nm_r (nI_1 i) (hJ (fun z => z.2.1 h5))) (fun h5 => ⟨hin, br_c (fun hb => h h2 h5 hb) (fun hb => nm_r (nI_1 i) (hJ (fun z => hb z.2.2)))⟩)⟩)⟩
theorem ya_15 {post : Int32 → Prop} {k r L : Nat} (hk : k < 32) (hL : L ≤ 6) (eL : len k = nI L) (hE : sw_HE br en) :
    ∀ q i, i + q = L → ((∃ i', i ≤ i' ∧ i' < L ∧ sw_T1 ops argA argB (6 * k + i') r) ∨ (¬ br k = 0 ∧ er k = nI r) → post 1) → (¬ ((∃ i', i ≤ i' ∧ i' < L ∧ sw_T1 ops argA argB (6 * k + i') r) ∨ (¬ br k = 0 ∧ er k = nI r)) → post 0) → ∀ n, q < n → wY_touches_15 post (nI r) (nI k) (nI nf) (nI nb) (nI ns) (nI nl) (nI cu) st (nI d) sv es ops argA argB len en er fi se wr cel fn bk ix vrs eny had n (nI (6 * k + i)) := by
  have hin : vp_in (nI k) 32 := vp_in_nI hk (by omega)
  intro q
  induction q with
  | zero =>
    intro i hi h1 h0 n hn
    obtain ⟨n, rfl⟩ : ∃ n', n = n' + 1 := ⟨n - 1, by omega⟩
    refine And.intro hin ?_
    rw [nI_clamp (by omega : k < 2 ^ 31), eL, sw_6y]
    refine br_t (nI_le (by omega) (by omega)) ⟨hin, ?_⟩
    have no : ¬ ∃ i', i ≤ i' ∧ i' < L ∧ sw_T1 ops argA argB (6 * k + i') r := fun ⟨i', a, b, _⟩ => by omega
    rcases hE k hk with z | z
    · exact br_f (by rw [z.2]; decide) (h0 (fun w => w.elim no (fun w => w.1 z.1)))
    · exact br_t z.2 ⟨hin, br_c (fun e => h1 (Or.inr ⟨z.1, e⟩)) (fun e => h0 (fun w => w.elim no (fun w => e w.2)))⟩
  | succ q ih =>
    intro i hi h1 h0 n hn
    obtain ⟨n, rfl⟩ : ∃ n', n = n' + 1 := ⟨n - 1, by omega⟩
    have hin2 : vp_in (nI (6 * k + i)) 192 := vp_in_nI (by omega) (by omega)
    refine And.intro hin ?_
    rw [nI_clamp (by omega : k < 2 ^ 31), eL, sw_6y]
    refine br_f (nI_ge (by omega) (by omega)) ?_
    rw [nI_clamp (by omega : 6 * k + i < 2 ^ 31)]
    have nx : ¬ sw_T1 ops argA argB (6 * k + i) r → wY_touches_15 post (nI r) (nI k) (nI nf) (nI nb) (nI ns) (nI nl) (nI cu) st (nI d) sv es ops argA argB len en er fi se wr cel fn bk ix vrs eny had n (nI (6 * k + i + 1)) := by
      intro hn1
      refine ih (i + 1) (by omega) ?_ ?_ n (by omega)
      · intro w
        refine h1 (w.imp_left ?_)
        intro ⟨i', a, b, c⟩
        exact ⟨i', by omega, b, c⟩
      · intro w
        refine h0 (fun u => w (u.imp_left ?_))
        intro ⟨i', a, b, c⟩
        rcases Nat.lt_or_ge i i' with z | z
        · exact ⟨i', z, b, c⟩
        · have e : i' = i := by omega
          rw [e] at c
          exact absurd c hn1
    have yes : sw_T1 ops argA argB (6 * k + i) r → post 1 := fun t => h1 (Or.inl ⟨i, Nat.le_refl _, by omega, t⟩)
    refine ⟨hin2, br_c (fun h6 => ?_) (fun h6 => ⟨hin2, br_c (fun ha => yes (Or.inl ⟨h6, ha⟩)) (fun ha => ?_)⟩)⟩
    · refine ya_58 (by omega) (fun a b c => yes (Or.inr ⟨a, b, c⟩)) (fun z => nx ?_)
      intro t
      rcases t with t | t
      · exact t.1 h6
      · exact z t
    · refine ya_58 (by omega) (fun a b c => yes (Or.inr ⟨a, b, c⟩)) (fun z => nx ?_)
      intro t
      rcases t with t | t
      · exact ha t.2
      · exact z t
theorem sw_To_L {k r L : Nat} (hr : r < 6) (hL : L ≤ 6) (eL : len k = nI L) : sw_To nb ops argA argB len br er fi se k r ↔ ((∃ i', 0 ≤ i' ∧ i' < L ∧ sw_T1 ops argA argB (6 * k + i') r) ∨ (¬ br k = 0 ∧ er k = nI r)) := by
  unfold sw_To
  rw [eL, nI_clamp (by omega)]
  constructor
  · intro ⟨_, w⟩
    exact w.imp_left (fun ⟨i, _, a, b⟩ => ⟨i, Nat.zero_le _, a, b⟩)
  · intro w
    exact ⟨hr, w.imp_left (fun ⟨i, _, a, b⟩ => ⟨i, by omega, a, b⟩)⟩
theorem ya_touches {post : Int32 → Prop} {f b r : Nat} (hf : f < 4) (hC : sw_YC nf nb ops argA argB len br er fi se ns en) (hb : b < nb) (hr : r < 6)
    (h1 : sw_To nb ops argA argB len br er fi se (8 * f + b) r → post 1) (h0 : ¬ sw_To nb ops argA argB len br er fi se (8 * f + b) r → post 0) : wpY_touches post ((nI nf), (nI nb), (nI ns), (nI nl), (nI cu), st, (nI d), sv, es, ops, argA, argB, len, en, er, fi, se, wr, cel, fn, bk, ix, vrs, eny, had) (nI f) (nI b) (nI r) := by
  obtain ⟨hP, hE, hnf, hnb, hns, _⟩ := hC
  obtain ⟨L, hL, eL⟩ := hP.1 (8 * f + b) (by omega)
  have k := sw_To_L (nb := nb) (ops := ops) (argA := argA) (argB := argB) (br := br) (er := er) (fi := fi) (se := se) hr hL eL
  exact nm_r (sw_8y f b) (nm_r (sw_6z _) ⟨L + 1, ya_15 (by omega) hL eL hE L 0 (by omega) (fun w => h1 (k.mpr w)) (fun w => h0 (fun t => w (k.mp t))) (L + 1) (by omega)⟩)
/-! inRegion -/
theorem ya_54 {post : Int32 → Prop} {J : Int32 → Int32 → Int32 → Prop} {f b x : Nat} {x3 x4 x5 : Int32} (hf : f < 4) (hC : sw_YC nf nb ops argA argB len br er fi se ns en) (hb : b < nb) (hx : x < nb)
    (h1 : sw_Pa nb ops argA argB len br er fi se f b x → J x4 1 (nI (x + 1))) (h0 : ¬ sw_Pa nb ops argA argB len br er fi se f b x → J x4 x5 (nI (x + 1))) : wY_inRegion_54 post J (nI f) (nI b) x3 x4 x5 (nI x) (nI nf) (nI nb) (nI ns) (nI nl) (nI cu) st (nI d) sv es ops argA argB len en er fi se wr cel fn bk ix vrs eny had := by
  unfold wY_inRegion_54
  exact ya_path hf hC hb hx (fun p => br_f sw_10 (nm_r (nI_1 x) (h1 p))) (fun p => br_t rfl (nm_r (nI_1 x) (h0 p)))
theorem ya_9 {post : Int32 → Prop} {f b r : Nat} (hf : f < 4) (hC : sw_YC nf nb ops argA argB len br er fi se ns en) (hb : b < nb) (hr : r < 6)
    (h1 : sw_Rg nb ops argA argB len br er fi se f b r → post 1) (h0 : ¬ sw_Rg nb ops argA argB len br er fi se f b r → post 0) :
    ∀ q i x4 x5, i + q = nb → (¬ x4 = 0 ↔ ∃ x, x < i ∧ sw_To nb ops argA argB len br er fi se (8 * f + x) r ∧ sw_Pa nb ops argA argB len br er fi se f 0 x ∧ sw_Pa nb ops argA argB len br er fi se f x b) → (¬ x5 = 0 ↔ ∃ x, x < i ∧ sw_To nb ops argA argB len br er fi se (8 * f + x) r ∧ sw_Pa nb ops argA argB len br er fi se f b x) → ∀ n, q < n → wY_inRegion_9 post (nI f) (nI b) (nI r) (nI nf) (nI nb) (nI ns) (nI nl) (nI cu) st (nI d) sv es ops argA argB len en er fi se wr cel fn bk ix vrs eny had n x4 x5 (nI i) := by
  have hnb : nb ≤ 8 := hC.2.2.2.1
  have hnb0 : 0 < nb := hC.2.2.2.2.2
  intro q
  induction q with
  | zero =>
    intro i x4 x5 hi k4 k5 n hn
    obtain ⟨n, rfl⟩ : ∃ n', n = n' + 1 := ⟨n - 1, by omega⟩
    have e : i = nb := by omega
    rw [e] at k4 k5
    exact br_t (nI_le (by omega) (by omega)) (br_c (fun z => h0 (fun w => (k4.mpr w.1) z)) (fun z => br_c (fun z' => h0 (fun w => (k5.mpr w.2) z')) (fun z' => h1 ⟨k4.mp z, k5.mp z'⟩)))
  | succ q ih =>
    intro i x4 x5 hi k4 k5 n hn
    obtain ⟨n, rfl⟩ : ∃ n', n = n' + 1 := ⟨n - 1, by omega⟩
    have hi' : i < nb := by omega
    -- one more block does not, or does, count
    have n4 : ¬ (sw_To nb ops argA argB len br er fi se (8 * f + i) r ∧ sw_Pa nb ops argA argB len br er fi se f 0 i ∧ sw_Pa nb ops argA argB len br er fi se f i b) → (¬ x4 = 0 ↔ ∃ x, x < i + 1 ∧ sw_To nb ops argA argB len br er fi se (8 * f + x) r ∧ sw_Pa nb ops argA argB len br er fi se f 0 x ∧ sw_Pa nb ops argA argB len br er fi se f x b) := by
      intro no
      refine k4.trans ⟨fun ⟨x, hx, w⟩ => ⟨x, by omega, w⟩, fun ⟨x, hx, w⟩ => ?_⟩
      rcases Nat.lt_or_ge x i with z | z
      · exact ⟨x, z, w⟩
      · have e : x = i := by omega
        rw [e] at w
        exact absurd w no
    have y4 : (sw_To nb ops argA argB len br er fi se (8 * f + i) r ∧ sw_Pa nb ops argA argB len br er fi se f 0 i ∧ sw_Pa nb ops argA argB len br er fi se f i b) → (¬ (1 : Int32) = 0 ↔ ∃ x, x < i + 1 ∧ sw_To nb ops argA argB len br er fi se (8 * f + x) r ∧ sw_Pa nb ops argA argB len br er fi se f 0 x ∧ sw_Pa nb ops argA argB len br er fi se f x b) :=
      fun w => ⟨fun _ => ⟨i, by omega, w⟩, fun _ => sw_10⟩
    have n5 : ¬ (sw_To nb ops argA argB len br er fi se (8 * f + i) r ∧ sw_Pa nb ops argA argB len br er fi se f b i) → (¬ x5 = 0 ↔ ∃ x, x < i + 1 ∧ sw_To nb ops argA argB len br er fi se (8 * f + x) r ∧ sw_Pa nb ops argA argB len br er fi se f b x) := by
      intro no
      refine k5.trans ⟨fun ⟨x, hx, w⟩ => ⟨x, by omega, w⟩, fun ⟨x, hx, w⟩ => ?_⟩
      rcases Nat.lt_or_ge x i with z | z
      · exact ⟨x, z, w⟩
      · have e : x = i := by omega
        rw [e] at w
        exact absurd w no
    have y5 : (sw_To nb ops argA argB len br er fi se (8 * f + i) r ∧ sw_Pa nb ops argA argB len br er fi se f b i) → (¬ (1 : Int32) = 0 ↔ ∃ x, x < i + 1 ∧ sw_To nb ops argA argB len br er fi se (8 * f + x) r ∧ sw_Pa nb ops argA argB len br er fi se f b x) :=
      fun w => ⟨fun _ => ⟨i, by omega, w⟩, fun _ => sw_10⟩
    refine br_f (nI_ge hi' (by omega)) (ya_touches hf hC hi' hr (fun ht => br_f sw_10 ?_) (fun ht => br_t rfl (nm_r (nI_1 i) (ih (i + 1) _ _ (by omega) (n4 (fun w => ht w.1)) (n5 (fun w => ht w.1)) n (by omega)))))
    refine ya_path hf hC hnb0 hi' (fun p => br_f sw_10 ?_) (fun p => br_t rfl ?_)
    · refine ya_path hf hC hi' hb (fun p2 => br_f sw_10 ?_) (fun p2 => br_t rfl ?_)
      · exact ya_54 hf hC hb hi' (fun p3 => ih (i + 1) _ _ (by omega) (y4 ⟨ht, p, p2⟩) (y5 ⟨ht, p3⟩) n (by omega)) (fun p3 => ih (i + 1) _ _ (by omega) (y4 ⟨ht, p, p2⟩) (n5 (fun w => p3 w.2)) n (by omega))
      · exact ya_54 hf hC hb hi' (fun p3 => ih (i + 1) _ _ (by omega) (n4 (fun w => p2 w.2.2)) (y5 ⟨ht, p3⟩) n (by omega)) (fun p3 => ih (i + 1) _ _ (by omega) (n4 (fun w => p2 w.2.2)) (n5 (fun w => p3 w.2)) n (by omega))
    · exact ya_54 hf hC hb hi' (fun p3 => ih (i + 1) _ _ (by omega) (n4 (fun w => p w.2.1)) (y5 ⟨ht, p3⟩) n (by omega)) (fun p3 => ih (i + 1) _ _ (by omega) (n4 (fun w => p w.2.1)) (n5 (fun w => p3 w.2)) n (by omega))
theorem ya_inRegion {post : Int32 → Prop} {f b r : Nat} (hf : f < 4) (hC : sw_YC nf nb ops argA argB len br er fi se ns en) (hb : b < nb) (hr : r < 6)
    (h1 : sw_Rg nb ops argA argB len br er fi se f b r → post 1) (h0 : ¬ sw_Rg nb ops argA argB len br er fi se f b r → post 0) : wpY_inRegion post ((nI nf), (nI nb), (nI ns), (nI nl), (nI cu), st, (nI d), sv, es, ops, argA, argB, len, en, er, fi, se, wr, cel, fn, bk, ix, vrs, eny, had) (nI f) (nI b) (nI r) :=
  ⟨nb + 1, ya_9 hf hC hb hr h1 h0 nb 0 0 0 (by omega) ⟨fun z => absurd rfl z, fun ⟨x, hx, _⟩ => by omega⟩ ⟨fun z => absurd rfl z, fun ⟨x, hx, _⟩ => by omega⟩ (nb + 1) (by omega)⟩
/-! holds, read -/
theorem ya_holds {post : Int32 → Prop} {l r : Nat} (hC : sw_YC nf nb ops argA argB len br er fi se ns en) (hW : sw_HW raw wr) (hB : sw_HF nf nb fn bk ix) (hl : l < 8) (hr : r < 6)
    (h1 : sw_Ho nb ops argA argB len br er fi se raw fn bk l r → post 1) (h0 : ¬ sw_Ho nb ops argA argB len br er fi se raw fn bk l r → post 0) : wpY_holds post ((nI nf), (nI nb), (nI ns), (nI nl), (nI cu), st, (nI d), sv, es, ops, argA, argB, len, en, er, fi, se, wr, cel, fn, bk, ix, vrs, eny, had) (nI l) (nI r) := by
  obtain ⟨⟨g, hg, eg⟩, ⟨b, hb, eb⟩, _⟩ := hB l
  have hnf : nf ≤ 4 := hC.2.2.1
  have hnb : nb ≤ 8 := hC.2.2.2.1
  have hin : vp_in (nI l) 8 := vp_in_nI hl (by omega)
  have k : sw_Ho nb ops argA argB len br er fi se raw fn bk l r ↔ 2 ≤ r ∧ raw g = 0 ∧ sw_Rg nb ops argA argB len br er fi se g b r := by
    unfold sw_Ho
    rw [eg, eb, nI_clamp (by omega), nI_clamp (by omega)]
  refine br_c (fun z => h0 (fun w => nI_nlt (b := 2) w.1 (by omega) z)) (fun z => ?_)
  have h2 : 2 ≤ r := by
    rcases Nat.lt_or_ge r 2 with w | w
    · exact absurd (nI_lt (b := 2) w (by decide)) z
    · exact w
  rw [nI_clamp (by omega : l < 2 ^ 31), eg, eb, nI_clamp (by omega : g < 2 ^ 31)]
  refine ⟨hin, vp_in_nI (by omega) (by omega), ?_⟩
  rcases hW g (by omega) with w | w
  · exact br_f w.2 ⟨hin, hin, ya_inRegion (by omega) hC hb hr (fun q => br_f sw_10 (h1 (k.mpr ⟨h2, w.1, q⟩))) (fun q => br_t rfl (h0 (fun u => q (k.mp u).2.2)))⟩
  · exact br_t w.2 (h0 (fun u => w.1 (k.mp u).2.1))
theorem ya_read2 {post : Int32 → Prop} {r : Nat} (hC : sw_YC nf nb ops argA argB len br er fi se ns en) (hW : sw_HW raw wr) (hB : sw_HF nf nb fn bk ix) (hr : r < 6) :
    ∀ m n, m ≤ 8 → m < n → post (sw_rd (sw_Ho nb ops argA argB len br er fi se raw fn bk) vrs cel m r) → wY_read_2 post (nI r) (nI nf) (nI nb) (nI ns) (nI nl) (nI cu) st (nI d) sv es ops argA argB len en er fi se wr cel fn bk ix vrs eny had n (nI m - 1) := by
  intro m
  induction m with
  | zero =>
    intro n hm hn hp
    obtain ⟨n, rfl⟩ : ∃ n', n = n' + 1 := ⟨n - 1, by omega⟩
    refine br_t (by decide) ⟨vp_in_nI hr (by omega), ?_⟩
    rw [nI_clamp (by omega)]
    exact hp
  | succ m ih =>
    intro n hm hn hp
    obtain ⟨n, rfl⟩ : ∃ n', n = n' + 1 := ⟨n - 1, by omega⟩
    rw [nI_pred]
    refine br_f (nI_pos (by omega)) (ya_holds hC hW hB (by omega) hr (fun h => br_f sw_10 ?_) (fun h => br_t rfl (nm_r (Int32.sub_eq_add_neg _ _).symm (ih n (by omega) (by omega) ?_))))
    · rw [sw_6y, nI_clamp (by omega)]
      refine ⟨vp_in_nI (by omega) (by omega), ?_⟩
      have e : sw_rd (sw_Ho nb ops argA argB len br er fi se raw fn bk) vrs cel (m + 1) r = vrs (6 * m + r) := sw_it h
      rw [e] at hp
      exact hp
    · have e : sw_rd (sw_Ho nb ops argA argB len br er fi se raw fn bk) vrs cel (m + 1) r = sw_rd (sw_Ho nb ops argA argB len br er fi se raw fn bk) vrs cel m r := sw_if h
      rw [e] at hp
      exact hp
theorem ya_read {post : Int32 → Prop} {m r : Nat} (hC : sw_YC nf nb ops argA argB len br er fi se ns en) (hW : sw_HW raw wr) (hB : sw_HF nf nb fn bk ix) (hm : m ≤ 8) (hr : r < 6)
    (hp : post (sw_rd (sw_Ho nb ops argA argB len br er fi se raw fn bk) vrs cel m r)) : wpY_read post ((nI nf), (nI nb), (nI ns), (nI nl), (nI cu), st, (nI d), sv, es, ops, argA, argB, len, en, er, fi, se, wr, cel, fn, bk, ix, vrs, eny, had) (nI m - 1) (nI r) :=
  ⟨m + 1, ya_read2 hC hW hB hr m (m + 1) hm (by omega) hp⟩
end YR
end
section
/-! X's plan -/
section XP
variable {nf nb ns nl cu d : Nat} {st sv rs es : Int32} {ops argA argB len br er fi se raw pln rch tch rgn ec fil fn bk ix hd slt enx : Nat → Int32}
theorem xa_bit {post : Int32 → Prop} {r : Nat} (hr : r < 6) (h : post (sw_m r)) : wpX_bit post ((nI nf), (nI nb), (nI (2 + ns)), (nI nl), (nI cu), (nI d), st, sv, rs, es, ops, argA, argB, len, br, er, fi, se, raw, pln, rch, tch, rgn, ec, fil, fn, bk, ix, hd, slt, enx) (nI r) := by
  unfold sw_m at h
  by_cases z : r < 2
  · rw [if_pos z] at h
    exact br_f (nI_ge (b := 2) z (by decide)) h
  · rw [if_neg z] at h
    refine br_t (nI_le (a := 2) (by omega) (by omega)) ?_
    rw [show nI r - 2 = nI (r - 2) from pk_sub (b := 2) (by omega)]
    exact h
theorem xa_reach {post : Int32 → Prop} {f b : Nat} (hf : f < 4) (hb : b < 32) (h1 : bt (rch (8 * f + 0)) b = true → post 1) (h0 : ¬ bt (rch (8 * f + 0)) b = true → post 0) : wpX_isReachable post ((nI nf), (nI nb), (nI (2 + ns)), (nI nl), (nI cu), (nI d), st, sv, rs, es, ops, argA, argB, len, br, er, fi, se, raw, pln, rch, tch, rgn, ec, fil, fn, bk, ix, hd, slt, enx) (nI f) (nI b) := by
  refine And.intro (by rw [sw_8z]; exact vp_in_nI (by omega) (by omega)) ?_
  rw [sw_8z, nI_clamp (by omega), sw_bit0 _ hb]
  exact br_c (fun z => h0 z) (fun z => h1 (Classical.not_not.mp z))
/-! findPaths -/
def sw_W (nb f v : Nat) (R0 R : Nat → Int32) (i : Nat) : Prop := (∀ b, b < nb → R (8 * f + b) = if b < i ∧ bt (R0 (8 * f + b)) v = true then R0 (8 * f + b) ||| R0 (8 * f + v) else R0 (8 * f + b)) ∧ (∀ k, k / 8 ≠ f → R k = R0 k)
theorem sw_W_v {f v i : Nat} {R0 R : Nat → Int32} (hv : v < nb) (h : sw_W nb f v R0 R i) : R (8 * f + v) = R0 (8 * f + v) := by
  rw [h.1 v hv]
  by_cases z : v < i ∧ bt (R0 (8 * f + v)) v = true
  · rw [if_pos z, Int32.or_self]
  · rw [if_neg z]
theorem xa_86 {post : SX → Prop} {J : Int32 → (Nat → Int32) → (Nat → Int32) → (Nat → Int32) → (Nat → Int32) → (Nat → Int32) → (Nat → Int32) → (Nat → Int32) → (Nat → Int32) → (Nat → Int32) → (Nat → Int32) → (Nat → Int32) → (Nat → Int32) → (Nat → Int32) → (Nat → Int32) → (Nat → Int32) → (Nat → Int32) → (Nat → Int32) → (Nat → Int32) → (Nat → Int32) → (Nat → Int32) → (Nat → Int32) →  Prop} {f v : Nat} {R0 : Nat → Int32} (hf : f < 4) (hnb : nb ≤ 8) (hv : v < nb)
    (hJ : ∀ R, sw_W nb f v R0 R nb → J (nI (v + 1)) ops argA argB len br er fi se raw pln R tch rgn ec fil fn bk ix hd slt enx) :
    ∀ q i R, i + q = nb → sw_W nb f v R0 R i → ∀ n, q < n → wX_findPaths_86 post J (nI (8 * f)) (nI v) (nI nf) (nI nb) (nI (2 + ns)) (nI nl) (nI cu) (nI d) st sv rs es n (nI i) ops argA argB len br er fi se raw pln R tch rgn ec fil fn bk ix hd slt enx := by
  intro q
  induction q with
  | zero =>
    intro i R hi hm n hn
    obtain ⟨n, rfl⟩ : ∃ n', n = n' + 1 := ⟨n - 1, by omega⟩
    have e : i = nb := by omega
    rw [e] at hm
    exact br_t (nI_le (by omega) (by omega)) (nm_r (nI_1 v) (hJ R hm))
  | succ q ih =>
    intro i R hi hm n hn
    obtain ⟨n, rfl⟩ : ∃ n', n = n' + 1 := ⟨n - 1, by omega⟩
    have hi' : i < nb := by omega
    have hin : vp_in (nI (8 * f + i)) 32 := vp_in_nI (by omega) (by omega)
    have hinv : vp_in (nI (8 * f + v)) 32 := vp_in_nI (by omega) (by omega)
    refine br_f (nI_ge hi' (by omega)) ?_
    rw [nI_add (8 * f) i, nI_add (8 * f) v, nI_clamp (by omega : 8 * f + i < 2 ^ 31), nI_clamp (by omega : 8 * f + v < 2 ^ 31), sw_bit0 _ (by omega : v < 32)]
    have ri : R (8 * f + i) = R0 (8 * f + i) := by
      rw [hm.1 i hi', if_neg (fun z => Nat.lt_irrefl _ z.1)]
    refine ⟨hin, br_c (fun hb => nm_r (nI_1 i) (ih (i + 1) R (by omega) ?_ n (by omega))) (fun hb => ⟨hin, hinv, hin, nm_e (nm_r (nI_1 i) (ih (i + 1) _ (by omega) ?_ n (by omega)))⟩)⟩
    · refine ⟨fun b hb' => ?_, hm.2⟩
      rw [hm.1 b hb']
      by_cases z : b = i
      · subst z
        rw [ri] at hb
        rw [if_neg (fun z => Nat.lt_irrefl _ z.1), if_neg (fun z => hb z.2)]
      · by_cases w : b < i ∧ bt (R0 (8 * f + b)) v = true
        · rw [if_pos w, if_pos ⟨by omega, w.2⟩]
        · rw [if_neg w, if_neg (fun u => w ⟨by omega, u.2⟩)]
    · refine ⟨fun b hb' => ?_, fun k hk => ?_⟩
      · by_cases z : b = i
        · subst z
          rw [ri] at hb
          rw [pk_us, ri, sw_W_v hv hm, if_pos ⟨by omega, Classical.not_not.mp hb⟩]
        · rw [pk_un (by omega), hm.1 b hb']
          by_cases w : b < i ∧ bt (R0 (8 * f + b)) v = true
          · rw [if_pos w, if_pos ⟨by omega, w.2⟩]
          · rw [if_neg w, if_neg (fun u => w ⟨by omega, u.2⟩)]
      · rw [pk_un (by omega)]
        exact hm.2 k hk
def sw_WI (nb : Nat) (ops argA argB len br er fi se : Nat → Int32) (f v : Nat) (R : Nat → Int32) : Prop :=
  (∀ b, b < nb → bt (R (8 * f + b)) b = true) ∧ (∀ b c, sw_Ed nb ops argA argB len br er fi se f b c → bt (R (8 * f + b)) c = true) ∧ (∀ b, b < nb → ∀ y, bt (R (8 * f + b)) y = true → sw_Pa nb ops argA argB len br er fi se f b y) ∧ (∀ b, b < nb → ∀ w, w < v → ∀ y, bt (R (8 * f + b)) w = true → bt (R (8 * f + w)) y = true → bt (R (8 * f + b)) y = true)
theorem sw_WI_s {f v : Nat} {R0 R : Nat → Int32} (hv : v < nb) (h : sw_WI nb ops argA argB len br er fi se f v R0) (hw : sw_W nb f v R0 R nb) : sw_WI nb ops argA argB len br er fi se f (v + 1) R := by
  obtain ⟨h1, h2, h3, h4⟩ := h
  have k : ∀ b, b < nb → ∀ y, (bt (R (8 * f + b)) y = true ↔ bt (R0 (8 * f + b)) y = true ∨ (bt (R0 (8 * f + b)) v = true ∧ bt (R0 (8 * f + v)) y = true)) := by
    intro b hb y
    rw [hw.1 b hb]
    by_cases z : bt (R0 (8 * f + b)) v = true
    · rw [if_pos ⟨hb, z⟩, sw_orB]
      exact ⟨fun w => w.imp_right (fun w => ⟨z, w⟩), fun w => w.imp_right (fun w => w.2)⟩
    · rw [if_neg (fun w => z w.2)]
      exact ⟨Or.inl, fun w => w.elim id (fun w => absurd w.1 z)⟩
  refine ⟨fun b hb => (k b hb b).mpr (Or.inl (h1 b hb)), fun b c e => (k b e.1 c).mpr (Or.inl (h2 b c e)), ?_, ?_⟩
  · intro b hb y hy
    rcases (k b hb y).mp hy with z | ⟨z, w⟩
    · exact h3 b hb y z
    · exact sw_Pa_t (h3 b hb v z) (h3 v hv y w)
  · intro b hb w hw' y hbw hwy
    have hwn : w < nb := by omega
    refine (k b hb y).mpr ?_
    have c1 := (k b hb w).mp hbw
    have c2 := (k w hwn y).mp hwy
    rcases Nat.lt_or_ge w v with z | z
    · rcases c1 with c1 | ⟨c1, c1'⟩
      · rcases c2 with c2 | ⟨c2, c2'⟩
        · exact Or.inl (h4 b hb w z y c1 c2)
        · exact Or.inr ⟨h4 b hb w z v c1 c2, c2'⟩
      · rcases c2 with c2 | ⟨c2, c2'⟩
        · exact Or.inr ⟨c1, h4 v hv w z y c1' c2⟩
        · exact Or.inr ⟨c1, c2'⟩
    · have e : w = v := by omega
      subst e
      rcases c1 with c1 | ⟨c1, c1'⟩
      · rcases c2 with c2 | ⟨c2, c2'⟩
        · exact Or.inr ⟨c1, c2⟩
        · exact Or.inr ⟨c1, c2'⟩
      · rcases c2 with c2 | ⟨c2, c2'⟩
        · exact Or.inr ⟨c1, c2⟩
        · exact Or.inr ⟨c1, c2'⟩
theorem xa_75 {post : SX → Prop} {f : Nat} {rc0 : Nat → Int32} (hf : f < 4) (hnb : nb ≤ 8)
    (h : ∀ R, (∀ k, k / 8 ≠ f → R k = rc0 k) → (∀ b, b < nb → ∀ y, (bt (R (8 * f + b)) y = true ↔ sw_Pa nb ops argA argB len br er fi se f b y)) → post ((nI nf), (nI nb), (nI (2 + ns)), (nI nl), (nI cu), (nI d), st, sv, rs, es, ops, argA, argB, len, br, er, fi, se, raw, pln, R, tch, rgn, ec, fil, fn, bk, ix, hd, slt, enx)) :
    ∀ q v R, v + q = nb → sw_WI nb ops argA argB len br er fi se f v R → (∀ k, k / 8 ≠ f → R k = rc0 k) → ∀ n, q < n → wX_findPaths_75 post (nI (8 * f)) (nI nf) (nI nb) (nI (2 + ns)) (nI nl) (nI cu) (nI d) st sv rs es n (nI v) ops argA argB len br er fi se raw pln R tch rgn ec fil fn bk ix hd slt enx := by
  intro q
  induction q with
  | zero =>
    intro v R hv hm hfr n hn
    obtain ⟨n, rfl⟩ : ∃ n', n = n' + 1 := ⟨n - 1, by omega⟩
    refine br_t (nI_le (by omega) (by omega)) (h R hfr ?_)
    intro b hb y
    refine ⟨hm.2.2.1 b hb y, fun p => p (fun c => bt (R (8 * f + b)) c = true) (hm.1 b hb) ?_⟩
    intro c c' hc he
    exact hm.2.2.2 b hb c (by have := he.1; omega) c' hc (hm.2.1 c c' he)
  | succ q ih =>
    intro v R hv hm hfr n hn
    obtain ⟨n, rfl⟩ : ∃ n', n = n' + 1 := ⟨n - 1, by omega⟩
    refine br_f (nI_ge (by omega) (by omega)) ⟨nb + 1, ?_⟩
    refine xa_86 (R0 := R) hf hnb (by omega) ?_ nb 0 R (by omega) ?_ (nb + 1) (by omega)
    · intro R' hR'
      exact ih (v + 1) R' (by omega) (sw_WI_s (by omega) hm hR') (fun k hk => (hR'.2 k hk).trans (hfr k hk)) n (by omega)
    · exact ⟨fun b _ => (if_neg (fun z => Nat.not_lt_zero _ z.1)).symm, fun _ _ => rfl⟩
theorem xa_57 {post : SX → Prop} {J : Int32 → (Nat → Int32) → (Nat → Int32) → (Nat → Int32) → (Nat → Int32) → (Nat → Int32) → (Nat → Int32) → (Nat → Int32) → (Nat → Int32) → (Nat → Int32) → (Nat → Int32) → (Nat → Int32) → (Nat → Int32) → (Nat → Int32) → (Nat → Int32) → (Nat → Int32) → (Nat → Int32) → (Nat → Int32) → (Nat → Int32) → (Nat → Int32) → (Nat → Int32) → (Nat → Int32) →  Prop} {f i : Nat} {m : Int32} (hi : 8 * f + i < 32) (h : J (nI (i + 1)) ops argA argB len br er fi se raw pln (upd rch (8 * f + i) m) tch rgn ec fil fn bk ix hd slt enx) : wX_findPaths_57 post J (nI (8 * f)) (nI i) m (nI nf) (nI nb) (nI (2 + ns)) (nI nl) (nI cu) (nI d) st sv rs es ops argA argB len br er fi se raw pln rch tch rgn ec fil fn bk ix hd slt enx := by
  unfold wX_findPaths_57
  rw [nI_add (8 * f) i, nI_clamp (by omega : 8 * f + i < 2 ^ 31)]
  exact ⟨vp_in_nI hi (by omega), nm_e (nm_r (nI_1 i) h)⟩
theorem xa_7 {post : SX → Prop} {f : Nat} {rc0 : Nat → Int32} (hf : f < 4) (hnb : nb ≤ 8) (hP : sw_PG nf nb ns ops argA argB len er fi se)
    (h : ∀ R, (∀ k, k / 8 ≠ f → R k = rc0 k) → (∀ b, b < nb → ∀ y, (bt (R (8 * f + b)) y = true ↔ sw_Pa nb ops argA argB len br er fi se f b y)) → post ((nI nf), (nI nb), (nI (2 + ns)), (nI nl), (nI cu), (nI d), st, sv, rs, es, ops, argA, argB, len, br, er, fi, se, raw, pln, R, tch, rgn, ec, fil, fn, bk, ix, hd, slt, enx)) :
    ∀ q i R, i + q = nb → (∀ b, b < i → ∀ y, (bt (R (8 * f + b)) y = true ↔ y = b ∨ sw_Ed nb ops argA argB len br er fi se f b y)) → (∀ k, k / 8 ≠ f → R k = rc0 k) → ∀ n, q < n → wX_findPaths_7 post (nI (8 * f)) (nI nf) (nI nb) (nI (2 + ns)) (nI nl) (nI cu) (nI d) st sv rs es n (nI i) ops argA argB len br er fi se raw pln R tch rgn ec fil fn bk ix hd slt enx := by
  intro q
  induction q with
  | zero =>
    intro i R hi hm hfr n hn
    obtain ⟨n, rfl⟩ : ∃ n', n = n' + 1 := ⟨n - 1, by omega⟩
    have e : i = nb := by omega
    subst e
    refine br_t (nI_le (by omega) (by omega)) ⟨i + 1, xa_75 (rc0 := rc0) hf hnb h i 0 R (by omega) ?_ hfr (i + 1) (by omega)⟩
    refine ⟨fun b hb => (hm b hb b).mpr (Or.inl rfl), fun b c he => (hm b he.1 c).mpr (Or.inr he), fun b hb y hy => ?_, fun b hb w hw => absurd hw (Nat.not_lt_zero _)⟩
    rcases (hm b hb y).mp hy with z | z
    · rw [z]
      exact sw_Pa_r
    · exact sw_Pa_e z
  | succ q ih =>
    intro i R hi hm hfr n hn
    obtain ⟨n, rfl⟩ : ∃ n', n = n' + 1 := ⟨n - 1, by omega⟩
    have hi' : i < nb := by omega
    have hin : vp_in (nI (8 * f + i)) 32 := vp_in_nI (by omega) (by omega)
    obtain ⟨t1, ht1, e1⟩ := hP.2.1 (8 * f + i) (by omega)
    obtain ⟨t2, ht2, e2⟩ := hP.2.2.1 (8 * f + i) (by omega)
    refine br_f (nI_ge hi' (by omega)) (nm_e ?_)
    rw [nI_add (8 * f) i, nI_clamp (by omega : 8 * f + i < 2 ^ 31), e1, e2]
    have nx : ∀ m : Int32, (∀ y, (bt m y = true ↔ y = i ∨ sw_Ed nb ops argA argB len br er fi se f i y)) → wX_findPaths_7 post (nI (8 * f)) (nI nf) (nI nb) (nI (2 + ns)) (nI nl) (nI cu) (nI d) st sv rs es n (nI (i + 1)) ops argA argB len br er fi se raw pln (upd R (8 * f + i) m) tch rgn ec fil fn bk ix hd slt enx := by
      intro m hmm
      refine ih (i + 1) _ (by omega) ?_ ?_ n (by omega)
      · intro b hb y
        by_cases z : b = i
        · subst z
          rw [pk_us]
          exact hmm y
        · rw [pk_un (by omega)]
          exact hm b (by omega) y
      · intro k hk
        rw [pk_un (by omega)]
        exact hfr k hk
    refine ⟨hin, br_c (fun hb => xa_57 (by omega) (nx _ ?_)) (fun hb => ⟨hin, hin, nm_e (xa_57 (by omega) (nx _ ?_))⟩)⟩
    · intro y
      rw [sw_sb (by omega)]
      exact ⟨Or.inl, fun w => w.elim id (fun w => absurd hb w.2.2.1)⟩
    · intro y
      rw [sw_orB, sw_orB, sw_sb (by omega), sw_sb (by omega), sw_sb (by omega)]
      constructor
      · rintro (w | w | w)
        · exact Or.inl w
        · exact Or.inr ⟨hi', by omega, hb, Or.inl (w ▸ e1)⟩
        · exact Or.inr ⟨hi', by omega, hb, Or.inr (w ▸ e2)⟩
      · rintro (w | ⟨_, hy, _, w | w⟩)
        · exact Or.inl w
        · exact Or.inr (Or.inl (sw_eqN (by omega) (by omega) (w.symm.trans e1)))
        · exact Or.inr (Or.inr (sw_eqN (by omega) (by omega) (w.symm.trans e2)))
theorem xa_findPaths {post : SX → Prop} {f : Nat} (hf : f < 4) (hnb : nb ≤ 8) (hP : sw_PG nf nb ns ops argA argB len er fi se)
    (h : ∀ R, (∀ k, k / 8 ≠ f → R k = rch k) → (∀ b, b < nb → ∀ y, (bt (R (8 * f + b)) y = true ↔ sw_Pa nb ops argA argB len br er fi se f b y)) → post ((nI nf), (nI nb), (nI (2 + ns)), (nI nl), (nI cu), (nI d), st, sv, rs, es, ops, argA, argB, len, br, er, fi, se, raw, pln, R, tch, rgn, ec, fil, fn, bk, ix, hd, slt, enx)) : wpX_findPaths post ((nI nf), (nI nb), (nI (2 + ns)), (nI nl), (nI cu), (nI d), st, sv, rs, es, ops, argA, argB, len, br, er, fi, se, raw, pln, rch, tch, rgn, ec, fil, fn, bk, ix, hd, slt, enx) (nI f) :=
  nm_r (sw_8z f) ⟨nb + 1, xa_7 (rc0 := rch) hf hnb hP h nb 0 rch (by omega) (fun _ hb => absurd hb (Nat.not_lt_zero _)) (fun _ _ => rfl) (nb + 1) (by omega)⟩
/-! touchesOf -/
theorem xa_70 {post : Int32 → Prop} {J : Int32 → Int32 → Prop} {x1 x2 : Int32} {i at' : Nat} (ha : at' < 192)
    (h0 : ¬ (¬ ops at' < 2 ∧ ¬ 5 < ops at') → J x2 (nI (i + 1))) (h1 : ¬ ops at' < 2 → ¬ 5 < ops at' → ∃ b, b < 6 ∧ argB at' = nI b ∧ J (x2 ||| sw_m b) (nI (i + 1))) :
    wX_touchesOf_70 post J x1 x2 (nI i) (nI at') (nI nf) (nI nb) (nI (2 + ns)) (nI nl) (nI cu) (nI d) st sv rs es ops argA argB len br er fi se raw pln rch tch rgn ec fil fn bk ix hd slt enx := by
  have hin : vp_in (nI at') 192 := vp_in_nI ha (by omega)
  unfold wX_touchesOf_70
  rw [nI_clamp (by omega : at' < 2 ^ 31)]
  refine ⟨hin, br_c (fun h2 => nm_r (nI_1 i) (h0 (fun z => z.1 h2))) (fun h2 => ⟨hin, br_c (fun h5 => nm_r (nI_1 i) (h0 (fun z => z.2 h5))) (fun h5 => ⟨hin, ?_⟩)⟩)⟩
  obtain ⟨b, hb, e, hj⟩ := h1 h2 h5
  rw [e]
  exact xa_bit hb (nm_e (nm_r (nI_1 i) hj))
def sw_Tm (ops argA argB br er : Nat → Int32) (k i j : Nat) : Prop := j + 2 < 6 ∧ ((∃ i', i' < i ∧ sw_T1 ops argA argB (6 * k + i') (j + 2)) ∨ (¬ br k = 0 ∧ er k = nI (j + 2)))
theorem sw_Tm_s {k i j : Nat} : sw_Tm ops argA argB br er k (i + 1) j ↔ sw_Tm ops argA argB br er k i j ∨ (j + 2 < 6 ∧ sw_T1 ops argA argB (6 * k + i) (j + 2)) := by
  unfold sw_Tm
  constructor
  · rintro ⟨h, ⟨i', hi, t⟩ | w⟩
    · rcases Nat.lt_or_ge i' i with z | z
      · exact Or.inl ⟨h, Or.inl ⟨i', z, t⟩⟩
      · have e : i' = i := by omega
        rw [e] at t
        exact Or.inr ⟨h, t⟩
    · exact Or.inl ⟨h, Or.inr w⟩
  · rintro (⟨h, ⟨i', hi, t⟩ | w⟩ | ⟨h, t⟩)
    · exact ⟨h, Or.inl ⟨i', by omega, t⟩⟩
    · exact ⟨h, Or.inr w⟩
    · exact ⟨h, Or.inl ⟨i, by omega, t⟩⟩
theorem xa_26 {post : Int32 → Prop} {k L : Nat} (hk : k < 32) (hL : L ≤ 6) (eL : len k = nI L) (hns : ns ≤ 4) (hP : sw_PG nf nb ns ops argA argB len er fi se)
    (h : ∀ m, (∀ j, (bt m j = true ↔ sw_To nb ops argA argB len br er fi se k (j + 2))) → post m) :
    ∀ q i m, i + q = L → (∀ j, (bt m j = true ↔ sw_Tm ops argA argB br er k i j)) → ∀ n, q < n → wX_touchesOf_26 post (nI k) (nI nf) (nI nb) (nI (2 + ns)) (nI nl) (nI cu) (nI d) st sv rs es ops argA argB len br er fi se raw pln rch tch rgn ec fil fn bk ix hd slt enx n m (nI i) := by
  have hin : vp_in (nI k) 32 := vp_in_nI hk (by omega)
  intro q
  induction q with
  | zero =>
    intro i m hi hm n hn
    obtain ⟨n, rfl⟩ : ∃ n', n = n' + 1 := ⟨n - 1, by omega⟩
    refine And.intro hin ?_
    rw [nI_clamp (by omega : k < 2 ^ 31), eL]
    refine br_t (nI_le (by omega) (by omega)) (h m ?_)
    intro j
    refine (hm j).trans ?_
    have e : i = L := by omega
    subst e
    unfold sw_Tm sw_To
    rw [eL, nI_clamp (by omega)]
    exact ⟨fun w => ⟨w.1, w.2.imp_left (fun ⟨i', a, b⟩ => ⟨i', by omega, a, b⟩)⟩, fun w => ⟨w.1, w.2.imp_left (fun ⟨i', _, a, b⟩ => ⟨i', a, b⟩)⟩⟩
  | succ q ih =>
    intro i m hi hm n hn
    obtain ⟨n, rfl⟩ : ∃ n', n = n' + 1 := ⟨n - 1, by omega⟩
    have hin2 : vp_in (nI (6 * k + i)) 192 := vp_in_nI (by omega) (by omega)
    obtain ⟨o, a, ho, eo, ea, _, ha2, hb2⟩ := hP.2.2.2.2 (6 * k + i) (by omega)
    refine And.intro hin ?_
    rw [nI_clamp (by omega : k < 2 ^ 31), eL]
    refine br_f (nI_ge (by omega) (by omega)) (nm_r (sw_6 k i) ?_)
    rw [nI_clamp (by omega : 6 * k + i < 2 ^ 31)]
    -- the second half, from a mask that has the first
    have nx : ∀ m' : Int32, (∀ j, (bt m' j = true ↔ sw_Tm ops argA argB br er k i j ∨ (j + 2 < 6 ∧ ¬ ops (6 * k + i) = 6 ∧ argA (6 * k + i) = nI (j + 2)))) → wX_touchesOf_70 post (wX_touchesOf_26 post (nI k) (nI nf) (nI nb) (nI (2 + ns)) (nI nl) (nI cu) (nI d) st sv rs es ops argA argB len br er fi se raw pln rch tch rgn ec fil fn bk ix hd slt enx n) (nI k) m' (nI i) (nI (6 * k + i)) (nI nf) (nI nb) (nI (2 + ns)) (nI nl) (nI cu) (nI d) st sv rs es ops argA argB len br er fi se raw pln rch tch rgn ec fil fn bk ix hd slt enx := by
      intro m' hm'
      refine xa_70 (by omega) ?_ ?_
      · intro no
        refine ih (i + 1) m' (by omega) ?_ n (by omega)
        intro j
        rw [sw_Tm_s, hm' j]
        unfold sw_T1
        exact ⟨fun w => w.imp_right (fun w => ⟨w.1, Or.inl w.2⟩), fun w => w.imp_right (fun w => ⟨w.1, w.2.elim id (fun w => absurd ⟨w.1, w.2.1⟩ no)⟩)⟩
      · intro h2 h5
        have o2 : 2 ≤ o := by
          rcases Nat.lt_or_ge o 2 with z | z
          · exact absurd (by rw [eo]; exact nI_lt (b := 2) z (by decide)) h2
          · exact z
        have o5 : o ≤ 5 := by
          rcases Nat.lt_or_ge 5 o with z | z
          · exact absurd (by rw [eo]; exact nI_lt (a := 5) z (by omega)) h5
          · exact z
        obtain ⟨b, hb, eb⟩ := hb2 o2 o5
        refine ⟨b, by omega, eb, ih (i + 1) _ (by omega) ?_ n (by omega)⟩
        intro j
        rw [sw_Tm_s, sw_orB, hm' j, sw_mB (by omega)]
        unfold sw_T1
        constructor
        · rintro ((w | w) | w)
          · exact Or.inl w
          · exact Or.inr ⟨w.1, Or.inl w.2⟩
          · exact Or.inr ⟨by omega, Or.inr ⟨h2, h5, by rw [eb, w]⟩⟩
        · rintro (w | ⟨w, u | u⟩)
          · exact Or.inl (Or.inl w)
          · exact Or.inl (Or.inr ⟨w, u⟩)
          · exact Or.inr (sw_eqN (by omega) (by omega) (eb.symm.trans u.2.2))
    refine ⟨hin2, br_c (fun h6 => nx m ?_) (fun h6 => ⟨hin2, ?_⟩)⟩
    · intro j
      rw [hm j]
      exact ⟨Or.inl, fun w => w.elim id (fun w => absurd h6 w.2.1)⟩
    · have hlt : a < 2 + ns := ha2 (fun z => h6 (by rw [eo, z]; rfl))
      rw [ea]
      refine xa_bit (by omega) (nm_e (nx _ ?_))
      intro j
      rw [sw_orB, hm j, sw_mB (by omega)]
      constructor
      · rintro (w | w)
        · exact Or.inl w
        · exact Or.inr ⟨by omega, h6, by rw [ea, w]⟩
      · rintro (w | w)
        · exact Or.inl w
        · exact Or.inr (sw_eqN (by omega) (by omega) (ea.symm.trans w.2.2))
theorem xa_touchesOf {post : Int32 → Prop} {k : Nat} (hk : k < 32) (hns : ns ≤ 4) (hP : sw_PG nf nb ns ops argA argB len er fi se)
    (h : ∀ m, (∀ j, (bt m j = true ↔ sw_To nb ops argA argB len br er fi se k (j + 2))) → post m) : wpX_touchesOf post ((nI nf), (nI nb), (nI (2 + ns)), (nI nl), (nI cu), (nI d), st, sv, rs, es, ops, argA, argB, len, br, er, fi, se, raw, pln, rch, tch, rgn, ec, fil, fn, bk, ix, hd, slt, enx) (nI k) := by
  have hin : vp_in (nI k) 32 := vp_in_nI hk (by omega)
  obtain ⟨L, hL, eL⟩ := hP.1 k hk
  obtain ⟨r, hr, er'⟩ := hP.2.2.2.1 k hk
  refine And.intro hin ?_
  rw [nI_clamp (by omega : k < 2 ^ 31), er']
  refine br_c (fun hb => ⟨L + 1, xa_26 hk hL eL hns hP h L 0 0 (by omega) ?_ (L + 1) (by omega)⟩) (fun hb => ⟨hin, xa_bit (by omega) ⟨L + 1, xa_26 hk hL eL hns hP h L 0 _ (by omega) ?_ (L + 1) (by omega)⟩⟩)
  · intro j
    rw [sw_0B]
    refine ⟨fun z => z.elim, ?_⟩
    rintro ⟨_, ⟨i', hi, _⟩ | w⟩
    · omega
    · exact w.1 hb
  · intro j
    rw [sw_mB (by omega)]
    constructor
    · intro e
      exact ⟨by omega, Or.inr ⟨hb, by rw [er', e]⟩⟩
    · rintro ⟨w, ⟨i', hi, _⟩ | u⟩
      · omega
      · exact sw_eqN (by omega) (by omega) (er'.symm.trans u.2)
/-! size -/
theorem sw_condi (b : Bool) : cond b (1 : Int32) 0 = sw_i (b = true) 1 0 := by
  cases b
  · exact (sw_if (fun h => by cases h)).symm
  · exact (sw_it rfl).symm
theorem xa_size4 {post : Int32 → Prop} {m : Int32} (h : post (sw_sm (fun j => bt m j = true) 4)) :
    ∀ q i, i + q = 4 → ∀ n, q < n → wX_size_4 post m (nI nf) (nI nb) (nI (2 + ns)) (nI nl) (nI cu) (nI d) st sv rs es ops argA argB len br er fi se raw pln rch tch rgn ec fil fn bk ix hd slt enx n (sw_sm (fun j => bt m j = true) i) (nI i) := by
  intro q
  induction q with
  | zero =>
    intro i hi n hn
    obtain ⟨n, rfl⟩ : ∃ n', n = n' + 1 := ⟨n - 1, by omega⟩
    have e : i = 4 := by omega
    subst e
    exact br_t (by decide) h
  | succ q ih =>
    intro i hi n hn
    obtain ⟨n, rfl⟩ : ∃ n', n = n' + 1 := ⟨n - 1, by omega⟩
    refine br_f (nI_ge (b := 4) (by omega) (by decide)) (nm_r (e' := sw_sm (fun j => bt m j = true) (i + 1)) ?_ (nm_r (nI_1 i) (ih (i + 1) (by omega) n (by omega))))
    rw [sw_bitv m (by omega), sw_condi]
    rfl
theorem xa_size {post : Int32 → Prop} {m : Int32} (h : post (sw_sm (fun j => bt m j = true) 4)) : wpX_size post ((nI nf), (nI nb), (nI (2 + ns)), (nI nl), (nI cu), (nI d), st, sv, rs, es, ops, argA, argB, len, br, er, fi, se, raw, pln, rch, tch, rgn, ec, fil, fn, bk, ix, hd, slt, enx) m :=
  ⟨5, xa_size4 h 4 0 (by omega) 5 (by omega)⟩
/-! findTouches -/
theorem xa_45 {post : SX → Prop} {J : Int32 → Int32 → (Nat → Int32) → (Nat → Int32) → (Nat → Int32) → (Nat → Int32) → (Nat → Int32) → (Nat → Int32) → (Nat → Int32) → (Nat → Int32) → (Nat → Int32) → (Nat → Int32) → (Nat → Int32) → (Nat → Int32) → (Nat → Int32) → (Nat → Int32) → (Nat → Int32) → (Nat → Int32) → (Nat → Int32) → (Nat → Int32) → (Nat → Int32) → (Nat → Int32) → (Nat → Int32) →  Prop} {x1 x2 z0 : Int32} {b k : Nat} (hk : k < 32)
    (h : J (x2 ||| z0) (nI (b + 1)) ops argA argB len br er fi se raw pln rch (upd tch k z0) rgn ec fil fn bk ix hd slt enx) : wX_findTouches_45 post J x1 x2 (nI b) (nI k) z0 (nI k) (nI nf) (nI nb) (nI (2 + ns)) (nI nl) (nI cu) (nI d) st sv rs es ops argA argB len br er fi se raw pln rch tch rgn ec fil fn bk ix hd slt enx := by
  have hin : vp_in (nI k) 32 := vp_in_nI hk (by omega)
  unfold wX_findTouches_45
  rw [nI_clamp (by omega : k < 2 ^ 31)]
  exact ⟨hin, nm_e ⟨hin, nm_r (congrArg (fun z => x2 ||| z) pk_us) (nm_r (nI_1 b) h)⟩⟩
theorem xa_t4 {post : SX → Prop} {f : Nat} (hf : f < 4) (hnb : nb ≤ 8) (hns : ns ≤ 4) (h0nb : 0 < nb) (hP : sw_PG nf nb ns ops argA argB len er fi se)
    (hR : ∀ b, b < nb → ∀ y, (bt (rch (8 * f + b)) y = true ↔ sw_Pa nb ops argA argB len br er fi se f b y))
    (h : ∀ T, (∀ b, b < nb → ∀ j, (bt (T (8 * f + b)) j = true ↔ sw_To nb ops argA argB len br er fi se (8 * f + b) (j + 2) ∧ sw_Pa nb ops argA argB len br er fi se f 0 b)) → post ((nI nf), (nI nb), (nI (2 + ns)), (nI nl), (nI cu), (nI d), st, sv, rs, es, ops, argA, argB, len, br, er, fi, se, raw, pln, rch, T, rgn, upd ec f (sw_sm (fun j => ∃ b, b < nb ∧ sw_To nb ops argA argB len br er fi se (8 * f + b) (j + 2) ∧ sw_Pa nb ops argA argB len br er fi se f 0 b) ns), fil, fn, bk, ix, hd, slt, enx)) :
    ∀ q i m T, i + q = nb → (∀ b, b < i → ∀ j, (bt (T (8 * f + b)) j = true ↔ sw_To nb ops argA argB len br er fi se (8 * f + b) (j + 2) ∧ sw_Pa nb ops argA argB len br er fi se f 0 b)) → (∀ j, (bt m j = true ↔ ∃ b, b < i ∧ sw_To nb ops argA argB len br er fi se (8 * f + b) (j + 2) ∧ sw_Pa nb ops argA argB len br er fi se f 0 b)) → ∀ n, q < n → wX_findTouches_4 post (nI f) (nI nf) (nI nb) (nI (2 + ns)) (nI nl) (nI cu) (nI d) st sv rs es n m (nI i) ops argA argB len br er fi se raw pln rch T rgn ec fil fn bk ix hd slt enx := by
  intro q
  induction q with
  | zero =>
    intro i m T hi hT hm n hn
    obtain ⟨n, rfl⟩ : ∃ n', n = n' + 1 := ⟨n - 1, by omega⟩
    have e : i = nb := by omega
    subst e
    refine br_t (nI_le (by omega) (by omega)) (xa_size ?_)
    refine And.intro (vp_in_nI hf (by omega)) ?_
    rw [nI_clamp (by omega : f < 2 ^ 31)]
    refine nm_r (e' := upd ec f (sw_sm (fun j => ∃ b, b < i ∧ sw_To i ops argA argB len br er fi se (8 * f + b) (j + 2) ∧ sw_Pa i ops argA argB len br er fi se f 0 b) ns)) ?_ (h T hT)
    refine congrArg (upd ec f) ?_
    rw [sw_sm_congr (Q := fun j => ∃ b, b < i ∧ sw_To i ops argA argB len br er fi se (8 * f + b) (j + 2) ∧ sw_Pa i ops argA argB len br er fi se f 0 b) (fun j _ => hm j)]
    have e4 : 4 = ns + (4 - ns) := by omega
    rw [e4]
    refine sw_sm_end ?_
    rintro j hj ⟨b, hb, t, _⟩
    have := sw_To_lt hP hns (by omega) t
    omega
  | succ q ih =>
    intro i m T hi hT hm n hn
    obtain ⟨n, rfl⟩ : ∃ n', n = n' + 1 := ⟨n - 1, by omega⟩
    have hi' : i < nb := by omega
    have nx : ∀ z0 : Int32, (∀ j, (bt z0 j = true ↔ sw_To nb ops argA argB len br er fi se (8 * f + i) (j + 2) ∧ sw_Pa nb ops argA argB len br er fi se f 0 i)) → wX_findTouches_45 post (wX_findTouches_4 post (nI f) (nI nf) (nI nb) (nI (2 + ns)) (nI nl) (nI cu) (nI d) st sv rs es n) (nI f) m (nI i) (nI (8 * f + i)) z0 (nI (8 * f + i)) (nI nf) (nI nb) (nI (2 + ns)) (nI nl) (nI cu) (nI d) st sv rs es ops argA argB len br er fi se raw pln rch T rgn ec fil fn bk ix hd slt enx := by
      intro z0 hz
      refine xa_45 (by omega) (ih (i + 1) _ _ (by omega) ?_ ?_ n (by omega))
      · intro b hb j
        by_cases w : b = i
        · subst w
          rw [pk_us]
          exact hz j
        · rw [pk_un (by omega)]
          exact hT b (by omega) j
      · intro j
        rw [sw_orB, hm j, hz j]
        constructor
        · rintro (⟨b, hb, w⟩ | w)
          · exact ⟨b, by omega, w⟩
          · exact ⟨i, by omega, w⟩
        · rintro ⟨b, hb, w⟩
          rcases Nat.lt_or_ge b i with u | u
          · exact Or.inl ⟨b, u, w⟩
          · have e : b = i := by omega
            rw [e] at w
            exact Or.inr w
    refine br_f (nI_ge hi' (by omega)) (nm_r (sw_8 f i) (xa_reach hf (by omega) (fun hb => br_f sw_10 ?_) (fun hb => br_t rfl ?_)))
    · refine xa_touchesOf (by omega) hns hP (fun m' hm' => nx m' ?_)
      intro j
      rw [hm' j]
      exact ⟨fun w => ⟨w, (hR 0 h0nb i).mp hb⟩, fun w => w.1⟩
    · refine nx 0 ?_
      intro j
      rw [sw_0B]
      exact ⟨fun w => w.elim, fun w => hb ((hR 0 h0nb i).mpr w.2)⟩
theorem xa_findTouches {post : SX → Prop} {f : Nat} (hf : f < 4) (hnb : nb ≤ 8) (hns : ns ≤ 4) (h0nb : 0 < nb) (hP : sw_PG nf nb ns ops argA argB len er fi se)
    (hR : ∀ b, b < nb → ∀ y, (bt (rch (8 * f + b)) y = true ↔ sw_Pa nb ops argA argB len br er fi se f b y))
    (h : ∀ T, (∀ b, b < nb → ∀ j, (bt (T (8 * f + b)) j = true ↔ sw_To nb ops argA argB len br er fi se (8 * f + b) (j + 2) ∧ sw_Pa nb ops argA argB len br er fi se f 0 b)) → post ((nI nf), (nI nb), (nI (2 + ns)), (nI nl), (nI cu), (nI d), st, sv, rs, es, ops, argA, argB, len, br, er, fi, se, raw, pln, rch, T, rgn, upd ec f (sw_sm (fun j => ∃ b, b < nb ∧ sw_To nb ops argA argB len br er fi se (8 * f + b) (j + 2) ∧ sw_Pa nb ops argA argB len br er fi se f 0 b) ns), fil, fn, bk, ix, hd, slt, enx)) : wpX_findTouches post ((nI nf), (nI nb), (nI (2 + ns)), (nI nl), (nI cu), (nI d), st, sv, rs, es, ops, argA, argB, len, br, er, fi, se, raw, pln, rch, tch, rgn, ec, fil, fn, bk, ix, hd, slt, enx) (nI f) :=
  ⟨nb + 1, xa_t4 hf hnb hns h0nb hP hR h nb 0 0 tch (by omega) (fun _ hb => absurd hb (Nat.not_lt_zero _)) (fun j => ⟨fun z => ((sw_0B j).mp z).elim, fun ⟨_, hb, _⟩ => absurd hb (Nat.not_lt_zero _)⟩) (nb + 1) (by omega)⟩
/-! findRegions -/
theorem xa_63 {post : SX → Prop} {J7 : Int32 → (Nat → Int32) → (Nat → Int32) → (Nat → Int32) → (Nat → Int32) → (Nat → Int32) → (Nat → Int32) → (Nat → Int32) → (Nat → Int32) → (Nat → Int32) → (Nat → Int32) → (Nat → Int32) → (Nat → Int32) → (Nat → Int32) → (Nat → Int32) → (Nat → Int32) → (Nat → Int32) → (Nat → Int32) → (Nat → Int32) → (Nat → Int32) → (Nat → Int32) → (Nat → Int32) →  Prop} {J : Int32 → Int32 → Int32 → Prop} {f b c : Nat} {x4 x5 : Int32} (hb : 8 * f + b < 32) (hc : 8 * f + c < 32) (hc2 : c < 32)
    (h0 : ¬ bt (rch (8 * f + b)) c = true → J x4 x5 (nI (c + 1))) (h1 : bt (rch (8 * f + b)) c = true → J x4 (x5 ||| tch (8 * f + c)) (nI (c + 1))) :
    wX_findRegions_63 post J7 J (nI (8 * f)) (nI b) x4 x5 (nI c) (nI nf) (nI nb) (nI (2 + ns)) (nI nl) (nI cu) (nI d) st sv rs es ops argA argB len br er fi se raw pln rch tch rgn ec fil fn bk ix hd slt enx := by
  unfold wX_findRegions_63
  rw [nI_add (8 * f) b, nI_add (8 * f) c, nI_clamp (by omega : 8 * f + b < 2 ^ 31), nI_clamp (by omega : 8 * f + c < 2 ^ 31), sw_bit0 _ hc2]
  exact ⟨vp_in_nI hb (by omega), br_c (fun z => nm_r (nI_1 c) (h0 z)) (fun z => ⟨vp_in_nI hc (by omega), nm_e (nm_r (nI_1 c) (h1 (Classical.not_not.mp z)))⟩)⟩
theorem xa_24 {post : SX → Prop} {J : Int32 → (Nat → Int32) → (Nat → Int32) → (Nat → Int32) → (Nat → Int32) → (Nat → Int32) → (Nat → Int32) → (Nat → Int32) → (Nat → Int32) → (Nat → Int32) → (Nat → Int32) → (Nat → Int32) → (Nat → Int32) → (Nat → Int32) → (Nat → Int32) → (Nat → Int32) → (Nat → Int32) → (Nat → Int32) → (Nat → Int32) → (Nat → Int32) → (Nat → Int32) → (Nat → Int32) →  Prop} {f b : Nat} (hf : f < 4) (hnb : nb ≤ 8) (hb : b < nb)
    (hR : ∀ b, b < nb → ∀ y, (bt (rch (8 * f + b)) y = true ↔ sw_Pa nb ops argA argB len br er fi se f b y))
    (hT : ∀ b, b < nb → ∀ j, (bt (tch (8 * f + b)) j = true ↔ sw_To nb ops argA argB len br er fi se (8 * f + b) (j + 2) ∧ sw_Pa nb ops argA argB len br er fi se f 0 b))
    (h : ∀ m, (∀ j, (bt m j = true ↔ sw_Rg nb ops argA argB len br er fi se f b (j + 2))) → J (nI (b + 1)) ops argA argB len br er fi se raw pln rch tch (upd rgn (8 * f + b) m) ec fil fn bk ix hd slt enx) :
    ∀ q i x4 x5, i + q = nb → (∀ j, (bt x4 j = true ↔ ∃ x, x < i ∧ (sw_To nb ops argA argB len br er fi se (8 * f + x) (j + 2) ∧ sw_Pa nb ops argA argB len br er fi se f 0 x) ∧ sw_Pa nb ops argA argB len br er fi se f x b)) → (∀ j, (bt x5 j = true ↔ ∃ x, x < i ∧ (sw_To nb ops argA argB len br er fi se (8 * f + x) (j + 2) ∧ sw_Pa nb ops argA argB len br er fi se f 0 x) ∧ sw_Pa nb ops argA argB len br er fi se f b x)) → ∀ n, q < n → wX_findRegions_24 post J (nI (8 * f)) (nI b) (nI nf) (nI nb) (nI (2 + ns)) (nI nl) (nI cu) (nI d) st sv rs es ops argA argB len br er fi se raw pln rch tch rgn ec fil fn bk ix hd slt enx n x4 x5 (nI i) := by
  intro q
  induction q with
  | zero =>
    intro i x4 x5 hi k4 k5 n hn
    obtain ⟨n, rfl⟩ : ∃ n', n = n' + 1 := ⟨n - 1, by omega⟩
    have e : i = nb := by omega
    rw [e] at k4 k5
    refine br_t (nI_le (by omega) (by omega)) ?_
    rw [nI_add (8 * f) b, nI_clamp (by omega : 8 * f + b < 2 ^ 31)]
    refine ⟨vp_in_nI (by omega) (by omega), nm_e (nm_r (nI_1 b) (h _ ?_))⟩
    intro j
    rw [sw_andB, k4 j, k5 j, ← sw_Rg_x]
  | succ q ih =>
    intro i x4 x5 hi k4 k5 n hn
    obtain ⟨n, rfl⟩ : ∃ n', n = n' + 1 := ⟨n - 1, by omega⟩
    have hi' : i < nb := by omega
    have hin : vp_in (nI (8 * f + i)) 32 := vp_in_nI (by omega) (by omega)
    refine br_f (nI_ge hi' (by omega)) ?_
    rw [nI_add (8 * f) i, nI_clamp (by omega : 8 * f + i < 2 ^ 31), sw_bit0 _ (by omega : b < 32)]
    -- how the two sums grow
    have n4 : ¬ bt (rch (8 * f + i)) b = true → ∀ j, (bt x4 j = true ↔ ∃ x, x < i + 1 ∧ (sw_To nb ops argA argB len br er fi se (8 * f + x) (j + 2) ∧ sw_Pa nb ops argA argB len br er fi se f 0 x) ∧ sw_Pa nb ops argA argB len br er fi se f x b) := by
      intro no j
      refine (k4 j).trans ⟨fun ⟨x, hx, w⟩ => ⟨x, by omega, w⟩, fun ⟨x, hx, w⟩ => ?_⟩
      rcases Nat.lt_or_ge x i with z | z
      · exact ⟨x, z, w⟩
      · have e : x = i := by omega
        rw [e] at w
        exact absurd ((hR i hi' b).mpr w.2) no
    have y4 : bt (rch (8 * f + i)) b = true → ∀ j, (bt (x4 ||| tch (8 * f + i)) j = true ↔ ∃ x, x < i + 1 ∧ (sw_To nb ops argA argB len br er fi se (8 * f + x) (j + 2) ∧ sw_Pa nb ops argA argB len br er fi se f 0 x) ∧ sw_Pa nb ops argA argB len br er fi se f x b) := by
      intro yes j
      rw [sw_orB, k4 j, hT i hi' j]
      constructor
      · rintro (⟨x, hx, w⟩ | w)
        · exact ⟨x, by omega, w⟩
        · exact ⟨i, by omega, w, (hR i hi' b).mp yes⟩
      · rintro ⟨x, hx, w⟩
        rcases Nat.lt_or_ge x i with z | z
        · exact Or.inl ⟨x, z, w⟩
        · have e : x = i := by omega
          rw [e] at w
          exact Or.inr w.1
    have n5 : ¬ bt (rch (8 * f + b)) i = true → ∀ j, (bt x5 j = true ↔ ∃ x, x < i + 1 ∧ (sw_To nb ops argA argB len br er fi se (8 * f + x) (j + 2) ∧ sw_Pa nb ops argA argB len br er fi se f 0 x) ∧ sw_Pa nb ops argA argB len br er fi se f b x) := by
      intro no j
      refine (k5 j).trans ⟨fun ⟨x, hx, w⟩ => ⟨x, by omega, w⟩, fun ⟨x, hx, w⟩ => ?_⟩
      rcases Nat.lt_or_ge x i with z | z
      · exact ⟨x, z, w⟩
      · have e : x = i := by omega
        rw [e] at w
        exact absurd ((hR b hb i).mpr w.2) no
    have y5 : bt (rch (8 * f + b)) i = true → ∀ j, (bt (x5 ||| tch (8 * f + i)) j = true ↔ ∃ x, x < i + 1 ∧ (sw_To nb ops argA argB len br er fi se (8 * f + x) (j + 2) ∧ sw_Pa nb ops argA argB len br er fi se f 0 x) ∧ sw_Pa nb ops argA argB len br er fi se f b x) := by
      intro yes j
      rw [sw_orB, k5 j, hT i hi' j]
      constructor
      · rintro (⟨x, hx, w⟩ | w)
        · exact ⟨x, by omega, w⟩
        · exact ⟨i, by omega, w, (hR b hb i).mp yes⟩
      · rintro ⟨x, hx, w⟩
        rcases Nat.lt_or_ge x i with z | z
        · exact Or.inl ⟨x, z, w⟩
        · have e : x = i := by omega
          rw [e] at w
          exact Or.inr w.1
    refine ⟨hin, br_c (fun z => ?_) (fun z => ⟨hin, nm_e ?_⟩)⟩
    · exact xa_63 (by omega) (by omega) (by omega) (fun w => ih (i + 1) _ _ (by omega) (n4 z) (n5 w) n (by omega)) (fun w => ih (i + 1) _ _ (by omega) (n4 z) (y5 w) n (by omega))
    · exact xa_63 (by omega) (by omega) (by omega) (fun w => ih (i + 1) _ _ (by omega) (y4 (Classical.not_not.mp z)) (n5 w) n (by omega)) (fun w => ih (i + 1) _ _ (by omega) (y4 (Classical.not_not.mp z)) (y5 w) n (by omega))
theorem xa_r7 {post : SX → Prop} {f : Nat} {rg0 : Nat → Int32} (hf : f < 4) (hnb : nb ≤ 8)
    (hR : ∀ b, b < nb → ∀ y, (bt (rch (8 * f + b)) y = true ↔ sw_Pa nb ops argA argB len br er fi se f b y))
    (hT : ∀ b, b < nb → ∀ j, (bt (tch (8 * f + b)) j = true ↔ sw_To nb ops argA argB len br er fi se (8 * f + b) (j + 2) ∧ sw_Pa nb ops argA argB len br er fi se f 0 b))
    (h : ∀ G, (∀ k, k / 8 ≠ f → G k = rg0 k) → (∀ b, b < nb → ∀ j, (bt (G (8 * f + b)) j = true ↔ sw_Rg nb ops argA argB len br er fi se f b (j + 2))) → post ((nI nf), (nI nb), (nI (2 + ns)), (nI nl), (nI cu), (nI d), st, sv, rs, es, ops, argA, argB, len, br, er, fi, se, raw, pln, rch, tch, G, ec, fil, fn, bk, ix, hd, slt, enx)) :
    ∀ q i G, i + q = nb → (∀ b, b < i → ∀ j, (bt (G (8 * f + b)) j = true ↔ sw_Rg nb ops argA argB len br er fi se f b (j + 2))) → (∀ k, k / 8 ≠ f → G k = rg0 k) → ∀ n, q < n → wX_findRegions_7 post (nI (8 * f)) (nI nf) (nI nb) (nI (2 + ns)) (nI nl) (nI cu) (nI d) st sv rs es n (nI i) ops argA argB len br er fi se raw pln rch tch G ec fil fn bk ix hd slt enx := by
  intro q
  induction q with
  | zero =>
    intro i G hi hG hfr n hn
    obtain ⟨n, rfl⟩ : ∃ n', n = n' + 1 := ⟨n - 1, by omega⟩
    have e : i = nb := by omega
    rw [e] at hG
    exact br_t (nI_le (by omega) (by omega)) (h G hfr hG)
  | succ q ih =>
    intro i G hi hG hfr n hn
    obtain ⟨n, rfl⟩ : ∃ n', n = n' + 1 := ⟨n - 1, by omega⟩
    have hi' : i < nb := by omega
    refine br_f (nI_ge hi' (by omega)) ⟨nb + 1, xa_24 hf hnb hi' hR hT ?_ nb 0 0 0 (by omega) (fun j => ⟨fun z => ((sw_0B j).mp z).elim, fun ⟨_, hb, _⟩ => absurd hb (Nat.not_lt_zero _)⟩) (fun j => ⟨fun z => ((sw_0B j).mp z).elim, fun ⟨_, hb, _⟩ => absurd hb (Nat.not_lt_zero _)⟩) (nb + 1) (by omega)⟩
    intro m hm
    refine ih (i + 1) _ (by omega) ?_ ?_ n (by omega)
    · intro b hb j
      by_cases z : b = i
      · subst z
        rw [pk_us]
        exact hm j
      · rw [pk_un (by omega)]
        exact hG b (by omega) j
    · intro k hk
      rw [pk_un (by omega)]
      exact hfr k hk
theorem xa_findRegions {post : SX → Prop} {f : Nat} (hf : f < 4) (hnb : nb ≤ 8)
    (hR : ∀ b, b < nb → ∀ y, (bt (rch (8 * f + b)) y = true ↔ sw_Pa nb ops argA argB len br er fi se f b y))
    (hT : ∀ b, b < nb → ∀ j, (bt (tch (8 * f + b)) j = true ↔ sw_To nb ops argA argB len br er fi se (8 * f + b) (j + 2) ∧ sw_Pa nb ops argA argB len br er fi se f 0 b))
    (h : ∀ G, (∀ k, k / 8 ≠ f → G k = rgn k) → (∀ b, b < nb → ∀ j, (bt (G (8 * f + b)) j = true ↔ sw_Rg nb ops argA argB len br er fi se f b (j + 2))) → post ((nI nf), (nI nb), (nI (2 + ns)), (nI nl), (nI cu), (nI d), st, sv, rs, es, ops, argA, argB, len, br, er, fi, se, raw, pln, rch, tch, G, ec, fil, fn, bk, ix, hd, slt, enx)) : wpX_findRegions post ((nI nf), (nI nb), (nI (2 + ns)), (nI nl), (nI cu), (nI d), st, sv, rs, es, ops, argA, argB, len, br, er, fi, se, raw, pln, rch, tch, rgn, ec, fil, fn, bk, ix, hd, slt, enx) (nI f) :=
  nm_r (sw_8z f) ⟨nb + 1, xa_r7 (rg0 := rgn) hf hnb hR hT h nb 0 rgn (by omega) (fun _ hb => absurd hb (Nat.not_lt_zero _)) (fun _ _ => rfl) (nb + 1) (by omega)⟩
theorem sw_PF_fr {f : Nat} {rch' rgn' ec' : Nat → Int32} (hnb : nb ≤ 8) (h : sw_PF nb ops argA argB len br er fi se ns rch rgn ec f) (h1 : ∀ k, k / 8 = f → rch' k = rch k) (h2 : ∀ k, k / 8 = f → rgn' k = rgn k) (h3 : ec' f = ec f) : sw_PF nb ops argA argB len br er fi se ns rch' rgn' ec' f := by
  refine ⟨fun b hb y => ?_, fun b hb j => ?_, h3.trans h.2.2⟩
  · rw [h1 _ (by omega)]
    exact h.1 b hb y
  · rw [h2 _ (by omega)]
    exact h.2.1 b hb j
theorem xa_plan {post : SX → Prop} {f : Nat} (hf : f < nf) (hnf : nf ≤ 4) (hnb : nb ≤ 8) (hns : ns ≤ 4) (h0nb : 0 < nb) (hP : sw_PG nf nb ns ops argA argB len er fi se) (hV : sw_PV nf nb ops argA argB len br er fi se ns pln rch rgn ec)
    (h : ∀ pln' rch' tch' rgn' ec' : Nat → Int32, sw_PV nf nb ops argA argB len br er fi se ns pln' rch' rgn' ec' → ¬ pln' f = 0 → (∀ g, ¬ pln g = 0 → ¬ pln' g = 0) → post ((nI nf), (nI nb), (nI (2 + ns)), (nI nl), (nI cu), (nI d), st, sv, rs, es, ops, argA, argB, len, br, er, fi, se, raw, pln', rch', tch', rgn', ec', fil, fn, bk, ix, hd, slt, enx)) : wpX_plan post ((nI nf), (nI nb), (nI (2 + ns)), (nI nl), (nI cu), (nI d), st, sv, rs, es, ops, argA, argB, len, br, er, fi, se, raw, pln, rch, tch, rgn, ec, fil, fn, bk, ix, hd, slt, enx) (nI f) := by
  have hin : vp_in (nI f) 4 := vp_in_nI (by omega) (by omega)
  refine And.intro hin ?_
  rw [nI_clamp (by omega : f < 2 ^ 31)]
  refine br_c (fun z => ?_) (fun z => h _ _ _ _ _ hV z (fun _ w => w))
  refine xa_findPaths (by omega) hnb hP (fun R hR1 hR2 => ?_)
  refine xa_findTouches (by omega) hnb hns h0nb hP hR2 (fun T hT => ?_)
  refine xa_findRegions (by omega) hnb hR2 hT (fun G hG1 hG2 => ?_)
  refine And.intro hin (nm_r (congrArg (upd pln f) sw_b1) ?_)
  refine h _ _ _ _ _ ?_ ?_ ?_
  · intro g hg hp
    by_cases e : g = f
    · subst e
      exact ⟨hR2, hG2, pk_us⟩
    · rw [pk_un e] at hp
      exact sw_PF_fr hnb (hV g hg hp) (fun k hk => hR1 k (by omega)) (fun k hk => hG1 k (by omega)) (pk_un e)
  · rw [pk_us]
    decide
  · intro g hg
    by_cases e : g = f
    · subst e
      rw [pk_us]
      decide
    · rw [pk_un e]
      exact hg
end XP
end
section
/-! X's machine: for every outcome with the spec -/
theorem sw_j (i : Nat) : nI (i + 2) + 1 = nI (i + 1 + 2) := nI_1 (i + 2)
theorem sw_sm_t {P : Nat → Prop} {n : Nat} {s : Int32} (h : P n) : s + sw_sm P n + 1 = s + sw_sm P (n + 1) := by
  simp only [sw_sm]
  rw [sw_it h, Int32.add_assoc]
theorem sw_sm_f {P : Nat → Prop} {n : Nat} {s : Int32} (h : ¬ P n) : s + sw_sm P n = s + sw_sm P (n + 1) := by
  simp only [sw_sm]
  rw [sw_if h, Int32.add_zero]
theorem sw_sm_z {P : Nat → Prop} {s : Int32} : s = s + sw_sm P 0 := (Int32.add_zero s).symm
/-- what a move of level l does, from the held O to the held N -/
def sw_Mv (ns l : Nat) (O N : Nat → Prop) (sv rs : Int32) (fil hd slt : Nat → Int32) (sv' rs' : Int32) (fil' hd' slt' : Nat → Int32) : Prop :=
  (∀ r, r < 2 → fil' r = fil r) ∧ (∀ j, j < ns → fil' (j + 2) = sw_i (N j ∧ ¬ O j) 0 (sw_i (O j ∧ ¬ N j) (slt (4 * l + j)) (fil (j + 2)))) ∧
  (∀ j, j < ns → slt' (4 * l + j) = sw_i (N j ∧ ¬ O j) (fil (j + 2)) (slt (4 * l + j))) ∧ (∀ k, k < 4 * l → slt' k = slt k) ∧
  (∀ j, (bt (hd' l) j = true ↔ N j)) ∧ (∀ m, m < l → hd' m = hd m) ∧ rs' = rs + sw_sm (fun j => O j ∧ ¬ N j) ns ∧ sv' = sv + sw_sm (fun j => N j ∧ ¬ O j) ns
theorem sw_Mv_c {ns l : Nat} {O N O' N' : Nat → Prop} {sv rs sv' rs' : Int32} {fil hd slt fil' hd' slt' : Nat → Int32} (hO : ∀ j, (O j ↔ O' j)) (hN : ∀ j, (N j ↔ N' j)) (h : sw_Mv ns l O N sv rs fil hd slt sv' rs' fil' hd' slt') : sw_Mv ns l O' N' sv rs fil hd slt sv' rs' fil' hd' slt' := by
  have e1 : O = O' := funext (fun j => propext (hO j))
  have e2 : N = N' := funext (fun j => propext (hN j))
  subst e1 e2
  exact h
section XM
variable {nf nb ns nl cu d : Nat} {st sv rs es : Int32} {ops argA argB len br er fi se raw pln rch tch rgn ec fil fn bk ix hd slt enx : Nat → Int32}
theorem xa_rest2 {post : SX → Prop} {l : Nat} {m rs0 : Int32} {fil0 : Nat → Int32} (hl : l < 8) (hns : ns ≤ 4)
    (h : ∀ fil' rs', (∀ r, r < 2 → fil' r = fil0 r) → (∀ j, j < ns → fil' (j + 2) = sw_i (bt m j = true) (slt (4 * l + j)) (fil0 (j + 2))) → rs' = rs0 + sw_sm (fun j => bt m j = true) ns → post ((nI nf), (nI nb), (nI (2 + ns)), (nI nl), (nI cu), (nI d), st, sv, rs', es, ops, argA, argB, len, br, er, fi, se, raw, pln, rch, tch, rgn, ec, fil', fn, bk, ix, upd hd l (hd l &&& (m ^^^ (-1))), slt, enx)) :
    ∀ q i fil' rs', i + q = ns → (∀ r, r < 2 → fil' r = fil0 r) → (∀ j, j < i → fil' (j + 2) = sw_i (bt m j = true) (slt (4 * l + j)) (fil0 (j + 2))) → (∀ j, i ≤ j → j < ns → fil' (j + 2) = fil0 (j + 2)) → rs' = rs0 + sw_sm (fun j => bt m j = true) i → ∀ n, q < n → wX_restore_2 post (nI l) m (nI nf) (nI nb) (nI (2 + ns)) (nI nl) (nI cu) (nI d) st sv es n (nI (i + 2)) rs' ops argA argB len br er fi se raw pln rch tch rgn ec fil' fn bk ix hd slt enx := by
  have hin : vp_in (nI l) 8 := vp_in_nI hl (by omega)
  intro q
  induction q with
  | zero =>
    intro i fil' rs' hi h1 h2 h3 h4 n hn
    obtain ⟨n, rfl⟩ : ∃ n', n = n' + 1 := ⟨n - 1, by omega⟩
    have e : i = ns := by omega
    subst e
    refine br_t (nI_le (by omega) (by omega)) ?_
    rw [nI_clamp (by omega : l < 2 ^ 31)]
    exact ⟨hin, hin, nm_e (h fil' rs' h1 h2 h4)⟩
  | succ q ih =>
    intro i fil' rs' hi h1 h2 h3 h4 n hn
    obtain ⟨n, rfl⟩ : ∃ n', n = n' + 1 := ⟨n - 1, by omega⟩
    refine br_f (nI_ge (by omega) (by omega)) (xa_bit (by omega) ?_)
    rw [sw_mz m (by omega : i < 32), sw_4, nI_clamp (by omega : 4 * l + i < 2 ^ 31), nI_clamp (by omega : i + 2 < 2 ^ 31)]
    refine br_c (fun z => nm_r (sw_j i) (ih (i + 1) fil' rs' (by omega) h1 ?_ (fun j a b => h3 j (by omega) b) ?_ n (by omega))) (fun z => ⟨vp_in_nI (by omega) (by omega), vp_in_nI (by omega) (by omega), nm_e (nm_e (nm_r (sw_j i) (ih (i + 1) _ _ (by omega) ?_ ?_ ?_ ?_ n (by omega))))⟩)
    · intro j hj
      by_cases e : j = i
      · subst e
        rw [h3 j (by omega) (by omega), sw_if z]
      · exact h2 j (by omega)
    · rw [h4]
      exact sw_sm_f (P := fun j => bt m j = true) z
    · intro r hr
      rw [pk_un (by omega)]
      exact h1 r hr
    · intro j hj
      by_cases e : j = i
      · subst e
        rw [pk_us, sw_it (Classical.not_not.mp z)]
      · rw [pk_un (by omega)]
        exact h2 j (by omega)
    · intro j a b
      rw [pk_un (by omega)]
      exact h3 j (by omega) b
    · rw [h4]
      exact sw_sm_t (P := fun j => bt m j = true) (Classical.not_not.mp z)
theorem xa_restore {post : SX → Prop} {l : Nat} {m : Int32} (hl : l < 8) (hns : ns ≤ 4)
    (h : ∀ fil' rs', (∀ r, r < 2 → fil' r = fil r) → (∀ j, j < ns → fil' (j + 2) = sw_i (bt m j = true) (slt (4 * l + j)) (fil (j + 2))) → rs' = rs + sw_sm (fun j => bt m j = true) ns → post ((nI nf), (nI nb), (nI (2 + ns)), (nI nl), (nI cu), (nI d), st, sv, rs', es, ops, argA, argB, len, br, er, fi, se, raw, pln, rch, tch, rgn, ec, fil', fn, bk, ix, upd hd l (hd l &&& (m ^^^ (-1))), slt, enx)) : wpX_restore post ((nI nf), (nI nb), (nI (2 + ns)), (nI nl), (nI cu), (nI d), st, sv, rs, es, ops, argA, argB, len, br, er, fi, se, raw, pln, rch, tch, rgn, ec, fil, fn, bk, ix, hd, slt, enx) (nI l) m :=
  ⟨ns + 1, xa_rest2 hl hns h ns 0 fil rs (by omega) (fun _ _ => rfl) (fun _ hj => absurd hj (Nat.not_lt_zero _)) (fun _ _ _ => rfl) sw_sm_z (ns + 1) (by omega)⟩
theorem xa_save2 {post : SX → Prop} {l : Nat} {m sv0 : Int32} {fil0 slt0 : Nat → Int32} (hl : l < 8) (hns : ns ≤ 4)
    (h : ∀ fil' slt' sv', (∀ r, r < 2 → fil' r = fil0 r) → (∀ j, j < ns → fil' (j + 2) = sw_i (bt m j = true) 0 (fil0 (j + 2))) → (∀ j, j < ns → slt' (4 * l + j) = sw_i (bt m j = true) (fil0 (j + 2)) (slt0 (4 * l + j))) → (∀ k, k < 4 * l → slt' k = slt0 k) → sv' = sv0 + sw_sm (fun j => bt m j = true) ns → post ((nI nf), (nI nb), (nI (2 + ns)), (nI nl), (nI cu), (nI d), st, sv', rs, es, ops, argA, argB, len, br, er, fi, se, raw, pln, rch, tch, rgn, ec, fil', fn, bk, ix, upd hd l (hd l ||| m), slt', enx)) :
    ∀ q i fil' slt' sv', i + q = ns → (∀ r, r < 2 → fil' r = fil0 r) → (∀ j, j < i → fil' (j + 2) = sw_i (bt m j = true) 0 (fil0 (j + 2))) → (∀ j, i ≤ j → j < ns → fil' (j + 2) = fil0 (j + 2)) → (∀ j, j < i → slt' (4 * l + j) = sw_i (bt m j = true) (fil0 (j + 2)) (slt0 (4 * l + j))) → (∀ j, i ≤ j → j < ns → slt' (4 * l + j) = slt0 (4 * l + j)) → (∀ k, k < 4 * l → slt' k = slt0 k) → sv' = sv0 + sw_sm (fun j => bt m j = true) i → ∀ n, q < n → wX_save_2 post (nI l) m (nI nf) (nI nb) (nI (2 + ns)) (nI nl) (nI cu) (nI d) st rs es n (nI (i + 2)) sv' ops argA argB len br er fi se raw pln rch tch rgn ec fil' fn bk ix hd slt' enx := by
  have hin : vp_in (nI l) 8 := vp_in_nI hl (by omega)
  intro q
  induction q with
  | zero =>
    intro i fil' slt' sv' hi h1 h2 h3 h4 h5 h6 h7 n hn
    obtain ⟨n, rfl⟩ : ∃ n', n = n' + 1 := ⟨n - 1, by omega⟩
    have e : i = ns := by omega
    subst e
    refine br_t (nI_le (by omega) (by omega)) ?_
    rw [nI_clamp (by omega : l < 2 ^ 31)]
    exact ⟨hin, hin, nm_e (h fil' slt' sv' h1 h2 h4 h6 h7)⟩
  | succ q ih =>
    intro i fil' slt' sv' hi h1 h2 h3 h4 h5 h6 h7 n hn
    obtain ⟨n, rfl⟩ : ∃ n', n = n' + 1 := ⟨n - 1, by omega⟩
    have hin3 : vp_in (nI (i + 2)) 6 := vp_in_nI (by omega) (by omega)
    refine br_f (nI_ge (by omega) (by omega)) (xa_bit (by omega) ?_)
    rw [sw_mz m (by omega : i < 32), sw_4, nI_clamp (by omega : 4 * l + i < 2 ^ 31), nI_clamp (by omega : i + 2 < 2 ^ 31)]
    refine br_c (fun z => nm_r (sw_j i) (ih (i + 1) fil' slt' sv' (by omega) h1 ?_ (fun j a b => h3 j (by omega) b) ?_ (fun j a b => h5 j (by omega) b) h6 ?_ n (by omega))) (fun z => ⟨hin3, vp_in_nI (by omega) (by omega), nm_e ⟨hin3, nm_e (nm_e (nm_r (sw_j i) (ih (i + 1) _ _ _ (by omega) ?_ ?_ ?_ ?_ ?_ ?_ ?_ n (by omega))))⟩⟩)
    · intro j hj
      by_cases e : j = i
      · subst e
        rw [h3 j (by omega) (by omega), sw_if z]
      · exact h2 j (by omega)
    · intro j hj
      by_cases e : j = i
      · subst e
        rw [h5 j (by omega) (by omega), sw_if z]
      · exact h4 j (by omega)
    · rw [h7]
      exact sw_sm_f (P := fun j => bt m j = true) z
    · intro r hr
      rw [pk_un (by omega)]
      exact h1 r hr
    · intro j hj
      by_cases e : j = i
      · subst e
        rw [pk_us, sw_it (Classical.not_not.mp z)]
      · rw [pk_un (by omega)]
        exact h2 j (by omega)
    · intro j a b
      rw [pk_un (by omega)]
      exact h3 j (by omega) b
    · intro j hj
      by_cases e : j = i
      · subst e
        rw [pk_us, sw_it (Classical.not_not.mp z), h3 j (by omega) (by omega)]
      · rw [pk_un (by omega)]
        exact h4 j (by omega)
    · intro j a b
      rw [pk_un (by omega)]
      exact h5 j (by omega) b
    · intro k hk
      rw [pk_un (by omega)]
      exact h6 k hk
    · rw [h7]
      exact sw_sm_t (P := fun j => bt m j = true) (Classical.not_not.mp z)
theorem xa_save {post : SX → Prop} {l : Nat} {m : Int32} (hl : l < 8) (hns : ns ≤ 4)
    (h : ∀ fil' slt' sv', (∀ r, r < 2 → fil' r = fil r) → (∀ j, j < ns → fil' (j + 2) = sw_i (bt m j = true) 0 (fil (j + 2))) → (∀ j, j < ns → slt' (4 * l + j) = sw_i (bt m j = true) (fil (j + 2)) (slt (4 * l + j))) → (∀ k, k < 4 * l → slt' k = slt k) → sv' = sv + sw_sm (fun j => bt m j = true) ns → post ((nI nf), (nI nb), (nI (2 + ns)), (nI nl), (nI cu), (nI d), st, sv', rs, es, ops, argA, argB, len, br, er, fi, se, raw, pln, rch, tch, rgn, ec, fil', fn, bk, ix, upd hd l (hd l ||| m), slt', enx)) : wpX_save post ((nI nf), (nI nb), (nI (2 + ns)), (nI nl), (nI cu), (nI d), st, sv, rs, es, ops, argA, argB, len, br, er, fi, se, raw, pln, rch, tch, rgn, ec, fil, fn, bk, ix, hd, slt, enx) (nI l) m :=
  ⟨ns + 1, xa_save2 hl hns h ns 0 fil slt sv (by omega) (fun _ _ => rfl) (fun _ hj => absurd hj (Nat.not_lt_zero _)) (fun _ _ _ => rfl) (fun _ hj => absurd hj (Nat.not_lt_zero _)) (fun _ _ _ => rfl) (fun _ _ => rfl) sw_sm_z (ns + 1) (by omega)⟩
theorem xa_31 {post : SX → Prop} {l b : Nat} {z0 : Int32} (hl : l < 8) (hns : ns ≤ 4)
    (h : ∀ sv' rs' fil' hd' slt', sw_Mv ns l (fun j => bt (hd l) j = true) (fun j => bt z0 j = true) sv rs fil hd slt sv' rs' fil' hd' slt' → post ((nI nf), (nI nb), (nI (2 + ns)), (nI nl), (nI cu), (nI d), st, sv', rs', es, ops, argA, argB, len, br, er, fi, se, raw, pln, rch, tch, rgn, ec, fil', fn, upd bk l (nI b), upd ix l 0, hd', slt', enx)) : wX_moveTo_31 post (nI l) (nI b) z0 (nI nf) (nI nb) (nI (2 + ns)) (nI nl) (nI cu) (nI d) st sv rs es ops argA argB len br er fi se raw pln rch tch rgn ec fil fn bk ix hd slt enx := by
  have hin : vp_in (nI l) 8 := vp_in_nI hl (by omega)
  have ecl : (nI l).toNatClampNeg = l := nI_clamp (by omega)
  unfold wX_moveTo_31
  rw [ecl]
  refine And.intro hin (xa_restore hl hns (fun fil1 rs1 a1 a2 a3 => ?_))
  refine And.intro hin (xa_save hl hns (fun fil2 slt2 sv2 b1 b2 b3 b4 b5 => ?_))
  refine And.intro hin (nm_e (And.intro hin (nm_e ?_)))
  have k1 : ∀ j, (bt (hd l &&& (z0 ^^^ (-1))) j = true ↔ bt (hd l) j = true ∧ ¬ bt z0 j = true) := fun j => sw_notB _ _ j
  have k2 : ∀ j, (bt (hd l &&& ((hd l &&& (z0 ^^^ (-1))) ^^^ (-1))) j = true ↔ bt (hd l) j = true ∧ bt z0 j = true) := by
    intro j
    rw [sw_notB, k1 j]
    exact ⟨fun w => ⟨w.1, Classical.not_not.mp (fun z => w.2 ⟨w.1, z⟩)⟩, fun w => ⟨w.1, fun z => z.2 w.2⟩⟩
  rw [pk_us] at b2 b3 b5
  have k3 : ∀ j, (bt (z0 &&& ((hd l &&& ((hd l &&& (z0 ^^^ (-1))) ^^^ (-1))) ^^^ (-1))) j = true ↔ bt z0 j = true ∧ ¬ bt (hd l) j = true) := by
    intro j
    rw [sw_notB, k2 j]
    exact ⟨fun w => ⟨w.1, fun z => w.2 ⟨z, w.1⟩⟩, fun w => ⟨w.1, fun z => w.2 z.1⟩⟩
  have fin := h sv2 rs1 fil2 (upd (upd hd l (hd l &&& ((hd l &&& (z0 ^^^ (-1))) ^^^ (-1)))) l ((upd hd l (hd l &&& ((hd l &&& (z0 ^^^ (-1))) ^^^ (-1)))) l ||| (z0 &&& ((upd hd l (hd l &&& ((hd l &&& (z0 ^^^ (-1))) ^^^ (-1)))) l ^^^ (-1))))) slt2 ?_
  · exact fin
  · refine ⟨fun r hr => (b1 r hr).trans (a1 r hr), ?_, ?_, b4, ?_, ?_, ?_, ?_⟩
    · intro j hj
      rw [b2 j hj, a2 j hj, sw_ic (k3 j), sw_ic (k1 j)]
    · intro j hj
      rw [b3 j hj, sw_ic (k3 j), a2 j hj]
      rcases Classical.em (bt z0 j = true ∧ ¬ bt (hd l) j = true) with z | z
      · rw [sw_it z, sw_it z, sw_if (fun w => z.2 ((k1 j).mp w).1)]
      · rw [sw_if z, sw_if z]
    · intro j
      rw [pk_us, pk_us, sw_orB, k2 j, k3 j]
      constructor
      · rintro (w | w)
        · exact w.2
        · exact w.1
      · intro w
        rcases Classical.em (bt (hd l) j = true) with z | z
        · exact Or.inl ⟨z, w⟩
        · exact Or.inr ⟨w, z⟩
    · intro m hm
      rw [pk_un (by omega), pk_un (by omega)]
    · rw [a3, sw_sm_congr (fun j _ => k1 j)]
    · rw [b5, sw_sm_congr (fun j _ => k3 j)]
theorem xa_moveTo {post : SX → Prop} {l b g : Nat} (hl : l < 8) (hns : ns ≤ 4) (hnf : nf ≤ 4) (hnb : nb ≤ 8) (hb : b < nb) (hg : g < nf) (eg : fn l = nI g) (hV : sw_PV nf nb ops argA argB len br er fi se ns pln rch rgn ec) (hp : ¬ pln g = 0)
    (h : ∀ sv' rs' fil' hd' slt', sw_Mv ns l (fun j => bt (hd l) j = true) (fun j => raw g = 0 ∧ sw_Rg nb ops argA argB len br er fi se g b (j + 2)) sv rs fil hd slt sv' rs' fil' hd' slt' → post ((nI nf), (nI nb), (nI (2 + ns)), (nI nl), (nI cu), (nI d), st, sv', rs', es, ops, argA, argB, len, br, er, fi, se, raw, pln, rch, tch, rgn, ec, fil', fn, upd bk l (nI b), upd ix l 0, hd', slt', enx)) : wpX_moveTo post ((nI nf), (nI nb), (nI (2 + ns)), (nI nl), (nI cu), (nI d), st, sv, rs, es, ops, argA, argB, len, br, er, fi, se, raw, pln, rch, tch, rgn, ec, fil, fn, bk, ix, hd, slt, enx) (nI l) (nI b) := by
  have hin : vp_in (nI l) 8 := vp_in_nI hl (by omega)
  refine And.intro hin ?_
  rw [nI_clamp (by omega : l < 2 ^ 31), eg]
  refine nm_e (And.intro (vp_in_nI (by omega) (by omega)) ?_)
  rw [sw_8, nI_clamp (by omega : g < 2 ^ 31), nI_clamp (by omega : 8 * g + b < 2 ^ 31)]
  refine br_c (fun z => ⟨vp_in_nI (by omega) (by omega), xa_31 hl hns (fun sv' rs' fil' hd' slt' hm => h sv' rs' fil' hd' slt' (sw_Mv_c (fun _ => Iff.rfl) (fun j => ?_) hm))⟩) (fun z => xa_31 hl hns (fun sv' rs' fil' hd' slt' hm => h sv' rs' fil' hd' slt' (sw_Mv_c (fun _ => Iff.rfl) (fun j => ?_) hm)))
  · rw [(hV g hg hp).2.1 b hb j]
    exact ⟨fun w => ⟨z, w⟩, fun w => w.2⟩
  · rw [sw_0B]
    exact ⟨fun w => w.elim, fun w => z w.1⟩
/-! seen -/
theorem xa_seen11 {post : Int32 → Prop} {H : Nat → Nat → Prop} {vrs cel : Nat → Int32} {m r : Nat} (hns : ns ≤ 4) (hd8 : d ≤ 8) (h5 : sw_M5 ns d H vrs cel fil) (h1 : sw_M1 ns d H vrs cel slt) (h2 : sw_M2 d H hd) (hr2 : ∀ m r, r < 2 → ¬ H m r) (hr : r < 2 + ns)
    (h : post (sw_rd H vrs cel m r)) : ∀ q i, i + q = d → m ≤ i → (∀ l, m ≤ l → l < i → ¬ H l r) → ∀ n, q < n → wX_seen_11 post (nI r) (sw_m r) (nI nf) (nI nb) (nI (2 + ns)) (nI nl) (nI cu) (nI d) st sv rs es ops argA argB len br er fi se raw pln rch tch rgn ec fil fn bk ix hd slt enx n (nI i) := by
  intro q
  induction q with
  | zero =>
    intro i hi hm hno n hn
    obtain ⟨n, rfl⟩ : ∃ n', n = n' + 1 := ⟨n - 1, by omega⟩
    have e : i = d := by omega
    refine br_t (nI_le (by omega) (by omega)) ⟨vp_in_nI (by omega) (by omega), ?_⟩
    rw [nI_clamp (by omega), h5 r hr, sw_rd_skip (a := m) (by omega) (fun l a b => hno l a (by omega))]
    exact h
  | succ q ih =>
    intro i hi hm hno n hn
    obtain ⟨n, rfl⟩ : ∃ n', n = n' + 1 := ⟨n - 1, by omega⟩
    have k : (hd i &&& sw_m r) = 0 ↔ ¬ H i r := by
      rcases Nat.lt_or_ge r 2 with z | z
      · have e : sw_m r = 0 := if_pos z
        rw [e, Int32.and_zero]
        exact ⟨fun _ => hr2 i r z, fun _ => rfl⟩
      · obtain ⟨j, rfl⟩ : ∃ j, r = j + 2 := ⟨r - 2, by omega⟩
        rw [sw_mz _ (by omega), h2 i (by omega) j]
    refine br_f (nI_ge (by omega) (by omega)) ⟨vp_in_nI (by omega) (by omega), ?_⟩
    rw [nI_clamp (by omega : i < 2 ^ 31), k]
    refine br_c (fun z => nm_r (nI_1 i) (ih (i + 1) (by omega) (by omega) ?_ n (by omega))) (fun z => ?_)
    · intro l a b
      rcases Nat.lt_or_ge l i with w | w
      · exact hno l a w
      · have e : l = i := by omega
        rw [e]
        exact z
    · have z' := Classical.not_not.mp z
      have r2 : 2 ≤ r := by
        rcases Nat.lt_or_ge r 2 with w | w
        · exact absurd z' (hr2 i r w)
        · exact w
      obtain ⟨j, rfl⟩ : ∃ j, r = j + 2 := ⟨r - 2, by omega⟩
      rw [sw_4, nI_clamp (by omega : 4 * i + j < 2 ^ 31), h1 i (by omega) j (by omega) z', sw_rd_skip (a := m) hm (fun l a b => hno l a b)]
      exact ⟨vp_in_nI (by omega) (by omega), h⟩
theorem xa_seen {post : Int32 → Prop} {H : Nat → Nat → Prop} {vrs cel : Nat → Int32} {m r : Nat} (hns : ns ≤ 4) (hd8 : d ≤ 8) (h5 : sw_M5 ns d H vrs cel fil) (h1 : sw_M1 ns d H vrs cel slt) (h2 : sw_M2 d H hd) (hr2 : ∀ m r, r < 2 → ¬ H m r) (hr : r < 2 + ns) (hm : m ≤ d)
    (h : post (sw_rd H vrs cel m r)) : wpX_seen post ((nI nf), (nI nb), (nI (2 + ns)), (nI nl), (nI cu), (nI d), st, sv, rs, es, ops, argA, argB, len, br, er, fi, se, raw, pln, rch, tch, rgn, ec, fil, fn, bk, ix, hd, slt, enx) (nI m - 1) (nI r) := by
  unfold wpX_seen
  exact xa_bit (by omega) (nm_r (Int32.sub_add_cancel _ _) ⟨d + 1, xa_seen11 hns hd8 h5 h1 h2 hr2 hr h (d - m) m (by omega) (Nat.le_refl _) (fun l a b => by omega) (d + 1) (by omega)⟩)
/-! leave -/
theorem xa_leave2 {post : SX → Prop} {H : Nat → Nat → Prop} {vrs cel : Nat → Int32} {l : Nat} (hns : ns ≤ 4) (hd8 : d ≤ 8) (hl : l < d) (h5 : sw_M5 ns d H vrs cel fil) (h1 : sw_M1 ns d H vrs cel slt) (h2 : sw_M2 d H hd) (hr2 : ∀ m r, r < 2 → ¬ H m r)
    (hbad : ¬ (∀ j, j < ns → sw_rd H vrs cel l (j + 2) = enx (4 * l + j)) → post ((nI nf), (nI nb), (nI (2 + ns)), (nI nl), (nI cu), (nI d), 3, sv, rs, es, ops, argA, argB, len, br, er, fi, se, raw, pln, rch, tch, rgn, ec, fil, fn, bk, ix, hd, slt, enx))
    (hok : (∀ j, j < ns → sw_rd H vrs cel l (j + 2) = enx (4 * l + j)) → ∀ fil' rs' hd' st', (∀ r, r < 2 → fil' r = fil r) → (∀ j, j < ns → fil' (j + 2) = sw_i (H l (j + 2)) (slt (4 * l + j)) (fil (j + 2))) → rs' = rs + sw_sm (fun j => H l (j + 2)) ns → (∀ m, m < l → hd' m = hd m) → (l = 0 → st' = 2) → (l ≠ 0 → st' = st) → post ((nI nf), (nI nb), (nI (2 + ns)), (nI nl), (nI cu), (nI l), st', sv, rs', es, ops, argA, argB, len, br, er, fi, se, raw, pln, rch, tch, rgn, ec, fil', fn, bk, ix, hd', slt, enx)) :
    ∀ q i, i + q = ns → (∀ j, j < i → sw_rd H vrs cel l (j + 2) = enx (4 * l + j)) → ∀ n, q < n → wX_leave_2 post (nI l) (nI nf) (nI nb) (nI (2 + ns)) (nI nl) (nI cu) (nI d) st sv rs es ops argA argB len br er fi se raw pln rch tch rgn ec fil fn bk ix hd slt enx n (nI (i + 2)) := by
  have hin : vp_in (nI l) 8 := vp_in_nI (by omega) (by omega)
  intro q
  induction q with
  | zero =>
    intro i hi he n hn
    obtain ⟨n, rfl⟩ : ∃ n', n = n' + 1 := ⟨n - 1, by omega⟩
    have e : i = ns := by omega
    subst e
    refine br_t (nI_le (by omega) (by omega)) ?_
    rw [nI_clamp (by omega : l < 2 ^ 31)]
    refine ⟨hin, xa_restore (by omega) hns (fun fil' rs' a1 a2 a3 => ?_)⟩
    have c1 : ∀ j, j < i → fil' (j + 2) = sw_i (H l (j + 2)) (slt (4 * l + j)) (fil (j + 2)) := by
      intro j hj
      rw [a2 j hj, sw_ic (h2 l hl j)]
    have c2 : rs' = rs + sw_sm (fun j => H l (j + 2)) i := by
      rw [a3, sw_sm_congr (fun j _ => h2 l hl j)]
    refine br_c (fun z => hok he _ _ _ _ a1 c1 c2 (fun m hm => pk_un (by omega)) (fun _ => rfl) (fun w => absurd ?_ w)) (fun z => hok he _ _ _ _ a1 c1 c2 (fun m hm => pk_un (by omega)) (fun w => absurd ?_ z) (fun _ => rfl))
    · exact sw_eqN (by omega) (by omega) z
    · rw [w]
      rfl
  | succ q ih =>
    intro i hi he n hn
    obtain ⟨n, rfl⟩ : ∃ n', n = n' + 1 := ⟨n - 1, by omega⟩
    refine br_f (nI_ge (by omega) (by omega)) (xa_seen hns hd8 h5 h1 h2 hr2 (by omega) (by omega) ?_)
    refine And.intro (by rw [sw_4]; exact vp_in_nI (by omega) (by omega)) ?_
    rw [sw_4, nI_clamp (by omega : 4 * l + i < 2 ^ 31)]
    refine br_c (fun z => nm_r (sw_j i) (ih (i + 1) (by omega) ?_ n (by omega))) (fun z => hbad (fun w => z (w i (by omega))))
    intro j hj
    by_cases e : j = i
    · subst e
      exact z
    · exact he j (by omega)
theorem xa_leave {post : SX → Prop} {H : Nat → Nat → Prop} {vrs cel : Nat → Int32} {l : Nat} (hns : ns ≤ 4) (hd8 : d ≤ 8) (hl : l < d) (h5 : sw_M5 ns d H vrs cel fil) (h1 : sw_M1 ns d H vrs cel slt) (h2 : sw_M2 d H hd) (hr2 : ∀ m r, r < 2 → ¬ H m r)
    (hbad : ¬ (∀ j, j < ns → sw_rd H vrs cel l (j + 2) = enx (4 * l + j)) → post ((nI nf), (nI nb), (nI (2 + ns)), (nI nl), (nI cu), (nI d), 3, sv, rs, es, ops, argA, argB, len, br, er, fi, se, raw, pln, rch, tch, rgn, ec, fil, fn, bk, ix, hd, slt, enx))
    (hok : (∀ j, j < ns → sw_rd H vrs cel l (j + 2) = enx (4 * l + j)) → ∀ fil' rs' hd' st', (∀ r, r < 2 → fil' r = fil r) → (∀ j, j < ns → fil' (j + 2) = sw_i (H l (j + 2)) (slt (4 * l + j)) (fil (j + 2))) → rs' = rs + sw_sm (fun j => H l (j + 2)) ns → (∀ m, m < l → hd' m = hd m) → (l = 0 → st' = 2) → (l ≠ 0 → st' = st) → post ((nI nf), (nI nb), (nI (2 + ns)), (nI nl), (nI cu), (nI l), st', sv, rs', es, ops, argA, argB, len, br, er, fi, se, raw, pln, rch, tch, rgn, ec, fil', fn, bk, ix, hd', slt, enx)) : wpX_leave post ((nI nf), (nI nb), (nI (2 + ns)), (nI nl), (nI cu), (nI d), st, sv, rs, es, ops, argA, argB, len, br, er, fi, se, raw, pln, rch, tch, rgn, ec, fil, fn, bk, ix, hd, slt, enx) (nI l) :=
  ⟨ns + 1, xa_leave2 hns hd8 hl h5 h1 h2 hr2 hbad hok ns 0 (by omega) (fun _ hj => absurd hj (Nat.not_lt_zero _)) (ns + 1) (by omega)⟩
/-! compute -/
def sw_v (o : Nat) (x y : Int32) : Int32 := if o = 1 ∨ o = 3 then x + y else if o = 4 then x - y else if o = 5 then x * y else y
theorem xa_compute {post : SX → Prop} {o a : Nat} {p2 : Int32} (ho : o ≤ 5) (ha : a < 6) (hb : 2 ≤ o → ∃ b, b < 6 ∧ p2 = nI b)
    (h : post ((nI nf), (nI nb), (nI (2 + ns)), (nI nl), (nI cu), (nI d), st, sv, rs, es, ops, argA, argB, len, br, er, fi, se, raw, pln, rch, tch, rgn, ec, upd fil a (sw_v o (fil a) (if o < 2 then p2 else fil p2.toNatClampNeg)), fn, bk, ix, hd, slt, enx)) : wpX_compute post ((nI nf), (nI nb), (nI (2 + ns)), (nI nl), (nI cu), (nI d), st, sv, rs, es, ops, argA, argB, len, br, er, fi, se, raw, pln, rch, tch, rgn, ec, fil, fn, bk, ix, hd, slt, enx) (nI o) (nI a) p2 := by
  have hin : vp_in (nI a) 6 := vp_in_nI ha (by omega)
  have ecl : (nI a).toNatClampNeg = a := nI_clamp (by omega)
  have hb' : 2 ≤ o → vp_in p2 6 := by
    intro w
    obtain ⟨b, hb6, eb⟩ := hb w
    rw [eb]
    exact vp_in_nI hb6 (by omega)
  unfold wpX_compute
  dsimp only
  rw [ecl]
  have hc : o = 0 ∨ o = 1 ∨ o = 2 ∨ o = 3 ∨ o = 4 ∨ o = 5 := by omega
  rcases hc with rfl | rfl | rfl | rfl | rfl | rfl
  · exact br_f (by decide) (br_f (by decide) (br_t (by decide) ⟨hin, nm_e h⟩))
  · exact br_f (by decide) (br_f (by decide) (br_f (by decide) (br_t (by decide) ⟨hin, hin, nm_e h⟩)))
  · exact br_f (by decide) (br_f (by decide) (br_f (by decide) (br_f (by decide) (br_t (by decide) ⟨hb' (by decide), hin, nm_e h⟩))))
  · exact br_f (by decide) (br_f (by decide) (br_f (by decide) (br_f (by decide) (br_f (by decide) (br_t (by decide) ⟨hin, hb' (by decide), hin, nm_e h⟩)))))
  · exact br_f (by decide) (br_f (by decide) (br_f (by decide) (br_f (by decide) (br_f (by decide) (br_f (by decide) (br_t (by decide) ⟨hin, hb' (by decide), hin, nm_e h⟩))))))
  · exact br_f (by decide) (br_t (by decide) ⟨hin, hb' (by decide), hin, nm_e h⟩)
/-! enter -/
theorem xa_enter7 {post : SX → Prop} {g : Nat} {enx0 : Nat → Int32} (hd8 : d < 8) (hns : ns ≤ 4) (hnf : nf ≤ 4) (hnb : nb ≤ 8) (h0nb : 0 < nb) (hg : g < nf) (hP : sw_PG nf nb ns ops argA argB len er fi se) (hV : sw_PV nf nb ops argA argB len br er fi se ns pln rch rgn ec)
    (h : ∀ pln' rch' tch' rgn' ec' enx' sv' rs' fil' hd' slt', sw_PV nf nb ops argA argB len br er fi se ns pln' rch' rgn' ec' → (∀ f, ¬ pln f = 0 → ¬ pln' f = 0) → ¬ pln' g = 0 → (∀ j, j < ns → enx' (4 * d + j) = fil (j + 2)) → (∀ k, k < 4 * d → enx' k = enx0 k) →
      sw_Mv ns d (fun _ => False) (fun j => raw g = 0 ∧ sw_Rg nb ops argA argB len br er fi se g 0 (j + 2)) sv rs fil (upd hd d 0) slt sv' rs' fil' hd' slt' →
      post ((nI nf), (nI nb), (nI (2 + ns)), (nI nl), (nI cu), (nI (d + 1)), st, sv', rs', (es + sw_sm (fun j => (∃ b, b < nb ∧ sw_To nb ops argA argB len br er fi se (8 * g + b) (j + 2) ∧ sw_Pa nb ops argA argB len br er fi se g 0 b) ∧ raw g = 0) ns), ops, argA, argB, len, br, er, fi, se, raw, pln', rch', tch', rgn', ec', fil', upd fn d (nI g), upd bk d (nI 0), upd ix d 0, hd', slt', enx')) :
    ∀ q i enx', i + q = ns → (∀ j, j < i → enx' (4 * d + j) = fil (j + 2)) → (∀ k, k < 4 * d → enx' k = enx0 k) → ∀ n, q < n → wX_enter_7 post (nI g) (nI d) (nI nf) (nI nb) (nI (2 + ns)) (nI nl) (nI cu) (nI d) st sv rs es n (nI (i + 2)) ops argA argB len br er fi se raw pln rch tch rgn ec fil fn bk ix hd slt enx' := by
  have hin : vp_in (nI d) 8 := vp_in_nI hd8 (by omega)
  have hing : vp_in (nI g) 4 := vp_in_nI (by omega) (by omega)
  have ecd : (nI d).toNatClampNeg = d := nI_clamp (by omega)
  have ecg : (nI g).toNatClampNeg = g := nI_clamp (by omega)
  intro q
  induction q with
  | zero =>
    intro i enx' hi h1 h2 n hn
    obtain ⟨n, rfl⟩ : ∃ n', n = n' + 1 := ⟨n - 1, by omega⟩
    have e : i = ns := by omega
    subst e
    refine br_t (nI_le (by omega) (by omega)) (xa_plan hg hnf hnb hns h0nb hP hV (fun pln' rch' tch' rgn' ec' hV' hp hmono => ?_))
    refine nm_r (nI_1 d) (And.intro hin (nm_e (And.intro hin (nm_e (And.intro hing ?_)))))
    rw [ecd, ecg]
    have mv : ∀ es' : Int32, es' = es + sw_sm (fun j => (∃ b, b < nb ∧ sw_To nb ops argA argB len br er fi se (8 * g + b) (j + 2) ∧ sw_Pa nb ops argA argB len br er fi se g 0 b) ∧ raw g = 0) i → wX_enter_92 post (nI d) (nI nf) (nI nb) (nI (2 + i)) (nI nl) (nI cu) (nI (d + 1)) st sv rs es' ops argA argB len br er fi se raw pln' rch' tch' rgn' ec' fil (upd fn d (nI g)) bk ix (upd hd d 0) slt enx' := by
      intro es' e'
      subst e'
      unfold wX_enter_92
      refine xa_moveTo (b := 0) (g := g) hd8 hns hnf hnb h0nb hg pk_us hV' hp (fun sv' rs' fil' hd' slt' hm => h _ _ _ _ _ _ _ _ _ _ _ hV' hmono hp h1 h2 (sw_Mv_c (fun j => ?_) (fun j => Iff.rfl) hm))
      rw [pk_us, sw_0B]
    refine br_c (fun z => ⟨hing, nm_e (mv _ ?_)⟩) (fun z => mv _ ?_)
    · rw [(hV' g hg hp).2.2]
      refine congrArg (fun w => es + w) (sw_sm_congr ?_)
      exact fun j _ => ⟨fun w => ⟨w, z⟩, fun w => w.1⟩
    · have e0 : sw_sm (fun j => (∃ b, b < nb ∧ sw_To nb ops argA argB len br er fi se (8 * g + b) (j + 2) ∧ sw_Pa nb ops argA argB len br er fi se g 0 b) ∧ raw g = 0) (0 + i) = 0 := sw_sm_end (n := 0) (fun j _ w => z w.2)
      rw [Nat.zero_add] at e0
      rw [e0, Int32.add_zero]
  | succ q ih =>
    intro i enx' hi h1 h2 n hn
    obtain ⟨n, rfl⟩ : ∃ n', n = n' + 1 := ⟨n - 1, by omega⟩
    refine br_f (nI_ge (by omega) (by omega)) ⟨vp_in_nI (by omega) (by omega), ?_⟩
    rw [sw_4, nI_clamp (by omega : 4 * d + i < 2 ^ 31), nI_clamp (by omega : i + 2 < 2 ^ 31)]
    refine ⟨vp_in_nI (by omega) (by omega), nm_e (nm_r (sw_j i) (ih (i + 1) _ (by omega) ?_ ?_ n (by omega)))⟩
    · intro j hj
      by_cases e : j = i
      · subst e
        rw [pk_us]
      · rw [pk_un (by omega)]
        exact h1 j (by omega)
    · intro k hk
      rw [pk_un (by omega)]
      exact h2 k hk
theorem xa_enter {post : SX → Prop} {g : Nat} (hd8 : d < 8) (hns : ns ≤ 4) (hnf : nf ≤ 4) (hnb : nb ≤ 8) (h0nb : 0 < nb) (hg : g < nf) (hP : sw_PG nf nb ns ops argA argB len er fi se) (hV : sw_PV nf nb ops argA argB len br er fi se ns pln rch rgn ec)
    (h : ∀ pln' rch' tch' rgn' ec' enx' sv' rs' fil' hd' slt', sw_PV nf nb ops argA argB len br er fi se ns pln' rch' rgn' ec' → (∀ f, ¬ pln f = 0 → ¬ pln' f = 0) → ¬ pln' g = 0 → (∀ j, j < ns → enx' (4 * d + j) = fil (j + 2)) → (∀ k, k < 4 * d → enx' k = enx k) →
      sw_Mv ns d (fun _ => False) (fun j => raw g = 0 ∧ sw_Rg nb ops argA argB len br er fi se g 0 (j + 2)) sv rs fil (upd hd d 0) slt sv' rs' fil' hd' slt' →
      post ((nI nf), (nI nb), (nI (2 + ns)), (nI nl), (nI cu), (nI (d + 1)), st, sv', rs', (es + sw_sm (fun j => (∃ b, b < nb ∧ sw_To nb ops argA argB len br er fi se (8 * g + b) (j + 2) ∧ sw_Pa nb ops argA argB len br er fi se g 0 b) ∧ raw g = 0) ns), ops, argA, argB, len, br, er, fi, se, raw, pln', rch', tch', rgn', ec', fil', upd fn d (nI g), upd bk d (nI 0), upd ix d 0, hd', slt', enx')) : wpX_enter post ((nI nf), (nI nb), (nI (2 + ns)), (nI nl), (nI cu), (nI d), st, sv, rs, es, ops, argA, argB, len, br, er, fi, se, raw, pln, rch, tch, rgn, ec, fil, fn, bk, ix, hd, slt, enx) (nI g) :=
  ⟨ns + 1, xa_enter7 (enx0 := enx) hd8 hns hnf hnb h0nb hg hP hV h ns 0 enx (by omega) (fun _ hj => absurd hj (Nat.not_lt_zero _)) (fun _ _ => rfl) (ns + 1) (by omega)⟩
end XM
end
section
/-! Y's machine: there is an outcome with the spec, for all posts -/
section YM
variable {nf nb ns nl cu d : Nat} {st sv es : Int32} {ops argA argB len br en er fi se wr cel fn bk ix vrs eny had raw : Nat → Int32}
theorem sw_nlt {i : Nat} (h : ns ≤ i) (hi : i < 100) : 1 + nI ns < nI (i + 2) := by
  rw [sw_1p]
  exact nI_lt (by omega) (by omega)
theorem sw_nnlt {i : Nat} (h : i < ns) (hns : ns ≤ 4) : ¬ 1 + nI ns < nI (i + 2) := by
  rw [sw_1p]
  exact nI_nlt (by omega) (by omega)
theorem ya_note9 {l : Nat} (hC : sw_YC nf nb ops argA argB len br er fi se ns en) (hW : sw_HW raw wr) (hB : sw_HF nf nb fn bk ix) (hl : l < 8) {had0 : Nat → Int32} {sv0 : Int32} :
    ∀ q i had' sv', i + q = ns → (∀ j, j < i → (had' (6 * l + (j + 2)) = 0 ↔ had0 (6 * l + (j + 2)) = 0 ∧ ¬ sw_Ho nb ops argA argB len br er fi se raw fn bk l (j + 2))) → (∀ j, i ≤ j → j < ns → had' (6 * l + (j + 2)) = had0 (6 * l + (j + 2))) → (∀ k, k < 6 * l → had' k = had0 k) → sv' = sv0 + sw_sm (fun j => had0 (6 * l + (j + 2)) = 0 ∧ sw_Ho nb ops argA argB len br er fi se raw fn bk l (j + 2)) i →
    ∃ (had1 : Nat → Int32) (sv1 : Int32), (∀ j, j < ns → (had1 (6 * l + (j + 2)) = 0 ↔ had0 (6 * l + (j + 2)) = 0 ∧ ¬ sw_Ho nb ops argA argB len br er fi se raw fn bk l (j + 2))) ∧ (∀ k, k < 6 * l → had1 k = had0 k) ∧ sv1 = sv0 + sw_sm (fun j => had0 (6 * l + (j + 2)) = 0 ∧ sw_Ho nb ops argA argB len br er fi se raw fn bk l (j + 2)) ns ∧
      ∀ (post : SY → Prop) (n : Nat), q < n → post ((nI nf), (nI nb), (nI ns), (nI nl), (nI cu), st, (nI d), sv1, es, ops, argA, argB, len, en, er, fi, se, wr, cel, fn, bk, ix, vrs, eny, had1) → wY_note_9 post (nI l) (nI nf) (nI nb) (nI ns) (nI nl) (nI cu) st (nI d) es n (nI (i + 2)) sv' ops argA argB len en er fi se wr cel fn bk ix vrs eny had' := by
  have hns : ns ≤ 4 := hC.2.2.2.2.1
  intro q
  induction q with
  | zero =>
    intro i had' sv' hi h1 h2 h3 h4
    have e : i = ns := by omega
    rw [e] at h1 h4
    refine ⟨had', sv', h1, h3, h4, ?_⟩
    intro post n hn hp
    obtain ⟨n, rfl⟩ : ∃ n', n = n' + 1 := ⟨n - 1, by omega⟩
    exact br_t (sw_nlt (by omega) (by omega)) hp
  | succ q ih =>
    intro i had' sv' hi h1 h2 h3 h4
    have hin : vp_in (nI (6 * l + (i + 2))) 48 := vp_in_nI (by omega) (by omega)
    have e0 : had' (6 * l + (i + 2)) = had0 (6 * l + (i + 2)) := h2 i (Nat.le_refl _) (by omega)
    rcases Classical.em (had0 (6 * l + (i + 2)) = 0) with z | z
    · rcases Classical.em (sw_Ho nb ops argA argB len br er fi se raw fn bk l (i + 2)) with w | w
      · obtain ⟨had1, sv1, a1, a2, a3, a4⟩ := ih (i + 1) (upd had' (6 * l + (i + 2)) 1) (sv' + 1) (by omega) (by
          intro j hj
          by_cases e : j = i
          · subst e
            rw [pk_us]
            exact ⟨fun u => absurd u sw_10, fun u => absurd w u.2⟩
          · rw [pk_un (by omega)]
            exact h1 j (by omega)) (by
          intro j a b
          rw [pk_un (by omega)]
          exact h2 j (by omega) b) (by
          intro k hk
          rw [pk_un (by omega)]
          exact h3 k hk) (by
          rw [h4]
          exact sw_sm_t (P := fun j => had0 (6 * l + (j + 2)) = 0 ∧ sw_Ho nb ops argA argB len br er fi se raw fn bk l (j + 2)) ⟨z, w⟩)
        refine ⟨had1, sv1, a1, a2, a3, ?_⟩
        intro post n hn hp
        obtain ⟨n, rfl⟩ : ∃ n', n = n' + 1 := ⟨n - 1, by omega⟩
        refine br_f (sw_nnlt (by omega) hns) ?_
        rw [sw_6y, nI_clamp (by omega : 6 * l + (i + 2) < 2 ^ 31)]
        refine ⟨hin, br_t (e0.trans z) (ya_holds hC hW hB hl (by omega) (fun _ => br_f sw_10 ⟨hin, nm_r (congrArg (upd had' (6 * l + (i + 2))) sw_b1) (nm_e (nm_r (sw_j i) (a4 post n (by omega) hp)))⟩) (fun u => absurd w u))⟩
      · obtain ⟨had1, sv1, a1, a2, a3, a4⟩ := ih (i + 1) had' sv' (by omega) (by
          intro j hj
          by_cases e : j = i
          · subst e
            rw [e0]
            exact ⟨fun u => ⟨u, w⟩, fun u => u.1⟩
          · exact h1 j (by omega)) (fun j a b => h2 j (by omega) b) h3 (by
          rw [h4]
          exact sw_sm_f (P := fun j => had0 (6 * l + (j + 2)) = 0 ∧ sw_Ho nb ops argA argB len br er fi se raw fn bk l (j + 2)) (fun u => w u.2))
        refine ⟨had1, sv1, a1, a2, a3, ?_⟩
        intro post n hn hp
        obtain ⟨n, rfl⟩ : ∃ n', n = n' + 1 := ⟨n - 1, by omega⟩
        refine br_f (sw_nnlt (by omega) hns) ?_
        rw [sw_6y, nI_clamp (by omega : 6 * l + (i + 2) < 2 ^ 31)]
        refine ⟨hin, br_t (e0.trans z) (ya_holds hC hW hB hl (by omega) (fun u => absurd u w) (fun _ => br_t rfl (nm_r (sw_j i) (a4 post n (by omega) hp))))⟩
    · obtain ⟨had1, sv1, a1, a2, a3, a4⟩ := ih (i + 1) had' sv' (by omega) (by
        intro j hj
        by_cases e : j = i
        · subst e
          rw [e0]
          exact ⟨fun u => absurd u z, fun u => u.1⟩
        · exact h1 j (by omega)) (fun j a b => h2 j (by omega) b) h3 (by
        rw [h4]
        exact sw_sm_f (P := fun j => had0 (6 * l + (j + 2)) = 0 ∧ sw_Ho nb ops argA argB len br er fi se raw fn bk l (j + 2)) (fun u => z u.1))
      refine ⟨had1, sv1, a1, a2, a3, ?_⟩
      intro post n hn hp
      obtain ⟨n, rfl⟩ : ∃ n', n = n' + 1 := ⟨n - 1, by omega⟩
      refine br_f (sw_nnlt (by omega) hns) ?_
      rw [sw_6y, nI_clamp (by omega : 6 * l + (i + 2) < 2 ^ 31)]
      exact ⟨hin, br_f (fun u => z (e0.symm.trans u)) (nm_r (sw_j i) (a4 post n (by omega) hp))⟩
theorem ya_note {l : Nat} (hC : sw_YC nf nb ops argA argB len br er fi se ns en) (hW : sw_HW raw wr) (hB : sw_HF nf nb fn bk ix) (hl : l < 8) :
    ∃ (had1 : Nat → Int32) (sv1 : Int32), (∀ j, j < ns → (had1 (6 * l + (j + 2)) = 0 ↔ had (6 * l + (j + 2)) = 0 ∧ ¬ sw_Ho nb ops argA argB len br er fi se raw fn bk l (j + 2))) ∧ (∀ k, k < 6 * l → had1 k = had k) ∧ sv1 = sv + sw_sm (fun j => had (6 * l + (j + 2)) = 0 ∧ sw_Ho nb ops argA argB len br er fi se raw fn bk l (j + 2)) ns ∧
      ∀ post : SY → Prop, post ((nI nf), (nI nb), (nI ns), (nI nl), (nI cu), st, (nI (l + 1)), sv1, es, ops, argA, argB, len, en, er, fi, se, wr, cel, fn, bk, ix, vrs, eny, had1) → wpY_note post ((nI nf), (nI nb), (nI ns), (nI nl), (nI cu), st, (nI (l + 1)), sv, es, ops, argA, argB, len, en, er, fi, se, wr, cel, fn, bk, ix, vrs, eny, had) := by
  obtain ⟨had1, sv1, a1, a2, a3, a4⟩ := ya_note9 (d := l + 1) (nl := nl) (cu := cu) (st := st) (es := es) (cel := cel) (vrs := vrs) (eny := eny) hC hW hB hl (had0 := had) (sv0 := sv) ns 0 had sv (by omega) (fun _ hj => absurd hj (Nat.not_lt_zero _)) (fun _ _ _ => rfl) (fun _ _ => rfl) sw_sm_z
  exact ⟨had1, sv1, a1, a2, a3, fun post hp => nm_r (nI_pred l) ⟨ns + 1, a4 post (ns + 1) (by omega) hp⟩⟩
/-! enter -/
theorem ya_72 {post : SY → Prop} {J : Int32 → Int32 → (Nat → Int32) → (Nat → Int32) → (Nat → Int32) → (Nat → Int32) → (Nat → Int32) → (Nat → Int32) → (Nat → Int32) → (Nat → Int32) → (Nat → Int32) → (Nat → Int32) → (Nat → Int32) → (Nat → Int32) → (Nat → Int32) → (Nat → Int32) → (Nat → Int32) → (Nat → Int32) →  Prop} {g r : Nat} (hC : sw_YC nf nb ops argA argB len br er fi se ns en) (hW : sw_HW raw wr) (hg : g < 4) (hr : r < 6)
    (h : J (nI (r + 1)) (es + sw_i ((∃ b, b < nb ∧ sw_To nb ops argA argB len br er fi se (8 * g + b) r ∧ sw_Pa nb ops argA argB len br er fi se g 0 b) ∧ raw g = 0) 1 0) ops argA argB len en er fi se wr cel fn bk ix vrs eny had) :
    ∀ q i x3, i + q = nb → (¬ x3 = 0 ↔ ∃ b, b < i ∧ sw_To nb ops argA argB len br er fi se (8 * g + b) r ∧ sw_Pa nb ops argA argB len br er fi se g 0 b) → ∀ n, q < n → wY_enter_72 post J (nI g) (nI r) (nI nf) (nI nb) (nI ns) (nI nl) (nI cu) st (nI d) sv es ops argA argB len en er fi se wr cel fn bk ix vrs eny had n x3 (nI i) := by
  have hnb : nb ≤ 8 := hC.2.2.2.1
  have hnb0 : 0 < nb := hC.2.2.2.2.2
  intro q
  induction q with
  | zero =>
    intro i x3 hi h3 n hn
    obtain ⟨n, rfl⟩ : ∃ n', n = n' + 1 := ⟨n - 1, by omega⟩
    have e : i = nb := by omega
    rw [e] at h3
    refine br_t (nI_le (by omega) (by omega)) ?_
    rw [nI_clamp (by omega : g < 2 ^ 31)]
    rcases Classical.em (x3 = 0) with z | z
    · rw [sw_if (fun w => (h3.mpr w.1) z), Int32.add_zero] at h
      exact br_t z (nm_r (nI_1 r) h)
    · refine br_f z ⟨vp_in_nI (by omega) (by omega), ?_⟩
      rcases hW g hg with w | w
      · rw [sw_it ⟨h3.mp z, w.1⟩] at h
        exact br_f w.2 (nm_e (nm_r (nI_1 r) h))
      · rw [sw_if (fun u => w.1 u.2), Int32.add_zero] at h
        exact br_t w.2 (nm_r (nI_1 r) h)
  | succ q ih =>
    intro i x3 hi h3 n hn
    obtain ⟨n, rfl⟩ : ∃ n', n = n' + 1 := ⟨n - 1, by omega⟩
    have hi' : i < nb := by omega
    have no : ¬ (sw_To nb ops argA argB len br er fi se (8 * g + i) r ∧ sw_Pa nb ops argA argB len br er fi se g 0 i) → (¬ x3 = 0 ↔ ∃ b, b < i + 1 ∧ sw_To nb ops argA argB len br er fi se (8 * g + b) r ∧ sw_Pa nb ops argA argB len br er fi se g 0 b) := by
      intro no
      refine h3.trans ⟨fun ⟨x, hx, w⟩ => ⟨x, by omega, w⟩, fun ⟨x, hx, w⟩ => ?_⟩
      rcases Nat.lt_or_ge x i with z | z
      · exact ⟨x, z, w⟩
      · have e : x = i := by omega
        rw [e] at w
        exact absurd w no
    refine br_f (nI_ge hi' (by omega)) (ya_touches hg hC hi' hr (fun ht => br_f sw_10 (ya_path hg hC hnb0 hi' (fun p => br_f sw_10 (nm_r (nI_1 i) (ih (i + 1) 1 (by omega) ⟨fun _ => ⟨i, by omega, ht, p⟩, fun _ => sw_10⟩ n (by omega)))) (fun p => br_t rfl (nm_r (nI_1 i) (ih (i + 1) x3 (by omega) (no (fun w => p w.2)) n (by omega)))))) (fun ht => br_t rfl (nm_r (nI_1 i) (ih (i + 1) x3 (by omega) (no (fun w => ht w.1)) n (by omega)))))
theorem sw_HF_u {l g b i : Nat} (hB : sw_HF nf nb fn bk ix) (hg : g < nf) (hb : b < nb) (hi : i ≤ 6) : sw_HF nf nb (upd fn l (nI g)) (upd bk l (nI b)) (upd ix l (nI i)) := by
  intro m
  by_cases e : m = l
  · subst e
    rw [pk_us, pk_us, pk_us]
    exact ⟨⟨g, hg, rfl⟩, ⟨b, hb, rfl⟩, ⟨i, hi, rfl⟩⟩
  · rw [pk_un e, pk_un e, pk_un e]
    exact hB m
theorem ya_enter2 {g : Nat} (hC : sw_YC nf nb ops argA argB len br er fi se ns en) (hW : sw_HW raw wr) (hB : sw_HF nf nb fn bk ix) (hd8 : d < 8) (hg : g < nf) {eny0 vrs0 had0 : Nat → Int32} {es0 : Int32} :
    ∀ q i eny' vrs' had' es', i + q = ns → (∀ j, j < i → eny' (6 * d + (j + 2)) = sw_rd (sw_Ho nb ops argA argB len br er fi se raw fn bk) vrs0 cel d (j + 2) ∧ vrs' (6 * d + (j + 2)) = 0 ∧ had' (6 * d + (j + 2)) = 0) → (∀ k, k < 6 * d → eny' k = eny0 k ∧ vrs' k = vrs0 k ∧ had' k = had0 k) → es' = es0 + sw_sm (fun j => (∃ b, b < nb ∧ sw_To nb ops argA argB len br er fi se (8 * g + b) (j + 2) ∧ sw_Pa nb ops argA argB len br er fi se g 0 b) ∧ raw g = 0) i →
    ∃ (eny1 vrs1 had1 had2 : Nat → Int32) (sv2 : Int32), (∀ j, j < ns → eny1 (6 * d + (j + 2)) = sw_rd (sw_Ho nb ops argA argB len br er fi se raw fn bk) vrs0 cel d (j + 2) ∧ vrs1 (6 * d + (j + 2)) = 0 ∧ had1 (6 * d + (j + 2)) = 0) ∧ (∀ k, k < 6 * d → eny1 k = eny0 k ∧ vrs1 k = vrs0 k ∧ had1 k = had0 k) ∧
      (∀ j, j < ns → (had2 (6 * d + (j + 2)) = 0 ↔ had1 (6 * d + (j + 2)) = 0 ∧ ¬ sw_Ho nb ops argA argB len br er fi se raw (upd fn d (nI g)) (upd bk d (nI 0)) d (j + 2))) ∧ (∀ k, k < 6 * d → had2 k = had1 k) ∧ sv2 = sv + sw_sm (fun j => had1 (6 * d + (j + 2)) = 0 ∧ sw_Ho nb ops argA argB len br er fi se raw (upd fn d (nI g)) (upd bk d (nI 0)) d (j + 2)) ns ∧
      ∀ (post : SY → Prop) (n : Nat), q < n → post ((nI nf), (nI nb), (nI ns), (nI nl), (nI cu), st, (nI (d + 1)), sv2, (es0 + sw_sm (fun j => (∃ b, b < nb ∧ sw_To nb ops argA argB len br er fi se (8 * g + b) (j + 2) ∧ sw_Pa nb ops argA argB len br er fi se g 0 b) ∧ raw g = 0) ns), ops, argA, argB, len, en, er, fi, se, wr, cel, upd fn d (nI g), upd bk d (nI 0), upd ix d 0, vrs1, eny1, had2) → wY_enter_2 post (nI g) (nI nf) (nI nb) (nI ns) (nI nl) (nI cu) st (nI d) sv n (nI (i + 2)) es' ops argA argB len en er fi se wr cel fn bk ix vrs' eny' had' := by
  have hns : ns ≤ 4 := hC.2.2.2.2.1
  have hnf : nf ≤ 4 := hC.2.2.1
  have hnb0 : 0 < nb := hC.2.2.2.2.2
  have hin : vp_in (nI d) 8 := vp_in_nI hd8 (by omega)
  have ecd : (nI d).toNatClampNeg = d := nI_clamp (by omega)
  intro q
  induction q with
  | zero =>
    intro i eny' vrs' had' es' hi h1 h2 h3
    have e : i = ns := by omega
    rw [e] at h1 h3
    obtain ⟨had2, sv2, a1, a2, a3, a4⟩ := ya_note (l := d) (nl := nl) (cu := cu) (st := st) (es := es') (sv := sv) (had := had') (cel := cel) (vrs := vrs') (eny := eny') hC hW (sw_HF_u (l := d) (i := 0) hB hg hnb0 (by omega)) hd8
    refine ⟨eny', vrs', had', had2, sv2, h1, h2, a1, a2, a3, ?_⟩
    intro post n hn hp
    obtain ⟨n, rfl⟩ : ∃ n', n = n' + 1 := ⟨n - 1, by omega⟩
    subst h3
    refine br_t (sw_nlt (by omega) (by omega)) ?_
    rw [ecd]
    exact ⟨hin, nm_e ⟨hin, nm_e ⟨hin, nm_e (nm_r (nI_1 d) (a4 _ hp))⟩⟩⟩
  | succ q ih =>
    intro i eny' vrs' had' es' hi h1 h2 h3
    have hin3 : vp_in (nI (6 * d + (i + 2))) 48 := vp_in_nI (by omega) (by omega)
    obtain ⟨eny1, vrs1, had1, had2, sv2, a1, a2, a3, a4, a5, a6⟩ := ih (i + 1) (upd eny' (6 * d + (i + 2)) (sw_rd (sw_Ho nb ops argA argB len br er fi se raw fn bk) vrs0 cel d (i + 2))) (upd vrs' (6 * d + (i + 2)) 0) (upd had' (6 * d + (i + 2)) 0) (es' + sw_i ((∃ b, b < nb ∧ sw_To nb ops argA argB len br er fi se (8 * g + b) (i + 2) ∧ sw_Pa nb ops argA argB len br er fi se g 0 b) ∧ raw g = 0) 1 0) (by omega) (by
      intro j hj
      by_cases e : j = i
      · subst e
        exact ⟨pk_us, pk_us, pk_us⟩
      · rw [pk_un (by omega), pk_un (by omega), pk_un (by omega)]
        exact h1 j (by omega)) (by
      intro k hk
      rw [pk_un (by omega), pk_un (by omega), pk_un (by omega)]
      exact h2 k hk) (by
      rw [h3, Int32.add_assoc]
      rfl)
    refine ⟨eny1, vrs1, had1, had2, sv2, a1, a2, a3, a4, a5, ?_⟩
    intro post n hn hp
    obtain ⟨n, rfl⟩ : ∃ n', n = n' + 1 := ⟨n - 1, by omega⟩
    refine br_f (sw_nnlt (by omega) hns) (ya_read hC hW hB (by omega) (by omega) ?_)
    have e1 : sw_rd (sw_Ho nb ops argA argB len br er fi se raw fn bk) vrs' cel d (i + 2) = sw_rd (sw_Ho nb ops argA argB len br er fi se raw fn bk) vrs0 cel d (i + 2) := sw_rd_congr rfl (fun _ _ => Iff.rfl) (fun l hl => (h2 _ (by omega)).2.1)
    rw [e1, sw_6y, nI_clamp (by omega : 6 * d + (i + 2) < 2 ^ 31)]
    exact ⟨hin3, nm_e ⟨hin3, nm_e ⟨hin3, nm_r (congrArg (upd had' (6 * d + (i + 2))) sw_b0) ⟨nb + 1, ya_72 hC hW (by omega) (by omega) (a6 post n (by omega) hp) nb 0 0 (by omega) ⟨fun w => absurd rfl w, fun ⟨_, hb, _⟩ => absurd hb (Nat.not_lt_zero _)⟩ (nb + 1) (by omega)⟩⟩⟩⟩
theorem ya_enter {g : Nat} (hC : sw_YC nf nb ops argA argB len br er fi se ns en) (hW : sw_HW raw wr) (hB : sw_HF nf nb fn bk ix) (hd8 : d < 8) (hg : g < nf) :
    ∃ (eny1 vrs1 had1 had2 : Nat → Int32) (sv2 : Int32), (∀ j, j < ns → eny1 (6 * d + (j + 2)) = sw_rd (sw_Ho nb ops argA argB len br er fi se raw fn bk) vrs cel d (j + 2) ∧ vrs1 (6 * d + (j + 2)) = 0 ∧ had1 (6 * d + (j + 2)) = 0) ∧ (∀ k, k < 6 * d → eny1 k = eny k ∧ vrs1 k = vrs k ∧ had1 k = had k) ∧
      (∀ j, j < ns → (had2 (6 * d + (j + 2)) = 0 ↔ had1 (6 * d + (j + 2)) = 0 ∧ ¬ sw_Ho nb ops argA argB len br er fi se raw (upd fn d (nI g)) (upd bk d (nI 0)) d (j + 2))) ∧ (∀ k, k < 6 * d → had2 k = had1 k) ∧ sv2 = sv + sw_sm (fun j => had1 (6 * d + (j + 2)) = 0 ∧ sw_Ho nb ops argA argB len br er fi se raw (upd fn d (nI g)) (upd bk d (nI 0)) d (j + 2)) ns ∧
      ∀ post : SY → Prop, post ((nI nf), (nI nb), (nI ns), (nI nl), (nI cu), st, (nI (d + 1)), sv2, (es + sw_sm (fun j => (∃ b, b < nb ∧ sw_To nb ops argA argB len br er fi se (8 * g + b) (j + 2) ∧ sw_Pa nb ops argA argB len br er fi se g 0 b) ∧ raw g = 0) ns), ops, argA, argB, len, en, er, fi, se, wr, cel, upd fn d (nI g), upd bk d (nI 0), upd ix d 0, vrs1, eny1, had2) → wpY_enter post ((nI nf), (nI nb), (nI ns), (nI nl), (nI cu), st, (nI d), sv, es, ops, argA, argB, len, en, er, fi, se, wr, cel, fn, bk, ix, vrs, eny, had) (nI g) := by
  obtain ⟨eny1, vrs1, had1, had2, sv2, a1, a2, a3, a4, a5, a6⟩ := ya_enter2 (nl := nl) (cu := cu) (st := st) (sv := sv) (cel := cel) hC hW hB hd8 hg (eny0 := eny) (vrs0 := vrs) (had0 := had) (es0 := es) ns 0 eny vrs had es (by omega) (fun _ hj => absurd hj (Nat.not_lt_zero _)) (fun _ _ => ⟨rfl, rfl, rfl⟩) sw_sm_z
  exact ⟨eny1, vrs1, had1, had2, sv2, a1, a2, a3, a4, a5, fun post hp => ⟨ns + 1, a6 post (ns + 1) (by omega) hp⟩⟩
/-! execute -/
theorem ya_87 {a : Nat} {v : Int32} (hC : sw_YC nf nb ops argA argB len br er fi se ns en) (hW : sw_HW raw wr) (hB : sw_HF nf nb fn bk ix) (ha : a < 6) (hd8 : d ≤ 8) :
    ∀ m, m ≤ d → (∀ l, m ≤ l → l < d → ¬ sw_Ho nb ops argA argB len br er fi se raw fn bk l a) → ∃ vrs' cel', sw_Wr d (sw_Ho nb ops argA argB len br er fi se raw fn bk) a v vrs cel vrs' cel' ∧ ∀ (post : SY → Prop) (n : Nat), m < n → post ((nI nf), (nI nb), (nI ns), (nI nl), (nI cu), st, (nI d), sv, es, ops, argA, argB, len, en, er, fi, se, wr, cel', fn, bk, ix, vrs', eny, had) → wY_execute_87 post (nI a) v (nI nf) (nI nb) (nI ns) (nI nl) (nI cu) st (nI d) sv es ops argA argB len en er fi se wr cel fn bk ix vrs eny had n (nI m - 1) := by
  intro m
  induction m with
  | zero =>
    intro hm hno
    refine ⟨vrs, upd cel a v, Or.inr ⟨fun l hl => hno l (Nat.zero_le _) hl, rfl, rfl⟩, ?_⟩
    intro post n hn hp
    obtain ⟨n, rfl⟩ : ∃ n', n = n' + 1 := ⟨n - 1, by omega⟩
    refine br_t (by decide) ⟨vp_in_nI ha (by omega), ?_⟩
    rw [nI_clamp (by omega)]
    exact nm_e hp
  | succ m ih =>
    intro hm hno
    rcases Classical.em (sw_Ho nb ops argA argB len br er fi se raw fn bk m a) with z | z
    · refine ⟨upd vrs (6 * m + a) v, cel, Or.inl ⟨m, by omega, z, fun l h1 h2 => hno l (by omega) h2, rfl, rfl⟩, ?_⟩
      intro post n hn hp
      obtain ⟨n, rfl⟩ : ∃ n', n = n' + 1 := ⟨n - 1, by omega⟩
      rw [nI_pred]
      refine br_f (nI_pos (by omega)) (ya_holds hC hW hB (by omega) ha (fun _ => br_f sw_10 ?_) (fun u => absurd z u))
      rw [sw_6y, nI_clamp (by omega)]
      exact ⟨vp_in_nI (by omega) (by omega), nm_e hp⟩
    · obtain ⟨vrs', cel', a1, a2⟩ := ih (by omega) (by
        intro l h1 h2
        by_cases e : l = m
        · rw [e]
          exact z
        · exact hno l (by omega) h2)
      refine ⟨vrs', cel', a1, ?_⟩
      intro post n hn hp
      obtain ⟨n, rfl⟩ : ∃ n', n = n' + 1 := ⟨n - 1, by omega⟩
      rw [nI_pred]
      exact br_f (nI_pos (by omega)) (ya_holds hC hW hB (by omega) ha (fun u => absurd u z) (fun _ => br_t rfl (nm_r (Int32.sub_eq_add_neg _ _).symm (a2 post n (by omega) hp))))
theorem ya_34 {post : SY → Prop} {o a : Nat} {x y : Int32} (ho : o ≤ 5) (h : ∃ n, wY_execute_87 post (nI a) (sw_v o x y) (nI nf) (nI nb) (nI ns) (nI nl) (nI cu) st (nI d) sv es ops argA argB len en er fi se wr cel fn bk ix vrs eny had n (nI d - 1)) : wY_execute_34 post (nI o) (nI a) x y (nI nf) (nI nb) (nI ns) (nI nl) (nI cu) st (nI d) sv es ops argA argB len en er fi se wr cel fn bk ix vrs eny had := by
  have hc : o = 0 ∨ o = 1 ∨ o = 2 ∨ o = 3 ∨ o = 4 ∨ o = 5 := by omega
  unfold wY_execute_34 wY_execute_48 wY_execute_55 wY_execute_67
  rcases hc with rfl | rfl | rfl | rfl | rfl | rfl
  · exact br_f (by decide) (br_f (by decide) (br_f (by decide) (br_f (by decide) (nm_e h))))
  · exact br_t (by decide) (nm_e (br_f (by decide) (br_f (by decide) (nm_e h))))
  · exact br_f (by decide) (br_f (by decide) (br_f (by decide) (br_f (by decide) (nm_e h))))
  · exact br_f (by decide) (br_t (by decide) (nm_e (br_f (by decide) (br_f (by decide) (nm_e h)))))
  · exact br_f (by decide) (br_f (by decide) (br_t (by decide) (nm_e (br_f (by decide) (nm_e h)))))
  · exact br_f (by decide) (br_f (by decide) (br_f (by decide) (br_t (by decide) (nm_e (nm_e h)))))
theorem ya_execute {o a : Nat} {p2 : Int32} (hC : sw_YC nf nb ops argA argB len br er fi se ns en) (hW : sw_HW raw wr) (hB : sw_HF nf nb fn bk ix) (ho : o ≤ 5) (ha : a < 6) (hb : 2 ≤ o → ∃ b, b < 6 ∧ p2 = nI b) (hd8 : d ≤ 8) :
    ∃ vrs' cel', sw_Wr d (sw_Ho nb ops argA argB len br er fi se raw fn bk) a (sw_v o (sw_rd (sw_Ho nb ops argA argB len br er fi se raw fn bk) vrs cel d a) (if o < 2 then p2 else sw_rd (sw_Ho nb ops argA argB len br er fi se raw fn bk) vrs cel d p2.toNatClampNeg)) vrs cel vrs' cel' ∧ ∀ post : SY → Prop, post ((nI nf), (nI nb), (nI ns), (nI nl), (nI cu), st, (nI d), sv, es, ops, argA, argB, len, en, er, fi, se, wr, cel', fn, bk, ix, vrs', eny, had) → wpY_execute post ((nI nf), (nI nb), (nI ns), (nI nl), (nI cu), st, (nI d), sv, es, ops, argA, argB, len, en, er, fi, se, wr, cel, fn, bk, ix, vrs, eny, had) (nI o) (nI a) p2 := by
  obtain ⟨vrs', cel', a1, a2⟩ := ya_87 (v := sw_v o (sw_rd (sw_Ho nb ops argA argB len br er fi se raw fn bk) vrs cel d a) (if o < 2 then p2 else sw_rd (sw_Ho nb ops argA argB len br er fi se raw fn bk) vrs cel d p2.toNatClampNeg)) (nl := nl) (cu := cu) (st := st) (sv := sv) (es := es) (eny := eny) (had := had) (vrs := vrs) (cel := cel) hC hW hB ha hd8 d (Nat.le_refl _) (fun l h1 h2 => by omega)
  refine ⟨vrs', cel', a1, ?_⟩
  intro post hp
  have fin := a2 post (d + 1) (by omega) hp
  unfold wpY_execute
  refine ya_read hC hW hB hd8 ha ?_
  rcases Nat.lt_or_ge o 2 with z | z
  · rw [if_pos z] at fin
    exact br_t (nI_lt (b := 2) z (by decide)) (ya_34 ho ⟨d + 1, fin⟩)
  · rw [if_neg (by omega)] at fin
    obtain ⟨b, hb6, eb⟩ := hb z
    subst eb
    rw [nI_clamp (by omega : b < 2 ^ 31)] at fin
    exact br_f (nI_nlt (b := 2) z (by omega)) (ya_read hC hW hB hd8 hb6 (ya_34 ho ⟨d + 1, fin⟩))
/-! the check at the end of an invocation -/
theorem ya_205 {l : Nat} (hC : sw_YC nf nb ops argA argB len br er fi se ns en) (hW : sw_HW raw wr) (hB : sw_HF nf nb fn bk ix) (hl : l < 8) {post : SY → Prop}
    (hbad : ¬ (∀ j, j < ns → sw_rd (sw_Ho nb ops argA argB len br er fi se raw fn bk) vrs cel l (j + 2) = eny (6 * l + (j + 2))) → post ((nI nf), (nI nb), (nI ns), (nI nl), (nI cu), 3, (nI (l + 1)), sv, es, ops, argA, argB, len, en, er, fi, se, wr, cel, fn, bk, ix, vrs, eny, had))
    (hok : (∀ j, j < ns → sw_rd (sw_Ho nb ops argA argB len br er fi se raw fn bk) vrs cel l (j + 2) = eny (6 * l + (j + 2))) → ∀ st', (l = 0 → st' = 2) → (l ≠ 0 → st' = st) → post ((nI nf), (nI nb), (nI ns), (nI nl), (nI cu), st', (nI l), sv, es, ops, argA, argB, len, en, er, fi, se, wr, cel, fn, bk, ix, vrs, eny, had)) :
    ∀ q i, i + q = ns → (∀ j, j < i → sw_rd (sw_Ho nb ops argA argB len br er fi se raw fn bk) vrs cel l (j + 2) = eny (6 * l + (j + 2))) → ∀ n, q < n → wY_step_205 post (nI l) (nI nf) (nI nb) (nI ns) (nI nl) (nI cu) st (nI (l + 1)) sv es ops argA argB len en er fi se wr cel fn bk ix vrs eny had n (nI (i + 2)) := by
  have hns : ns ≤ 4 := hC.2.2.2.2.1
  intro q
  induction q with
  | zero =>
    intro i hi he n hn
    obtain ⟨n, rfl⟩ : ∃ n', n = n' + 1 := ⟨n - 1, by omega⟩
    have e : i = ns := by omega
    rw [e] at he
    refine br_t (sw_nlt (by omega) (by omega)) (nm_r (nI_pred l) (br_c (fun z => hok he _ (fun _ => rfl) (fun w => absurd (sw_eqN (b := 0) (by omega) (by decide) z) w)) (fun z => hok he _ (fun w => absurd ?_ z) (fun _ => rfl))))
    rw [w]
    rfl
  | succ q ih =>
    intro i hi he n hn
    obtain ⟨n, rfl⟩ : ∃ n', n = n' + 1 := ⟨n - 1, by omega⟩
    refine br_f (sw_nnlt (by omega) hns) (ya_read hC hW hB (by omega) (by omega) ?_)
    rw [sw_6y, nI_clamp (by omega : 6 * l + (i + 2) < 2 ^ 31)]
    refine ⟨vp_in_nI (by omega) (by omega), br_c (fun z => nm_r (sw_j i) (ih (i + 1) (by omega) ?_ n (by omega))) (fun z => hbad (fun w => z (w i (by omega))))⟩
    intro j hj
    by_cases e : j = i
    · subst e
      exact z
    · exact he j (by omega)
end YM
end
section
/-! the relation -/
def sw_RG (nf nb ns nl cu d : Nat) (sv rs : Int32) (ops argA argB len br en er fi se raw wr pln rch rgn ec fil fn bk ix hd slt enx cel vrs eny had : Nat → Int32) : Prop :=
  sw_SZ nf nb ns nl cu d ∧ sw_PG nf nb ns ops argA argB len er fi se ∧ sw_HE br en ∧ sw_HW raw wr ∧ sw_PV nf nb ops argA argB len br er fi se ns pln rch rgn ec ∧ sw_HF nf nb fn bk ix ∧ (∀ l, l < d → ¬ pln (fn l).toNatClampNeg = 0) ∧ sw_MC ns d (sw_Ho nb ops argA argB len br er fi se raw fn bk) (sw_Fu nb ops argA argB len br er fi se fn bk) sv rs fil hd slt enx cel vrs eny had
def sw_Q (u : SX) (v : SY) : Prop := ∃ (nf nb ns nl cu d : Nat) (st sv rs es : Int32) (ops argA argB len br en er fi se raw wr pln rch tch rgn ec fil fn bk ix hd slt enx cel vrs eny had : Nat → Int32), u = ((nI nf), (nI nb), (nI (2 + ns)), (nI nl), (nI cu), (nI d), st, sv, rs, es, ops, argA, argB, len, br, er, fi, se, raw, pln, rch, tch, rgn, ec, fil, fn, bk, ix, hd, slt, enx) ∧ v = ((nI nf), (nI nb), (nI ns), (nI nl), (nI cu), st, (nI d), sv, es, ops, argA, argB, len, en, er, fi, se, wr, cel, fn, bk, ix, vrs, eny, had) ∧ sw_RG nf nb ns nl cu d sv rs ops argA argB len br en er fi se raw wr pln rch rgn ec fil fn bk ix hd slt enx cel vrs eny had ∧ (st = 1 → 0 < d)
theorem sw_el {Z : SX → SY → Prop} {u : SX} {v : SY} (h : ∀ (nf nb ns nl cu d : Nat) (st sv rs es : Int32) (ops argA argB len br en er fi se raw wr pln rch tch rgn ec fil fn bk ix hd slt enx cel vrs eny had : Nat → Int32), sw_RG nf nb ns nl cu d sv rs ops argA argB len br en er fi se raw wr pln rch rgn ec fil fn bk ix hd slt enx cel vrs eny had → (st = 1 → 0 < d) → Z ((nI nf), (nI nb), (nI (2 + ns)), (nI nl), (nI cu), (nI d), st, sv, rs, es, ops, argA, argB, len, br, er, fi, se, raw, pln, rch, tch, rgn, ec, fil, fn, bk, ix, hd, slt, enx) ((nI nf), (nI nb), (nI ns), (nI nl), (nI cu), st, (nI d), sv, es, ops, argA, argB, len, en, er, fi, se, wr, cel, fn, bk, ix, vrs, eny, had)) (I : sw_Q u v) : Z u v :=
  Exists.elim I fun nf e1 => Exists.elim e1 fun nb e2 => Exists.elim e2 fun ns e3 => Exists.elim e3 fun nl e4 => Exists.elim e4 fun cu e5 => Exists.elim e5 fun d e6 => Exists.elim e6 fun st e7 => Exists.elim e7 fun sv e8 => Exists.elim e8 fun rs e9 => Exists.elim e9 fun es e10 => Exists.elim e10 fun ops e11 => Exists.elim e11 fun argA e12 => Exists.elim e12 fun argB e13 => Exists.elim e13 fun len e14 => Exists.elim e14 fun br e15 => Exists.elim e15 fun en e16 => Exists.elim e16 fun er e17 => Exists.elim e17 fun fi e18 => Exists.elim e18 fun se e19 => Exists.elim e19 fun raw e20 => Exists.elim e20 fun wr e21 => Exists.elim e21 fun pln e22 => Exists.elim e22 fun rch e23 => Exists.elim e23 fun tch e24 => Exists.elim e24 fun rgn e25 => Exists.elim e25 fun ec e26 => Exists.elim e26 fun fil e27 => Exists.elim e27 fun fn e28 => Exists.elim e28 fun bk e29 => Exists.elim e29 fun ix e30 => Exists.elim e30 fun hd e31 => Exists.elim e31 fun slt e32 => Exists.elim e32 fun enx e33 => Exists.elim e33 fun cel e34 => Exists.elim e34 fun vrs e35 => Exists.elim e35 fun eny e36 => Exists.elim e36 fun had e37 =>  by rw [e37.1, e37.2.1]; exact h nf nb ns nl cu d st sv rs es ops argA argB len br en er fi se raw wr pln rch tch rgn ec fil fn bk ix hd slt enx cel vrs eny had e37.2.2.1 e37.2.2.2
section RR
variable {nf nb ns nl cu d : Nat} {st sv rs es : Int32} {ops argA argB len br en er fi se raw wr pln rch tch rgn ec fil fn bk ix hd slt enx cel vrs eny had : Nat → Int32}
theorem sw_in (h : sw_RG nf nb ns nl cu d sv rs ops argA argB len br en er fi se raw wr pln rch rgn ec fil fn bk ix hd slt enx cel vrs eny had) (h2 : st = 1 → 0 < d) : sw_Q ((nI nf), (nI nb), (nI (2 + ns)), (nI nl), (nI cu), (nI d), st, sv, rs, es, ops, argA, argB, len, br, er, fi, se, raw, pln, rch, tch, rgn, ec, fil, fn, bk, ix, hd, slt, enx) ((nI nf), (nI nb), (nI ns), (nI nl), (nI cu), st, (nI d), sv, es, ops, argA, argB, len, en, er, fi, se, wr, cel, fn, bk, ix, vrs, eny, had) :=
  ⟨nf, nb, ns, nl, cu, d, st, sv, rs, es, ops, argA, argB, len, br, en, er, fi, se, raw, wr, pln, rch, tch, rgn, ec, fil, fn, bk, ix, hd, slt, enx, cel, vrs, eny, had, rfl, rfl, h, h2⟩
theorem sw_RG_C (h : sw_RG nf nb ns nl cu d sv rs ops argA argB len br en er fi se raw wr pln rch rgn ec fil fn bk ix hd slt enx cel vrs eny had) : sw_YC nf nb ops argA argB len br er fi se ns en := by
  obtain ⟨⟨z1, z2, z3, z4, z5, z6, z7, z8, z9, z10⟩, hP, hE, _⟩ := h
  exact ⟨hP, hE, z2, z4, z6, by omega⟩
/-- X and Y enter function g from related states -/
theorem sw_enter {g : Nat} (h : sw_RG nf nb ns nl cu d sv rs ops argA argB len br en er fi se raw wr pln rch rgn ec fil fn bk ix hd slt enx cel vrs eny had) (hd8 : d < nl) (hg : g < nf) {postX : SX → Prop}
    (hX : ∀ u' v' , sw_Q u' v' → (∀ postY : SY → Prop, postY v' → wpY_enter postY ((nI nf), (nI nb), (nI ns), (nI nl), (nI cu), st, (nI d), sv, es, ops, argA, argB, len, en, er, fi, se, wr, cel, fn, bk, ix, vrs, eny, had) (nI g)) → postX u') : wpX_enter postX ((nI nf), (nI nb), (nI (2 + ns)), (nI nl), (nI cu), (nI d), st, sv, rs, es, ops, argA, argB, len, br, er, fi, se, raw, pln, rch, tch, rgn, ec, fil, fn, bk, ix, hd, slt, enx) (nI g) := by
  have hC := sw_RG_C h
  obtain ⟨hZ, hP, hE, hW, hV, hB, hpl, hM⟩ := h
  obtain ⟨z1, z2, z3, z4, z5, z6, z7, z8, z9, z10⟩ := id hZ
  obtain ⟨m5, m1, m2, m3, m4, mR⟩ := hM
  obtain ⟨eny1, vrs1, had1, had2, sv2, a1, a2, a3, a4, a5, a6⟩ := ya_enter (d := d) (nl := nl) (cu := cu) (st := st) (sv := sv) (es := es) (cel := cel) (vrs := vrs) (eny := eny) (had := had) hC hW hB (by omega) hg
  refine xa_enter (by omega) z6 z2 z4 (by omega) hg hP hV (fun pln' rch' tch' rgn' ec' enx' sv' rs' fil' hd' slt' hV' hmono hpg b1 b2 hm => ?_)
  have efn : (upd fn d (nI g) d).toNatClampNeg = g := by rw [pk_us]; exact nI_clamp (by omega)
  have ebk : (upd bk d (nI 0) d).toNatClampNeg = 0 := by rw [pk_us]; exact nI_clamp (by omega)
  have hH : ∀ l, l < d → ∀ r, (sw_Ho nb ops argA argB len br er fi se raw (upd fn d (nI g)) (upd bk d (nI 0)) l r ↔ sw_Ho nb ops argA argB len br er fi se raw fn bk l r) := fun l hl r => sw_Ho_c (pk_un (by omega)) (pk_un (by omega)) r
  have hF : ∀ l, l < d → ∀ r, (sw_Fu nb ops argA argB len br er fi se (upd fn d (nI g)) (upd bk d (nI 0)) l r ↔ sw_Fu nb ops argA argB len br er fi se fn bk l r) := fun l hl r => sw_Fu_c (pk_un (by omega)) (pk_un (by omega)) r
  obtain ⟨l1, l2, l4, lr, lc⟩ := sw_low z6 hH hF (fun k hk => (a2 k hk).2.1) (fun k hk => (a2 k hk).2.2) m1 m2 m4
  have hN : ∀ j, (raw g = 0 ∧ sw_Rg nb ops argA argB len br er fi se g 0 (j + 2)) ↔ sw_Ho nb ops argA argB len br er fi se raw (upd fn d (nI g)) (upd bk d (nI 0)) d (j + 2) := by
    intro j
    unfold sw_Ho
    rw [efn, ebk]
    exact ⟨fun w => ⟨by omega, w.1, w.2⟩, fun w => w.2⟩
  obtain ⟨x1, x2, x3, x4, x5, x6, x7, x8⟩ := sw_Mv_c (fun _ => Iff.rfl) hN hm
  have sm0 : sw_sm (fun _ => False) ns = 0 := by
    have e0 : sw_sm (fun _ => False) (0 + ns) = 0 := sw_sm_end (n := 0) (fun _ _ w => w)
    rw [Nat.zero_add] at e0
    exact e0
  have mv := sw_move (Ho := fun _ => False) (sv := sv) (rs := rs) (sv' := sv') (rs' := rs') (fil := fil) (hd := upd hd d 0) (slt := slt) (enx := enx') (cel := cel) (vrs := vrs1) (eny := eny1) (had := had1) (fil' := fil') (hd' := hd') (slt' := slt') (had' := had2) z6 l1 (by
      intro m hm j
      rw [pk_un (by omega)]
      exact l2 m hm j) (by
      intro l hl j hj
      rcases Nat.lt_or_ge l d with z | z
      · rw [b2 _ (by omega), (a2 _ (by omega)).1]
        exact m3 l z j hj
      · have e : l = d := by omega
        subst e
        rw [b1 j hj, (a1 j hj).1]
        exact m5 (j + 2) (by omega)) l4 sw_Ho_2 sw_Ho_F (by
      intro r hr
      rw [lr d r (Nat.le_refl _) (by omega)]
      exact m5 r (by omega)) (by
      intro j hj
      rw [lr d (j + 2) (Nat.le_refl _) (by omega), sw_if (fun w => w)]
      exact m5 (j + 2) (by omega)) (fun _ _ w => w.elim) (fun j hj _ => ⟨(a1 j hj).2.1, fun w => w⟩) (fun j hj w => absurd (a1 j hj).2.2 w) (by
      rw [lc, sm0, Int32.add_zero]
      exact mR) x1 x2 x3 x4 x5 x6 x7 x8 a3 a4
  obtain ⟨mv1, mv2⟩ := mv
  have esv : sv' = sv2 := mv2.trans a5.symm
  subst esv
  refine hX _ _ (sw_in (st := st) (tch := tch') ⟨⟨z1, z2, z3, z4, z5, z6, z7, z8, z9, by omega⟩, hP, hE, hW, hV', sw_HF_u (i := 0) hB hg (by omega) (by omega), ?_, mv1⟩ (fun _ => by omega)) a6
  intro l hl
  by_cases e : l = d
  · subst e
    rw [efn]
    exact hpg
  · rw [pk_un e]
    exact hmono _ (hpl l (by omega))
end RR
end
section
/-! one step, in lockstep -/
section SY
variable {nf nb ns nl cu d : Nat} {st sv rs es : Int32} {ops argA argB len br en er fi se raw wr pln rch tch rgn ec fil fn bk ix hd slt enx cel vrs eny had : Nat → Int32}
theorem ys_leave {l g b i L : Nat} (hl : l < 8) (hg : g < 4) (hb : b < 8) (hi : i ≤ 6) (hL : L ≤ 6) (eg : fn l = nI g) (eb : bk l = nI b) (ei : ix l = nI i) (eL : len (8 * g + b) = nI L) (hLi : L ≤ i) (hC : sw_YC nf nb ops argA argB len br er fi se ns en) (hW : sw_HW raw wr) (hB : sw_HF nf nb fn bk ix) (hbr : br (8 * g + b) = 0) {postY : SY → Prop}
    (hbad : ¬ (∀ j, j < ns → sw_rd (sw_Ho nb ops argA argB len br er fi se raw fn bk) vrs cel l (j + 2) = eny (6 * l + (j + 2))) → postY ((nI nf), (nI nb), (nI ns), (nI nl), (nI cu), 3, (nI (l + 1)), sv, es, ops, argA, argB, len, en, er, fi, se, wr, cel, fn, bk, ix, vrs, eny, had))
    (hok : (∀ j, j < ns → sw_rd (sw_Ho nb ops argA argB len br er fi se raw fn bk) vrs cel l (j + 2) = eny (6 * l + (j + 2))) → ∀ st', (l = 0 → st' = 2) → (l ≠ 0 → st' = st) → postY ((nI nf), (nI nb), (nI ns), (nI nl), (nI cu), st', (nI l), sv, es, ops, argA, argB, len, en, er, fi, se, wr, cel, fn, bk, ix, vrs, eny, had)) : wpY_step postY ((nI nf), (nI nb), (nI ns), (nI nl), (nI cu), st, (nI (l + 1)), sv, es, ops, argA, argB, len, en, er, fi, se, wr, cel, fn, bk, ix, vrs, eny, had) := by
  have hin : vp_in (nI l) 8 := vp_in_nI hl (by omega)
  have ecl : (nI l).toNatClampNeg = l := nI_clamp (by omega)
  have hink : vp_in (nI (8 * g + b)) 32 := vp_in_nI (by omega) (by omega)
  have eck : (nI (8 * g + b)).toNatClampNeg = 8 * g + b := nI_clamp (by omega)
  have h8 : ¬ en (8 * g + b) = 8 := by
    rcases hC.2.1 (8 * g + b) (by omega) with z | z
    · rw [z.2]
      decide
    · exact absurd hbr z.1
  refine nm_r (nI_pred l) (And.intro hin (And.intro hin ?_))
  rw [ecl, eg, eb, sw_8y]
  refine nm_e (And.intro hin ?_)
  rw [ei, sw_6y]
  refine nm_e (And.intro hin (And.intro hink ?_))
  rw [eck, eL]
  exact br_t (nI_le hLi (by omega)) ⟨hink, br_f h8 ⟨ns + 1, ya_205 hC hW hB hl hbad hok ns 0 (by omega) (fun _ hj => absurd hj (Nat.not_lt_zero _)) (ns + 1) (by omega)⟩⟩
theorem ys_branch {l g b i L r t t1 t2 : Nat} (hl : l < 8) (hg : g < 4) (hb : b < 8) (hi : i ≤ 6) (hL : L ≤ 6) (eg : fn l = nI g) (eb : bk l = nI b) (ei : ix l = nI i) (eL : len (8 * g + b) = nI L) (hLi : L ≤ i) (hC : sw_YC nf nb ops argA argB len br er fi se ns en) (hW : sw_HW raw wr) (hB : sw_HF nf nb fn bk ix) (hbr : ¬ br (8 * g + b) = 0) (hgf : g < nf) (ht : t < nb) (hr : r < 6)
    (e_r : er (8 * g + b) = nI r) (e_1 : fi (8 * g + b) = nI t1) (e_2 : se (8 * g + b) = nI t2) (k0 : sw_rd (sw_Ho nb ops argA argB len br er fi se raw fn bk) vrs cel (l + 1) r = 0 → t = t2) (k1 : ¬ sw_rd (sw_Ho nb ops argA argB len br er fi se raw fn bk) vrs cel (l + 1) r = 0 → t = t1) :
    ∃ (had1 : Nat → Int32) (sv1 : Int32), (∀ j, j < ns → (had1 (6 * l + (j + 2)) = 0 ↔ had (6 * l + (j + 2)) = 0 ∧ ¬ sw_Ho nb ops argA argB len br er fi se raw fn (upd bk l (nI t)) l (j + 2))) ∧ (∀ k, k < 6 * l → had1 k = had k) ∧ sv1 = sv + sw_sm (fun j => had (6 * l + (j + 2)) = 0 ∧ sw_Ho nb ops argA argB len br er fi se raw fn (upd bk l (nI t)) l (j + 2)) ns ∧
      ∀ postY : SY → Prop, postY ((nI nf), (nI nb), (nI ns), (nI nl), (nI cu), st, (nI (l + 1)), sv1, es, ops, argA, argB, len, en, er, fi, se, wr, cel, fn, upd bk l (nI t), upd ix l 0, vrs, eny, had1) → wpY_step postY ((nI nf), (nI nb), (nI ns), (nI nl), (nI cu), st, (nI (l + 1)), sv, es, ops, argA, argB, len, en, er, fi, se, wr, cel, fn, bk, ix, vrs, eny, had) := by
  have hin : vp_in (nI l) 8 := vp_in_nI hl (by omega)
  have ecl : (nI l).toNatClampNeg = l := nI_clamp (by omega)
  have hink : vp_in (nI (8 * g + b)) 32 := vp_in_nI (by omega) (by omega)
  have eck : (nI (8 * g + b)).toNatClampNeg = 8 * g + b := nI_clamp (by omega)
  have hB' : sw_HF nf nb fn (upd bk l (nI t)) (upd ix l 0) := by
    have q := sw_HF_u (l := l) (i := 0) hB hgf ht (by omega)
    have e : upd fn l (nI g) = fn := by
      funext m
      by_cases z : m = l
      · subst z
        rw [pk_us, eg]
      · rw [pk_un z]
    rw [e] at q
    exact q
  have h8 : en (8 * g + b) = 8 := by
    rcases hC.2.1 (8 * g + b) (by omega) with z | z
    · exact absurd z.1 hbr
    · exact z.2
  obtain ⟨had1, sv1, a1, a2, a3, a4⟩ := ya_note (l := l) (nl := nl) (cu := cu) (st := st) (es := es) (sv := sv) (had := had) (cel := cel) (vrs := vrs) (eny := eny) hC hW hB' hl
  refine ⟨had1, sv1, a1, a2, a3, ?_⟩
  intro postY hp
  have fin : wY_step_187 postY (nI l) (nI t) (nI l) (nI nf) (nI nb) (nI ns) (nI nl) (nI cu) st (nI (l + 1)) sv es ops argA argB len en er fi se wr cel fn bk ix vrs eny had := by
    unfold wY_step_187
    rw [ecl]
    exact ⟨hin, nm_e ⟨hin, nm_e (a4 _ hp)⟩⟩
  refine nm_r (nI_pred l) (And.intro hin (And.intro hin ?_))
  rw [ecl, eg, eb, sw_8y]
  refine nm_e (And.intro hin ?_)
  rw [ei, sw_6y]
  refine nm_e (And.intro hin (And.intro hink ?_))
  rw [eck, eL]
  refine br_t (nI_le hLi (by omega)) ⟨hink, br_t h8 ⟨hink, ?_⟩⟩
  rw [e_r, e_1, e_2]
  have q := ya_read (m := l + 1) (post := fun r_45 => ((r_45 = 0 → (vp_in (nI (8 * g + b)) 32 ∧ (wY_step_187 postY (nI l) (nI t2) (nI l) (nI nf) (nI nb) (nI ns) (nI nl) (nI cu) st (nI (l + 1)) sv es ops argA argB len en er fi se wr cel fn bk ix vrs eny had))) ∧ (¬ r_45 = 0 → (vp_in (nI (8 * g + b)) 32 ∧ (wY_step_187 postY (nI l) (nI t1) (nI l) (nI nf) (nI nb) (nI ns) (nI nl) (nI cu) st (nI (l + 1)) sv es ops argA argB len en er fi se wr cel fn bk ix vrs eny had))))) (d := l + 1) (nl := nl) (cu := cu) (st := st) (es := es) (sv := sv) (had := had) (cel := cel) (vrs := vrs) (eny := eny) hC hW hB (by omega) hr (br_c (fun z => ⟨hink, (k0 z) ▸ fin⟩) (fun z => ⟨hink, (k1 z) ▸ fin⟩))
  rw [nI_pred] at q
  exact q
theorem ys_exec {l g b i L o a : Nat} {p2 : Int32} (hl : l < 8) (hg : g < 4) (hb : b < 8) (hi : i ≤ 6) (hL : L ≤ 6) (eg : fn l = nI g) (eb : bk l = nI b) (ei : ix l = nI i) (eL : len (8 * g + b) = nI L) (hLi : i < L) (hC : sw_YC nf nb ops argA argB len br er fi se ns en) (hW : sw_HW raw wr) (hB : sw_HF nf nb fn bk ix) (ho : o ≤ 5) (ha : a < 6) (hp2 : 2 ≤ o → ∃ b, b < 6 ∧ p2 = nI b)
    (eo : ops (6 * (8 * g + b) + i) = nI o) (ea : argA (6 * (8 * g + b) + i) = nI a) (ep : argB (6 * (8 * g + b) + i) = p2) :
    ∃ vrs' cel', sw_Wr (l + 1) (sw_Ho nb ops argA argB len br er fi se raw fn bk) a (sw_v o (sw_rd (sw_Ho nb ops argA argB len br er fi se raw fn bk) vrs cel (l + 1) a) (if o < 2 then p2 else sw_rd (sw_Ho nb ops argA argB len br er fi se raw fn bk) vrs cel (l + 1) p2.toNatClampNeg)) vrs cel vrs' cel' ∧
      ∀ postY : SY → Prop, postY ((nI nf), (nI nb), (nI ns), (nI nl), (nI cu), st, (nI (l + 1)), sv, es, ops, argA, argB, len, en, er, fi, se, wr, cel', fn, bk, upd ix l (nI (i + 1)), vrs', eny, had) → wpY_step postY ((nI nf), (nI nb), (nI ns), (nI nl), (nI cu), st, (nI (l + 1)), sv, es, ops, argA, argB, len, en, er, fi, se, wr, cel, fn, bk, ix, vrs, eny, had) := by
  have hin : vp_in (nI l) 8 := vp_in_nI hl (by omega)
  have ecl : (nI l).toNatClampNeg = l := nI_clamp (by omega)
  have hink : vp_in (nI (8 * g + b)) 32 := vp_in_nI (by omega) (by omega)
  have eck : (nI (8 * g + b)).toNatClampNeg = 8 * g + b := nI_clamp (by omega)
  have hin1 : vp_in (nI (6 * (8 * g + b) + i)) 192 := vp_in_nI (by omega) (by omega)
  have eca : (nI (6 * (8 * g + b) + i)).toNatClampNeg = 6 * (8 * g + b) + i := nI_clamp (by omega)
  have h6 : ¬ ops (6 * (8 * g + b) + i) = 6 := by
    rw [eo]
    intro z
    have := sw_eqN (b := 6) (by omega) (by decide) z
    omega
  have hB' : sw_HF nf nb fn bk (upd ix l (nI (i + 1))) := by
    intro m
    refine ⟨(hB m).1, (hB m).2.1, ?_⟩
    by_cases z : m = l
    · rw [z, pk_us]
      exact ⟨i + 1, by omega, rfl⟩
    · rw [pk_un z]
      exact (hB m).2.2
  obtain ⟨vrs', cel', a1, a2⟩ := ya_execute (d := l + 1) (nl := nl) (cu := cu) (st := st) (es := es) (sv := sv) (had := had) (cel := cel) (vrs := vrs) (eny := eny) hC hW hB' ho ha hp2 (by omega)
  refine ⟨vrs', cel', a1, ?_⟩
  intro postY hp
  refine nm_r (nI_pred l) (And.intro hin (And.intro hin ?_))
  rw [ecl, eg, eb, sw_8y]
  refine nm_e (And.intro hin ?_)
  rw [ei, sw_6y]
  refine nm_e (And.intro hin (And.intro hink ?_))
  rw [eck, eL]
  refine br_f (nI_ge hLi (by omega)) ⟨hin1, ?_⟩
  rw [eca]
  refine br_f h6 ?_
  unfold wY_step_79
  rw [ecl, eca, eo, ea, ep, ei]
  refine ⟨hin, hin, nm_r (congrArg (upd ix l) (nI_1 i)) ⟨hin1, br_f ?_ ⟨hin1, hin1, hin1, a2 _ hp⟩⟩⟩
  rw [← eo]
  exact h6
theorem ys_call {l g b i L a : Nat} (hl : l < 8) (hg : g < 4) (hb : b < 8) (hi : i ≤ 6) (hL : L ≤ 6) (eg : fn l = nI g) (eb : bk l = nI b) (ei : ix l = nI i) (eL : len (8 * g + b) = nI L) (hLi : i < L) (hdl : l + 1 < nl) (hnl : nl ≤ 8) (eo : ops (6 * (8 * g + b) + i) = 6) (ea : argA (6 * (8 * g + b) + i) = nI a) {v' : SY} {postY : SY → Prop}
    (hY : ∀ post : SY → Prop, post v' → wpY_enter post ((nI nf), (nI nb), (nI ns), (nI nl), (nI cu), st, (nI (l + 1)), sv, es, ops, argA, argB, len, en, er, fi, se, wr, cel, fn, bk, upd ix l (nI (i + 1)), vrs, eny, had) (nI a)) (hp : postY v') : wpY_step postY ((nI nf), (nI nb), (nI ns), (nI nl), (nI cu), st, (nI (l + 1)), sv, es, ops, argA, argB, len, en, er, fi, se, wr, cel, fn, bk, ix, vrs, eny, had) := by
  have hin : vp_in (nI l) 8 := vp_in_nI hl (by omega)
  have ecl : (nI l).toNatClampNeg = l := nI_clamp (by omega)
  have hink : vp_in (nI (8 * g + b)) 32 := vp_in_nI (by omega) (by omega)
  have eck : (nI (8 * g + b)).toNatClampNeg = 8 * g + b := nI_clamp (by omega)
  have hin1 : vp_in (nI (6 * (8 * g + b) + i)) 192 := vp_in_nI (by omega) (by omega)
  have eca : (nI (6 * (8 * g + b) + i)).toNatClampNeg = 6 * (8 * g + b) + i := nI_clamp (by omega)
  refine nm_r (nI_pred l) (And.intro hin (And.intro hin ?_))
  rw [ecl, eg, eb, sw_8y]
  refine nm_e (And.intro hin ?_)
  rw [ei, sw_6y]
  refine nm_e (And.intro hin (And.intro hink ?_))
  rw [eck, eL]
  refine br_f (nI_ge hLi (by omega)) ⟨hin1, ?_⟩
  rw [eca]
  refine br_t eo (br_f (fun z => ?_) ?_)
  · have := sw_eqN (by omega) (by omega) z
    omega
  · unfold wY_step_79
    rw [ecl, eca, eo, ea, ei]
    refine ⟨hin, hin, nm_r (congrArg (upd ix l) (nI_1 i)) ⟨hin1, br_t rfl ⟨hin1, hY _ ?_⟩⟩⟩
    exact hp
theorem ys_deep {l g b i L : Nat} (hl : l < 8) (hg : g < 4) (hb : b < 8) (hi : i ≤ 6) (hL : L ≤ 6) (eg : fn l = nI g) (eb : bk l = nI b) (ei : ix l = nI i) (eL : len (8 * g + b) = nI L) (hLi : i < L) (eo : ops (6 * (8 * g + b) + i) = 6) {postY : SY → Prop} (hp : postY ((nI nf), (nI nb), (nI ns), (nI (l + 1)), (nI cu), 4, (nI (l + 1)), sv, es, ops, argA, argB, len, en, er, fi, se, wr, cel, fn, bk, ix, vrs, eny, had)) : wpY_step postY ((nI nf), (nI nb), (nI ns), (nI (l + 1)), (nI cu), st, (nI (l + 1)), sv, es, ops, argA, argB, len, en, er, fi, se, wr, cel, fn, bk, ix, vrs, eny, had) := by
  have hin : vp_in (nI l) 8 := vp_in_nI hl (by omega)
  have ecl : (nI l).toNatClampNeg = l := nI_clamp (by omega)
  have hink : vp_in (nI (8 * g + b)) 32 := vp_in_nI (by omega) (by omega)
  have eck : (nI (8 * g + b)).toNatClampNeg = 8 * g + b := nI_clamp (by omega)
  have hin1 : vp_in (nI (6 * (8 * g + b) + i)) 192 := vp_in_nI (by omega) (by omega)
  have eca : (nI (6 * (8 * g + b) + i)).toNatClampNeg = 6 * (8 * g + b) + i := nI_clamp (by omega)
  refine nm_r (nI_pred l) (And.intro hin (And.intro hin ?_))
  rw [ecl, eg, eb, sw_8y]
  refine nm_e (And.intro hin ?_)
  rw [ei, sw_6y]
  refine nm_e (And.intro hin (And.intro hink ?_))
  rw [eck, eL]
  refine br_f (nI_ge hLi (by omega)) ⟨hin1, ?_⟩
  rw [eca]
  exact br_t eo (br_t rfl hp)
end SY
end
section
/-! one step of X against one step of Y -/
section SJ
variable {nf nb ns nl cu d : Nat} {st sv rs es : Int32} {ops argA argB len br en er fi se raw wr pln rch tch rgn ec fil fn bk ix hd slt enx cel vrs eny had : Nat → Int32}
theorem sw_RG_ix {l i : Nat} (h : sw_RG nf nb ns nl cu d sv rs ops argA argB len br en er fi se raw wr pln rch rgn ec fil fn bk ix hd slt enx cel vrs eny had) (hi : i ≤ 6) : sw_RG nf nb ns nl cu d sv rs ops argA argB len br en er fi se raw wr pln rch rgn ec fil fn bk (upd ix l (nI i)) hd slt enx cel vrs eny had := by
  obtain ⟨hZ, hP, hE, hW, hV, hB, hpl, hM⟩ := h
  refine ⟨hZ, hP, hE, hW, hV, ?_, hpl, hM⟩
  intro m
  refine ⟨(hB m).1, (hB m).2.1, ?_⟩
  by_cases z : m = l
  · rw [z, pk_us]
    exact ⟨i, hi, rfl⟩
  · rw [pk_un z]
    exact (hB m).2.2
theorem sj_exec {l g b i L o a : Nat} (hl : l < 8) (hg : g < 4) (hb : b < 8) (hi : i ≤ 6) (hL : L ≤ 6) (eg : fn l = nI g) (eb : bk l = nI b) (ei : ix l = nI i) (eL : len (8 * g + b) = nI L) (hLi : i < L) (ho : o ≤ 5) (eo : ops (6 * (8 * g + b) + i) = nI o) (ea : argA (6 * (8 * g + b) + i) = nI a) (ha : a < 2 + ns) (hb2 : 2 ≤ o → ∃ c, c < 2 + ns ∧ argB (6 * (8 * g + b) + i) = nI c)
    (h : sw_RG nf nb ns nl cu (l + 1) sv rs ops argA argB len br en er fi se raw wr pln rch rgn ec fil fn bk ix hd slt enx cel vrs eny had) {postX : SX → Prop} (hX : ∀ u' v', sw_Q u' v' → (∀ postY : SY → Prop, postY v' → wpY_step postY ((nI nf), (nI nb), (nI ns), (nI nl), (nI cu), st, (nI (l + 1)), sv, es, ops, argA, argB, len, en, er, fi, se, wr, cel, fn, bk, ix, vrs, eny, had)) → postX u') : wpX_step postX ((nI nf), (nI nb), (nI (2 + ns)), (nI nl), (nI cu), (nI (l + 1)), st, sv, rs, es, ops, argA, argB, len, br, er, fi, se, raw, pln, rch, tch, rgn, ec, fil, fn, bk, ix, hd, slt, enx) := by
  have hC := sw_RG_C h
  have hi2 := sw_RG_ix (l := l) (i := i + 1) h (by omega)
  obtain ⟨hZ, hP, hE, hW, hV, hB, hpl, hM⟩ := h
  obtain ⟨z1, z2, z3, z4, z5, z6, z7, z8, z9, z10⟩ := id hZ
  have hp2 : 2 ≤ o → ∃ c, c < 6 ∧ argB (6 * (8 * g + b) + i) = nI c := by
    intro w
    obtain ⟨c, hc, e⟩ := hb2 w
    exact ⟨c, by omega, e⟩
  obtain ⟨vrs', cel', a1, a2⟩ := ys_exec (raw := raw) (wr := wr) (nl := nl) (cu := cu) (st := st) (es := es) (sv := sv) (had := had) (cel := cel) (vrs := vrs) (eny := eny) hl hg hb hi hL eg eb ei eL hLi hC hW hB ho (by omega) hp2 eo ea rfl
  have hin : vp_in (nI l) 8 := vp_in_nI hl (by omega)
  have ecl : (nI l).toNatClampNeg = l := nI_clamp (by omega)
  have hink : vp_in (nI (8 * g + b)) 32 := vp_in_nI (by omega) (by omega)
  have eck : (nI (8 * g + b)).toNatClampNeg = 8 * g + b := nI_clamp (by omega)
  have hin1 : vp_in (nI (6 * (8 * g + b) + i)) 192 := vp_in_nI (by omega) (by omega)
  have eca : (nI (6 * (8 * g + b) + i)).toNatClampNeg = 6 * (8 * g + b) + i := nI_clamp (by omega)
  have h6 : ¬ ops (6 * (8 * g + b) + i) = 6 := by
    rw [eo]
    intro z
    have := sw_eqN (b := 6) (by omega) (by decide) z
    omega
  have m5 := hM.1
  have ev : sw_v o (fil a) (if o < 2 then argB (6 * (8 * g + b) + i) else fil (argB (6 * (8 * g + b) + i)).toNatClampNeg) = sw_v o (sw_rd (sw_Ho nb ops argA argB len br er fi se raw fn bk) vrs cel (l + 1) a) (if o < 2 then argB (6 * (8 * g + b) + i) else sw_rd (sw_Ho nb ops argA argB len br er fi se raw fn bk) vrs cel (l + 1) (argB (6 * (8 * g + b) + i)).toNatClampNeg) := by
    rw [m5 a ha]
    by_cases w : o < 2
    · rw [if_pos w, if_pos w]
    · obtain ⟨c, hc, e⟩ := hb2 (by omega)
      rw [if_neg w, if_neg w, e, nI_clamp (by omega), m5 c hc]
  refine nm_r (nI_pred l) (And.intro hin (And.intro hin ?_))
  rw [ecl, eg, eb, sw_8]
  refine nm_e (And.intro hin (nm_r ei (And.intro hink ?_)))
  rw [eck, eL]
  refine br_f (nI_ge hLi (by omega)) ?_
  rw [sw_6]
  refine And.intro hin1 ?_
  rw [eca]
  refine br_f h6 ⟨hin1, hin1, hin1, ?_⟩
  rw [eo, ea]
  refine xa_compute ho (by omega) hp2 ?_
  refine And.intro hin (And.intro hin ?_)
  rw [ecl, ei]
  refine nm_r (congrArg (upd ix l) (nI_1 i)) (hX _ _ (sw_in (d := l + 1) (st := st) (es := es) (tch := tch) (cel := cel') (vrs := vrs') (eny := eny) (had := had) ⟨hZ, hP, hE, hW, hV, hi2.2.2.2.2.2.1, hpl, ?_⟩ (fun _ => by omega)) a2)
  rw [ev]
  exact sw_write z6 ha hM a1
theorem sj_call {l g b i L a : Nat} (hl : l < 8) (hg : g < 4) (hb : b < 8) (hi : i ≤ 6) (hL : L ≤ 6) (eg : fn l = nI g) (eb : bk l = nI b) (ei : ix l = nI i) (eL : len (8 * g + b) = nI L) (hLi : i < L) (hdl : l + 1 < nl) (eo : ops (6 * (8 * g + b) + i) = 6) (ea : argA (6 * (8 * g + b) + i) = nI a) (ha : a < nf)
    (h : sw_RG nf nb ns nl cu (l + 1) sv rs ops argA argB len br en er fi se raw wr pln rch rgn ec fil fn bk ix hd slt enx cel vrs eny had) {postX : SX → Prop} (hX : ∀ u' v', sw_Q u' v' → (∀ postY : SY → Prop, postY v' → wpY_step postY ((nI nf), (nI nb), (nI ns), (nI nl), (nI cu), st, (nI (l + 1)), sv, es, ops, argA, argB, len, en, er, fi, se, wr, cel, fn, bk, ix, vrs, eny, had)) → postX u') : wpX_step postX ((nI nf), (nI nb), (nI (2 + ns)), (nI nl), (nI cu), (nI (l + 1)), st, sv, rs, es, ops, argA, argB, len, br, er, fi, se, raw, pln, rch, tch, rgn, ec, fil, fn, bk, ix, hd, slt, enx) := by
  have hi2 := sw_RG_ix (l := l) (i := i + 1) h (by omega)
  have hnl : nl ≤ 8 := h.1.2.2.2.2.2.2.2.1
  have hin : vp_in (nI l) 8 := vp_in_nI hl (by omega)
  have ecl : (nI l).toNatClampNeg = l := nI_clamp (by omega)
  have hink : vp_in (nI (8 * g + b)) 32 := vp_in_nI (by omega) (by omega)
  have eck : (nI (8 * g + b)).toNatClampNeg = 8 * g + b := nI_clamp (by omega)
  have hin1 : vp_in (nI (6 * (8 * g + b) + i)) 192 := vp_in_nI (by omega) (by omega)
  have eca : (nI (6 * (8 * g + b) + i)).toNatClampNeg = 6 * (8 * g + b) + i := nI_clamp (by omega)
  refine nm_r (nI_pred l) (And.intro hin (And.intro hin ?_))
  rw [ecl, eg, eb, sw_8]
  refine nm_e (And.intro hin (nm_r ei (And.intro hink ?_)))
  rw [eck, eL]
  refine br_f (nI_ge hLi (by omega)) ?_
  rw [sw_6]
  refine And.intro hin1 ?_
  rw [eca]
  refine br_t eo (br_t (nI_lt hdl (by omega)) ?_)
  rw [ecl, ei, ea]
  refine ⟨hin, hin, nm_r (congrArg (upd ix l) (nI_1 i)) ⟨hin1, sw_enter (st := st) hi2 hdl ha (fun u' v' hQ hY => ?_)⟩⟩
  exact hX u' v' hQ (fun postY hp => ys_call hl hg hb hi hL eg eb ei eL hLi hdl hnl eo ea hY hp)
theorem sj_deep {l g b i L : Nat} (hl : l < 8) (hg : g < 4) (hb : b < 8) (hi : i ≤ 6) (hL : L ≤ 6) (eg : fn l = nI g) (eb : bk l = nI b) (ei : ix l = nI i) (eL : len (8 * g + b) = nI L) (hLi : i < L) (hdl : l + 1 = nl) (eo : ops (6 * (8 * g + b) + i) = 6)
    (h : sw_RG nf nb ns nl cu (l + 1) sv rs ops argA argB len br en er fi se raw wr pln rch rgn ec fil fn bk ix hd slt enx cel vrs eny had) {postX : SX → Prop} (hX : ∀ u' v', sw_Q u' v' → (∀ postY : SY → Prop, postY v' → wpY_step postY ((nI nf), (nI nb), (nI ns), (nI nl), (nI cu), st, (nI (l + 1)), sv, es, ops, argA, argB, len, en, er, fi, se, wr, cel, fn, bk, ix, vrs, eny, had)) → postX u') : wpX_step postX ((nI nf), (nI nb), (nI (2 + ns)), (nI nl), (nI cu), (nI (l + 1)), st, sv, rs, es, ops, argA, argB, len, br, er, fi, se, raw, pln, rch, tch, rgn, ec, fil, fn, bk, ix, hd, slt, enx) := by
  subst hdl
  have hin : vp_in (nI l) 8 := vp_in_nI hl (by omega)
  have ecl : (nI l).toNatClampNeg = l := nI_clamp (by omega)
  have hink : vp_in (nI (8 * g + b)) 32 := vp_in_nI (by omega) (by omega)
  have eck : (nI (8 * g + b)).toNatClampNeg = 8 * g + b := nI_clamp (by omega)
  have hin1 : vp_in (nI (6 * (8 * g + b) + i)) 192 := vp_in_nI (by omega) (by omega)
  have eca : (nI (6 * (8 * g + b) + i)).toNatClampNeg = 6 * (8 * g + b) + i := nI_clamp (by omega)
  refine nm_r (nI_pred l) (And.intro hin (And.intro hin ?_))
  rw [ecl, eg, eb, sw_8]
  refine nm_e (And.intro hin (nm_r ei (And.intro hink ?_)))
  rw [eck, eL]
  refine br_f (nI_ge hLi (by omega)) ?_
  rw [sw_6]
  refine And.intro hin1 ?_
  rw [eca]
  refine br_t eo (br_f (nI_nlt (Nat.le_refl _) (by omega)) ?_)
  exact hX _ _ (sw_in (st := 4) h (fun _ => by omega)) (fun postY hp => ys_deep hl hg hb hi hL eg eb ei eL hLi eo hp)
theorem sj_leave {l g b i L : Nat} (hl : l < 8) (hg : g < 4) (hb : b < 8) (hi : i ≤ 6) (hL : L ≤ 6) (eg : fn l = nI g) (eb : bk l = nI b) (ei : ix l = nI i) (eL : len (8 * g + b) = nI L) (hLi : L ≤ i) (hbr : br (8 * g + b) = 0)
    (h : sw_RG nf nb ns nl cu (l + 1) sv rs ops argA argB len br en er fi se raw wr pln rch rgn ec fil fn bk ix hd slt enx cel vrs eny had) {postX : SX → Prop} (hX : ∀ u' v', sw_Q u' v' → (∀ postY : SY → Prop, postY v' → wpY_step postY ((nI nf), (nI nb), (nI ns), (nI nl), (nI cu), st, (nI (l + 1)), sv, es, ops, argA, argB, len, en, er, fi, se, wr, cel, fn, bk, ix, vrs, eny, had)) → postX u') : wpX_step postX ((nI nf), (nI nb), (nI (2 + ns)), (nI nl), (nI cu), (nI (l + 1)), st, sv, rs, es, ops, argA, argB, len, br, er, fi, se, raw, pln, rch, tch, rgn, ec, fil, fn, bk, ix, hd, slt, enx) := by
  have hC := sw_RG_C h
  have hR := id h
  obtain ⟨hZ, hP, hE, hW, hV, hB, hpl, hM⟩ := h
  obtain ⟨z1, z2, z3, z4, z5, z6, z7, z8, z9, z10⟩ := id hZ
  obtain ⟨m5, m1, m2, m3, m4, mR⟩ := hM
  have hin : vp_in (nI l) 8 := vp_in_nI hl (by omega)
  have ecl : (nI l).toNatClampNeg = l := nI_clamp (by omega)
  have hink : vp_in (nI (8 * g + b)) 32 := vp_in_nI (by omega) (by omega)
  have eck : (nI (8 * g + b)).toNatClampNeg = 8 * g + b := nI_clamp (by omega)
  have k : (∀ j, j < ns → sw_rd (sw_Ho nb ops argA argB len br er fi se raw fn bk) vrs cel l (j + 2) = enx (4 * l + j)) ↔ (∀ j, j < ns → sw_rd (sw_Ho nb ops argA argB len br er fi se raw fn bk) vrs cel l (j + 2) = eny (6 * l + (j + 2))) := by
    constructor
    · intro w j hj
      rw [← m3 l (by omega) j hj]
      exact w j hj
    · intro w j hj
      rw [m3 l (by omega) j hj]
      exact w j hj
  refine nm_r (nI_pred l) (And.intro hin (And.intro hin ?_))
  rw [ecl, eg, eb, sw_8]
  refine nm_e (And.intro hin (nm_r ei (And.intro hink ?_)))
  rw [eck, eL]
  refine br_t (nI_le hLi (by omega)) ⟨hink, br_t hbr (xa_leave z6 (by omega) (by omega) m5 m1 m2 sw_Ho_2 (fun bad => ?_) (fun ok fil' rs' hd' st' x1 x2 x3 x4 x5 x6 => ?_))⟩
  · exact hX _ _ (sw_in (st := 3) hR (fun _ => by omega)) (fun postY hp => ys_leave hl hg hb hi hL eg eb ei eL hLi hC hW hB hbr (fun _ => hp) (fun w => absurd (k.mpr w) bad))
  · refine hX _ _ (sw_in (d := l) (st := st') (es := es) (tch := tch) (cel := cel) (vrs := vrs) (eny := eny) (had := had) ⟨⟨z1, z2, z3, z4, z5, z6, z7, z8, z9, by omega⟩, hP, hE, hW, hV, hB, fun m hm => hpl m (by omega), ?_⟩ ?_) (fun postY hp => ys_leave hl hg hb hi hL eg eb ei eL hLi hC hW hB hbr (fun w => absurd (k.mp ok) w) (fun _ st2 y5 y6 => ?_))
    · refine ⟨sw_pop5 m5 (m1 l (by omega)) sw_Ho_2 x1 x2, fun m hm => m1 m (by omega), fun m hm j => ?_, fun m hm => m3 m (by omega), fun m hm => m4 m (by omega), ?_⟩
      · rw [x4 m hm]
        exact m2 m (by omega) j
      · rw [x3]
        exact sw_popR mR
    · intro w
      rcases Nat.eq_zero_or_pos l with z | z
      · rw [x5 z] at w
        exact absurd w (by decide)
      · exact z
    · have e : st2 = st' := by
        rcases Nat.eq_zero_or_pos l with z | z
        · rw [x5 z, y5 z]
        · rw [x6 (by omega), y6 (by omega)]
      rw [e]
      exact hp
theorem sj_branch {l g b i L : Nat} (hl : l < 8) (hg : g < 4) (hb : b < 8) (hi : i ≤ 6) (hL : L ≤ 6) (eg : fn l = nI g) (eb : bk l = nI b) (ei : ix l = nI i) (eL : len (8 * g + b) = nI L) (hLi : L ≤ i) (hbr : ¬ br (8 * g + b) = 0) (hgf : g < nf) (hbn : b < nb)
    (h : sw_RG nf nb ns nl cu (l + 1) sv rs ops argA argB len br en er fi se raw wr pln rch rgn ec fil fn bk ix hd slt enx cel vrs eny had) {postX : SX → Prop} (hX : ∀ u' v', sw_Q u' v' → (∀ postY : SY → Prop, postY v' → wpY_step postY ((nI nf), (nI nb), (nI ns), (nI nl), (nI cu), st, (nI (l + 1)), sv, es, ops, argA, argB, len, en, er, fi, se, wr, cel, fn, bk, ix, vrs, eny, had)) → postX u') : wpX_step postX ((nI nf), (nI nb), (nI (2 + ns)), (nI nl), (nI cu), (nI (l + 1)), st, sv, rs, es, ops, argA, argB, len, br, er, fi, se, raw, pln, rch, tch, rgn, ec, fil, fn, bk, ix, hd, slt, enx) := by
  have hC := sw_RG_C h
  obtain ⟨hZ, hP, hE, hW, hV, hB, hpl, hM⟩ := h
  obtain ⟨z1, z2, z3, z4, z5, z6, z7, z8, z9, z10⟩ := id hZ
  obtain ⟨m5, m1, m2, m3, m4, mR⟩ := hM
  obtain ⟨r, hr, e_r⟩ := hP.2.2.2.1 (8 * g + b) (by omega)
  obtain ⟨t1, ht1, e_1⟩ := hP.2.1 (8 * g + b) (by omega)
  obtain ⟨t2, ht2, e_2⟩ := hP.2.2.1 (8 * g + b) (by omega)
  have hin : vp_in (nI l) 8 := vp_in_nI hl (by omega)
  have ecl : (nI l).toNatClampNeg = l := nI_clamp (by omega)
  have hink : vp_in (nI (8 * g + b)) 32 := vp_in_nI (by omega) (by omega)
  have eck : (nI (8 * g + b)).toNatClampNeg = 8 * g + b := nI_clamp (by omega)
  have ecg : (fn l).toNatClampNeg = g := by rw [eg]; exact nI_clamp (by omega)
  have ecb : (bk l).toNatClampNeg = b := by rw [eb]; exact nI_clamp (by omega)
  have hpg : ¬ pln g = 0 := by
    have := hpl l (by omega)
    rw [ecg] at this
    exact this
  have inr : vp_in (nI r) 6 := vp_in_nI (by omega) (by omega)
  have ecr : (nI r).toNatClampNeg = r := nI_clamp (by omega)
  -- the move to block t
  have mvt : ∀ t, t < nb → sw_Ed nb ops argA argB len br er fi se g b t → (sw_rd (sw_Ho nb ops argA argB len br er fi se raw fn bk) vrs cel (l + 1) r = 0 → t = t2) → (¬ sw_rd (sw_Ho nb ops argA argB len br er fi se raw fn bk) vrs cel (l + 1) r = 0 → t = t1) → wX_step_93 postX (nI l) (nI t) (nI nf) (nI nb) (nI (2 + ns)) (nI nl) (nI cu) (nI (l + 1)) st sv rs es ops argA argB len br er fi se raw pln rch tch rgn ec fil fn bk ix hd slt enx := by
    intro t ht hed k0 k1
    obtain ⟨had1, sv1, y1, y2, y3, y4⟩ := ys_branch (raw := raw) (wr := wr) (nl := nl) (cu := cu) (st := st) (es := es) (sv := sv) (had := had) (cel := cel) (vrs := vrs) (eny := eny) hl hg hb hi hL eg eb ei eL hLi hC hW hB hbr hgf ht (by omega) e_r e_1 e_2 k0 k1
    have ebk : (upd bk l (nI t) l).toNatClampNeg = t := by rw [pk_us]; exact nI_clamp (by omega)
    have hH : ∀ m, m < l → ∀ r, (sw_Ho nb ops argA argB len br er fi se raw fn (upd bk l (nI t)) m r ↔ sw_Ho nb ops argA argB len br er fi se raw fn bk m r) := fun m hm r => sw_Ho_c rfl (pk_un (by omega)) r
    have hF : ∀ m, m < l → ∀ r, (sw_Fu nb ops argA argB len br er fi se fn (upd bk l (nI t)) m r ↔ sw_Fu nb ops argA argB len br er fi se fn bk m r) := fun m hm r => sw_Fu_c rfl (pk_un (by omega)) r
    obtain ⟨l1, l2, l4, lr, lc⟩ := sw_low (vrs' := vrs) (had' := had) z6 hH hF (fun _ _ => rfl) (fun _ _ => rfl) (fun m hm => m1 m (by omega)) (fun m hm => m2 m (by omega)) (fun m hm => m4 m (by omega))
    have hN : ∀ j, (raw g = 0 ∧ sw_Rg nb ops argA argB len br er fi se g t (j + 2)) ↔ sw_Ho nb ops argA argB len br er fi se raw fn (upd bk l (nI t)) l (j + 2) := by
      intro j
      unfold sw_Ho
      rw [ecg, ebk]
      exact ⟨fun w => ⟨by omega, w.1, w.2⟩, fun w => w.2⟩
    have hO : ∀ j, (sw_Ho nb ops argA argB len br er fi se raw fn bk l (j + 2) ↔ (raw g = 0 ∧ sw_Rg nb ops argA argB len br er fi se g b (j + 2))) := by
      intro j
      unfold sw_Ho
      rw [ecg, ecb]
      exact ⟨fun w => w.2, fun w => ⟨by omega, w.1, w.2⟩⟩
    unfold wX_step_93
    refine xa_moveTo (g := g) hl z6 z2 z4 ht hgf eg hV hpg (fun sv' rs' fil' hd' slt' hm => ?_)
    obtain ⟨x1, x2, x3, x4, x5, x6, x7, x8⟩ := sw_Mv_c (fun j => m2 l (by omega) j) hN hm
    have mv := sw_move (Ho := fun j => sw_Ho nb ops argA argB len br er fi se raw fn bk l (j + 2)) (sv := sv) (rs := rs) (sv' := sv') (rs' := rs') (fil := fil) (hd := hd) (slt := slt) (enx := enx) (cel := cel) (vrs := vrs) (eny := eny) (had := had) (fil' := fil') (hd' := hd') (slt' := slt') (had' := had1) z6 l1 l2 m3 l4 sw_Ho_2 sw_Ho_F (by
      intro q hq
      rw [lr l q (Nat.le_refl _) (by omega), m5 q (by omega)]
      exact sw_if (sw_Ho_2 _ _ hq)) (by
      intro j hj
      rw [lr l (j + 2) (Nat.le_refl _) (by omega)]
      exact m5 (j + 2) (by omega)) (by
      intro j hj w
      rw [lr l (j + 2) (Nat.le_refl _) (by omega)]
      exact m1 l (by omega) j hj w) (fun j hj => (m4 l (by omega) j hj).1) (by
      intro j hj hne hor y py hy
      rw [ecg, ebk] at py
      rw [ecg] at hy
      rcases Classical.em (sw_Ho nb ops argA argB len br er fi se raw fn bk l (j + 2)) with w | w
      · have w2 := (hO j).mp w
        refine absurd ((hN j).mp ⟨w2.1, sw_Rg_cv w2.2 (sw_Pa_e hed) py hy⟩) ?_
        rcases hor with u | u
        · exact absurd w u
        · exact u
      · rcases (m4 l (by omega) j hj).2 hne with u | u
        · exact w u
        · have u2 := u y
          rw [ecg, ecb] at u2
          exact u2 (sw_Pa_t (sw_Pa_e hed) py) hy) (by
      rw [lc]
      exact mR) x1 x2 x3 x4 x5 x6 x7 x8 y1 y2
    obtain ⟨mv1, mv2⟩ := mv
    have esv : sv' = sv1 := mv2.trans y3.symm
    subst esv
    refine hX _ _ (sw_in (d := l + 1) (st := st) (es := es) (tch := tch) (cel := cel) (vrs := vrs) (eny := eny) (had := had1) ⟨hZ, hP, hE, hW, hV, ?_, hpl, mv1⟩ (fun _ => by omega)) y4
    intro m
    by_cases z : m = l
    · rw [z, pk_us, pk_us]
      exact ⟨⟨g, hgf, eg⟩, ⟨t, ht, rfl⟩, ⟨0, by omega, rfl⟩⟩
    · rw [pk_un z, pk_un z]
      exact hB m
  have er2 : fil r = sw_rd (sw_Ho nb ops argA argB len br er fi se raw fn bk) vrs cel (l + 1) r := m5 r hr
  refine nm_r (nI_pred l) (And.intro hin (And.intro hin ?_))
  rw [ecl, eg, eb, sw_8]
  refine nm_e (And.intro hin (nm_r ei (And.intro hink ?_)))
  rw [eck, eL]
  refine br_t (nI_le hLi (by omega)) ⟨hink, br_f hbr ⟨hink, ?_⟩⟩
  rw [e_r, e_1, e_2, ecr, er2]
  refine ⟨inr, br_c (fun z => ⟨hink, mvt t2 ht2 ⟨hbn, ht2, hbr, Or.inr e_2⟩ (fun _ => rfl) (fun w => absurd z w)⟩) (fun z => ⟨hink, mvt t1 ht1 ⟨hbn, ht1, hbr, Or.inl e_1⟩ (fun w => absurd w z) (fun _ => rfl)⟩)⟩
theorem sj_step {l : Nat} (h : sw_RG nf nb ns nl cu (l + 1) sv rs ops argA argB len br en er fi se raw wr pln rch rgn ec fil fn bk ix hd slt enx cel vrs eny had) {postX : SX → Prop} (hX : ∀ u' v', sw_Q u' v' → (∀ postY : SY → Prop, postY v' → wpY_step postY ((nI nf), (nI nb), (nI ns), (nI nl), (nI cu), st, (nI (l + 1)), sv, es, ops, argA, argB, len, en, er, fi, se, wr, cel, fn, bk, ix, vrs, eny, had)) → postX u') : wpX_step postX ((nI nf), (nI nb), (nI (2 + ns)), (nI nl), (nI cu), (nI (l + 1)), st, sv, rs, es, ops, argA, argB, len, br, er, fi, se, raw, pln, rch, tch, rgn, ec, fil, fn, bk, ix, hd, slt, enx) := by
  have hR := id h
  obtain ⟨hZ, hP, hE, hW, hV, hB, hpl, hM⟩ := h
  obtain ⟨z1, z2, z3, z4, z5, z6, z7, z8, z9, z10⟩ := id hZ
  obtain ⟨⟨g, hgf, eg⟩, ⟨b, hbn, eb⟩, ⟨i, hi, ei⟩⟩ := hB l
  obtain ⟨L, hL, eL⟩ := hP.1 (8 * g + b) (by omega)
  rcases Nat.lt_or_ge i L with hLi | hLi
  · obtain ⟨o, a, ho, eo, ea, ha6, han, hb2⟩ := hP.2.2.2.2 (6 * (8 * g + b) + i) (by omega)
    by_cases h6 : o = 6
    · rw [h6] at eo
      rcases Nat.lt_or_ge (l + 1) nl with w | w
      · exact sj_call (by omega) (by omega) (by omega) hi hL eg eb ei eL hLi w eo ea (ha6 h6) hR hX
      · exact sj_deep (by omega) (by omega) (by omega) hi hL eg eb ei eL hLi (by omega) eo hR hX
    · exact sj_exec (by omega) (by omega) (by omega) hi hL eg eb ei eL hLi (by omega) eo ea (han h6) (fun w => hb2 w (by omega)) hR hX
  · by_cases hbr : br (8 * g + b) = 0
    · exact sj_leave (by omega) (by omega) (by omega) hi hL eg eb ei eL hLi hbr hR hX
    · exact sj_branch (by omega) (by omega) (by omega) hi hL eg eb ei eL hLi hbr hgf hbn hR hX
end SJ
theorem sw_step {u : SX} {v : SY} (I : sw_Q u v) : u.2.2.2.2.2.2.1 = 1 → ∀ {postX : SX → Prop}, (∀ u' v', sw_Q u' v' → (∀ postY : SY → Prop, postY v' → wpY_step postY v) → postX u') → wpX_step postX u := by
  refine sw_el (Z := fun u v => u.2.2.2.2.2.2.1 = 1 → ∀ {postX : SX → Prop}, (∀ u' v', sw_Q u' v' → (∀ postY : SY → Prop, postY v' → wpY_step postY v) → postX u') → wpX_step postX u) ?_ I
  intro nf nb ns nl cu d st sv rs es ops argA argB len br en er fi se raw wr pln rch tch rgn ec fil fn bk ix hd slt enx cel vrs eny had hR h1 hs postX hX
  have hd0 : 0 < d := h1 hs
  obtain ⟨l, rfl⟩ : ∃ l, d = l + 1 := ⟨d - 1, by omega⟩
  exact sj_step hR hX
end
section
/-! run, unwind, start -/
def sw_RX (post : Int32 → SX → Prop) (x2 : Int32) (n : Nat) (x3 : Int32) (u : SX) : Prop := match u with
  | (f_functions , f_blocks , f_registers , f_limit , f_cursor , f_depth , f_status , f_saves , f_restores , f_entrySaves , a_ops , a_argA , a_argB , a_length , a_branches , a_endReg , a_first , a_second , a_raw , a_planned , a_reach , a_touch , a_regions , a_entryCost , a_file , a_fn , a_blk , a_idx , a_held , a_slots , a_entries) => wX_run_11 post x2 n x3 f_functions f_blocks f_registers f_limit f_cursor f_depth f_status f_saves f_restores f_entrySaves a_ops a_argA a_argB a_length a_branches a_endReg a_first a_second a_raw a_planned a_reach a_touch a_regions a_entryCost a_file a_fn a_blk a_idx a_held a_slots a_entries
def sw_RY (post : Int32 → SY → Prop) (x2 : Int32) (n : Nat) (x3 : Int32) (u : SY) : Prop := match u with
  | (f_functions , f_blocks , f_saved , f_deepest , f_cursor , f_status , f_depth , f_saves , f_entrySaves , a_op , a_argA , a_argB , a_size , a_end , a_endR , a_endT , a_endU , a_wrapped , a_cells , a_func , a_block , a_index , a_vars , a_entries , a_had) => wY_run_11 post x2 n x3 f_functions f_blocks f_saved f_deepest f_cursor f_status f_depth f_saves f_entrySaves a_op a_argA a_argB a_size a_end a_endR a_endT a_endU a_wrapped a_cells a_func a_block a_index a_vars a_entries a_had
theorem sw_RX_s {post : Int32 → SX → Prop} {x2 : Int32} {n : Nat} {x3 : Int32} {u : SX} (h : (x2 ≤ x3 → post u.2.2.2.2.2.2.1 u) ∧ (¬ x2 ≤ x3 → ((u.2.2.2.2.2.2.1 = 1 → wpX_step (fun u => ∀ y, y = x3 + 1 → sw_RX post x2 n y u) u) ∧ (¬ u.2.2.2.2.2.2.1 = 1 → post u.2.2.2.2.2.2.1 u)))) : sw_RX post x2 (n + 1) x3 u := by
  obtain ⟨f_functions , f_blocks , f_registers , f_limit , f_cursor , f_depth , f_status , f_saves , f_restores , f_entrySaves , a_ops , a_argA , a_argB , a_length , a_branches , a_endReg , a_first , a_second , a_raw , a_planned , a_reach , a_touch , a_regions , a_entryCost , a_file , a_fn , a_blk , a_idx , a_held , a_slots , a_entries⟩ := u
  exact h
theorem sw_RY_s {post : Int32 → SY → Prop} {x2 : Int32} {n : Nat} {x3 : Int32} {u : SY} (h : (x2 ≤ x3 → post u.2.2.2.2.2.1 u) ∧ (¬ x2 ≤ x3 → ((u.2.2.2.2.2.1 = 1 → wpY_step (fun u => ∀ y, y = x3 + 1 → sw_RY post x2 n y u) u) ∧ (¬ u.2.2.2.2.2.1 = 1 → post u.2.2.2.2.2.1 u)))) : sw_RY post x2 (n + 1) x3 u := by
  obtain ⟨f_functions , f_blocks , f_saved , f_deepest , f_cursor , f_status , f_depth , f_saves , f_entrySaves , a_op , a_argA , a_argB , a_size , a_end , a_endR , a_endT , a_endU , a_wrapped , a_cells , a_func , a_block , a_index , a_vars , a_entries , a_had⟩ := u
  exact h
theorem sw_Q_st {u : SX} {v : SY} (I : sw_Q u v) : v.2.2.2.2.2.1 = u.2.2.2.2.2.2.1 :=
  sw_el (Z := fun u v => v.2.2.2.2.2.1 = u.2.2.2.2.2.2.1) (by intros; rfl) I
theorem sw_runl {s : Nat} (hs : s ≤ 64) {v0 : SY} : ∀ q i u v, i + q = s → sw_Q u v → (∀ postY : Int32 → SY → Prop, sw_RY postY (nI s) (q + 1) (nI i) v → sw_RY postY (nI s) (s + 1) (nI 0) v0) → ∀ post : Int32 → SX → Prop, (∀ r u' v', sw_Q u' v' → (∀ postY : Int32 → SY → Prop, postY r v' → sw_RY postY (nI s) (s + 1) (nI 0) v0) → post r u') → sw_RX post (nI s) (q + 1) (nI i) u := by
  intro q
  induction q with
  | zero =>
    intro i u v hi hQ K post hp
    refine sw_RX_s (br_t (nI_le (by omega) (by omega)) (hp _ _ v hQ (fun postY hy => K postY (sw_RY_s (br_t (nI_le (by omega) (by omega)) ?_)))))
    rw [sw_Q_st hQ]
    exact hy
  | succ q ih =>
    intro i u v hi hQ K post hp
    have hst := sw_Q_st hQ
    refine sw_RX_s (br_f (nI_ge (by omega) (by omega)) (br_c (fun e => ?_) (fun e => ?_)))
    · refine sw_step hQ e (fun u' v' hQ' hY => nm_r (nI_1 i) (ih (i + 1) u' v' (by omega) hQ' (fun postY hr => K postY (sw_RY_s (br_f (nI_ge (by omega) (by omega)) (br_t (hst.trans e) (hY _ (nm_r (nI_1 i) hr)))))) post hp))
    · refine hp _ _ v hQ (fun postY hy => K postY (sw_RY_s (br_f (nI_ge (by omega) (by omega)) (br_f (fun w => e (hst.symm.trans w)) ?_))))
      rw [hst]
      exact hy
theorem sw_clamp {p : Int32} {lo hi : Nat} (h : lo ≤ hi) (hh : hi < 2 ^ 31) : ∃ s : Nat, lo ≤ s ∧ s ≤ hi ∧ (∀ (post : Int32 → Prop) (u : SX), post (nI s) → wpX_clamp post u p (nI lo) (nI hi)) ∧ (∀ (post : Int32 → Prop) (u : SY), post (nI s) → wpY_clamp post u p (nI lo) (nI hi)) := by
  by_cases h1 : nI lo ≤ p
  · by_cases h2 : p ≤ nI hi
    · have h0 : ¬ p < 0 := by
        rw [Int32.lt_iff_toInt_lt]
        rw [Int32.le_iff_toInt_le, nI_toInt (by omega)] at h1
        have : (0 : Int32).toInt = 0 := by decide
        omega
      obtain ⟨s, hs, rfl⟩ := nI_of h0
      rw [nI_leI (by omega) hs] at h1
      rw [nI_leI hs (by omega)] at h2
      exact ⟨s, h1, h2, fun post u hp => br_t (nI_le h1 hs) (br_t (nI_le h2 (by omega)) hp), fun post u hp => br_t (nI_le h1 hs) (br_t (nI_le h2 (by omega)) hp)⟩
    · exact ⟨hi, h, Nat.le_refl _, fun post u hp => br_t h1 (br_f h2 hp), fun post u hp => br_t h1 (br_f h2 hp)⟩
  · exact ⟨lo, Nat.le_refl _, h, fun post u hp => br_f h1 hp, fun post u hp => br_f h1 hp⟩
theorem sw_run {u : SX} {v : SY} (I : sw_Q u v) (p : Int32) : wpX_run (fun r u' => wpY_run (fun r' v' => r' = r ∧ sw_Q u' v') v p) u p := by
  obtain ⟨s, h1, h2, hX, hY⟩ := sw_clamp (p := p) (lo := 1) (hi := 64) (by decide) (by decide)
  have wX : ∀ post : Int32 → SX → Prop, sw_RX post (nI s) (s + 1) (nI 0) u → wpX_run post u p := by
    intro post h
    obtain ⟨f_functions , f_blocks , f_registers , f_limit , f_cursor , f_depth , f_status , f_saves , f_restores , f_entrySaves , a_ops , a_argA , a_argB , a_length , a_branches , a_endReg , a_first , a_second , a_raw , a_planned , a_reach , a_touch , a_regions , a_entryCost , a_file , a_fn , a_blk , a_idx , a_held , a_slots , a_entries⟩ := u
    unfold wpX_run
    refine hX _ _ ?_
    exact ⟨s + 1, h⟩
  have wY : ∀ post : Int32 → SY → Prop, sw_RY post (nI s) (s + 1) (nI 0) v → wpY_run post v p := by
    intro post h
    obtain ⟨f_functions , f_blocks , f_saved , f_deepest , f_cursor , f_status , f_depth , f_saves , f_entrySaves , a_op , a_argA , a_argB , a_size , a_end , a_endR , a_endT , a_endU , a_wrapped , a_cells , a_func , a_block , a_index , a_vars , a_entries , a_had⟩ := v
    unfold wpY_run
    refine hY _ _ ?_
    exact ⟨s + 1, h⟩
  exact wX _ (sw_runl h2 s 0 u v (by omega) I (fun _ h => h) _ (fun r u' v' hQ K => wY _ (K _ ⟨rfl, hQ⟩)))
section UW
variable {nf nb ns nl cu d : Nat} {st sv rs es : Int32} {ops argA argB len br en er fi se raw wr pln rch tch rgn ec fil fn bk ix hd slt enx cel vrs eny had : Nat → Int32}
theorem xa_unw {post : Int32 → SX → Prop} {H : Nat → Nat → Prop} (hns : ns ≤ 4) (hd8 : d ≤ 8) (h1 : sw_M1 ns d H vrs cel slt) (h2 : sw_M2 d H hd) (hr2 : ∀ m r, r < 2 → ¬ H m r)
    (h : ∀ fil' rs' hd', sw_M5 ns 0 H vrs cel fil' → rs' = sv - sw_hc H ns 0 → post (nI d) ((nI nf), (nI nb), (nI (2 + ns)), (nI nl), (nI cu), (nI 0), 0, sv, rs', es, ops, argA, argB, len, br, er, fi, se, raw, pln, rch, tch, rgn, ec, fil', fn, bk, ix, hd', slt, enx)) :
    ∀ m fil' rs' hd', m ≤ d → sw_M5 ns m H vrs cel fil' → rs' = sv - sw_hc H ns m → (∀ l, l < m → hd' l = hd l) → ∀ n, m < n → wX_unwind_15 post (nI d) n (nI m - 1) (nI nf) (nI nb) (nI (2 + ns)) (nI nl) (nI cu) (nI d) st sv rs' es ops argA argB len br er fi se raw pln rch tch rgn ec fil' fn bk ix hd' slt enx := by
  intro m
  induction m with
  | zero =>
    intro fil' rs' hd' hm m5 mR mh n hn
    obtain ⟨n, rfl⟩ : ∃ n', n = n' + 1 := ⟨n - 1, by omega⟩
    exact br_t (by decide) (h fil' rs' hd' m5 mR)
  | succ m ih =>
    intro fil' rs' hd' hm m5 mR mh n hn
    obtain ⟨n, rfl⟩ : ∃ n', n = n' + 1 := ⟨n - 1, by omega⟩
    rw [nI_pred]
    refine br_f (nI_pos (by omega)) ⟨vp_in_nI (by omega) (by omega), ?_⟩
    rw [nI_clamp (by omega : m < 2 ^ 31), mh m (by omega)]
    refine xa_restore (by omega) hns (fun fil1 rs1 a1 a2 a3 => nm_r (Int32.sub_eq_add_neg _ _).symm (ih fil1 rs1 _ (by omega) ?_ ?_ ?_ n (by omega)))
    · refine sw_pop5 m5 (h1 m (by omega)) hr2 a1 (fun j hj => ?_)
      rw [a2 j hj, sw_ic (h2 m (by omega) j)]
    · rw [a3, sw_sm_congr (fun j _ => h2 m (by omega) j)]
      exact sw_popR mR
    · intro l hl
      rw [pk_un (by omega)]
      exact mh l (by omega)
theorem sj_unwind (hR : sw_RG nf nb ns nl cu d sv rs ops argA argB len br en er fi se raw wr pln rch rgn ec fil fn bk ix hd slt enx cel vrs eny had) (h2 : st = 1 → 0 < d) : wpX_unwind (fun r u' => wpY_unwind (fun r' v' => r' = r ∧ sw_Q u' v') ((nI nf), (nI nb), (nI ns), (nI nl), (nI cu), st, (nI d), sv, es, ops, argA, argB, len, en, er, fi, se, wr, cel, fn, bk, ix, vrs, eny, had)) ((nI nf), (nI nb), (nI (2 + ns)), (nI nl), (nI cu), (nI d), st, sv, rs, es, ops, argA, argB, len, br, er, fi, se, raw, pln, rch, tch, rgn, ec, fil, fn, bk, ix, hd, slt, enx) := by
  obtain ⟨hZ, hP, hE, hW, hV, hB, hpl, hM⟩ := hR
  obtain ⟨z1, z2, z3, z4, z5, z6, z7, z8, z9, z10⟩ := id hZ
  obtain ⟨m5, m1, m2, m3, m4, mR⟩ := id hM
  have z0 : sw_SZ nf nb ns nl cu 0 := ⟨z1, z2, z3, z4, z5, z6, z7, z8, z9, by omega⟩
  rcases Nat.eq_zero_or_pos d with z | z
  · subst z
    exact br_t rfl (br_t (by decide) ⟨rfl, sw_in ⟨hZ, hP, hE, hW, hV, hB, hpl, hM⟩ (fun w => h2 w)⟩)
  · refine br_f (nI_ne0 z (by omega)) (nm_e ⟨d + 1, xa_unw z6 (by omega) m1 m2 sw_Ho_2 (fun fil' rs' hd' n5 nR => ?_) d fil rs hd (Nat.le_refl _) m5 mR (fun _ _ => rfl) (d + 1) (by omega)⟩)
    exact br_f (nI_nle z (by omega)) ⟨rfl, sw_in (d := 0) (st := 0) ⟨z0, hP, hE, hW, hV, hB, fun l hl => absurd hl (Nat.not_lt_zero _), n5, fun l hl => absurd hl (Nat.not_lt_zero _), fun l hl => absurd hl (Nat.not_lt_zero _), fun l hl => absurd hl (Nat.not_lt_zero _), fun l hl => absurd hl (Nat.not_lt_zero _), nR⟩ (fun w => absurd w (by decide))⟩
end UW
end
section
/-! the checks of arguments; edits of the program -/
def sw_bad (n : Nat) (p : Int32) : Prop := p < 0 ∨ nI n ≤ p
theorem sw_dic (p : Int32) {n : Nat} (hn : n < 2 ^ 31) : sw_bad n p ∨ ∃ j, j < n ∧ p = nI j := by
  rcases pk_ix p hn with z | z | z
  · exact Or.inl (Or.inl z)
  · exact Or.inl (Or.inr z)
  · exact Or.inr z
theorem sw_b2 {n : Nat} {p : Int32} {A B C : Prop} (h : sw_bad n p) (a : A) (b : B) : (p < 0 → A) ∧ (¬ p < 0 → ((nI n ≤ p → B) ∧ (¬ nI n ≤ p → C))) := by
  rcases Classical.em (p < 0) with z | z
  · exact br_t z a
  · exact br_f z (br_t (h.resolve_left z) b)
section CK
variable {nf nb ns nl cu d : Nat} {st sv rs es : Int32} {ops argA argB len br en er fi se raw wr pln rch tch rgn ec fil fn bk ix hd slt enx cel vrs eny had : Nat → Int32}
theorem xc_f1 {post : Int32 → Prop} {j : Nat} (hn : nf ≤ 4) (hj : j < nf) (h : post 1) : wpX_isFunction post ((nI nf), (nI nb), (nI (2 + ns)), (nI nl), (nI cu), (nI d), st, sv, rs, es, ops, argA, argB, len, br, er, fi, se, raw, pln, rch, tch, rgn, ec, fil, fn, bk, ix, hd, slt, enx) (nI j) := br_f (nI_pos (by omega)) (br_f (nI_ge hj (by omega)) h)
theorem xc_f0 {post : Int32 → Prop} {p : Int32} (hb : sw_bad nf p) (h : post 0) : wpX_isFunction post ((nI nf), (nI nb), (nI (2 + ns)), (nI nl), (nI cu), (nI d), st, sv, rs, es, ops, argA, argB, len, br, er, fi, se, raw, pln, rch, tch, rgn, ec, fil, fn, bk, ix, hd, slt, enx) p := sw_b2 hb h h
theorem xc_b1 {post : Int32 → Prop} {j : Nat} (hn : nb ≤ 8) (hj : j < nb) (h : post 1) : wpX_isBlock post ((nI nf), (nI nb), (nI (2 + ns)), (nI nl), (nI cu), (nI d), st, sv, rs, es, ops, argA, argB, len, br, er, fi, se, raw, pln, rch, tch, rgn, ec, fil, fn, bk, ix, hd, slt, enx) (nI j) := br_f (nI_pos (by omega)) (br_f (nI_ge hj (by omega)) h)
theorem xc_b0 {post : Int32 → Prop} {p : Int32} (hb : sw_bad nb p) (h : post 0) : wpX_isBlock post ((nI nf), (nI nb), (nI (2 + ns)), (nI nl), (nI cu), (nI d), st, sv, rs, es, ops, argA, argB, len, br, er, fi, se, raw, pln, rch, tch, rgn, ec, fil, fn, bk, ix, hd, slt, enx) p := sw_b2 hb h h
theorem xc_r1 {post : Int32 → Prop} {j : Nat} (hn : ns ≤ 4) (hj : j < 2 + ns) (h : post 1) : wpX_isRegister post ((nI nf), (nI nb), (nI (2 + ns)), (nI nl), (nI cu), (nI d), st, sv, rs, es, ops, argA, argB, len, br, er, fi, se, raw, pln, rch, tch, rgn, ec, fil, fn, bk, ix, hd, slt, enx) (nI j) := br_f (nI_pos (by omega)) (br_f (nI_ge hj (by omega)) h)
theorem xc_r0 {post : Int32 → Prop} {p : Int32} (hb : sw_bad (2 + ns) p) (h : post 0) : wpX_isRegister post ((nI nf), (nI nb), (nI (2 + ns)), (nI nl), (nI cu), (nI d), st, sv, rs, es, ops, argA, argB, len, br, er, fi, se, raw, pln, rch, tch, rgn, ec, fil, fn, bk, ix, hd, slt, enx) p := sw_b2 hb h h
theorem yc_f1 {post : Int32 → Prop} {j : Nat} (hn : nf ≤ 4) (hj : j < nf) (h : post 1) : wpY_isFunc post ((nI nf), (nI nb), (nI ns), (nI nl), (nI cu), st, (nI d), sv, es, ops, argA, argB, len, en, er, fi, se, wr, cel, fn, bk, ix, vrs, eny, had) (nI j) := br_f (nI_pos (by omega)) (br_f (nI_ge hj (by omega)) h)
theorem yc_f0 {post : Int32 → Prop} {p : Int32} (hb : sw_bad nf p) (h : post 0) : wpY_isFunc post ((nI nf), (nI nb), (nI ns), (nI nl), (nI cu), st, (nI d), sv, es, ops, argA, argB, len, en, er, fi, se, wr, cel, fn, bk, ix, vrs, eny, had) p := sw_b2 hb h h
theorem yc_b1 {post : Int32 → Prop} {j : Nat} (hn : nb ≤ 8) (hj : j < nb) (h : post 1) : wpY_isBlock post ((nI nf), (nI nb), (nI ns), (nI nl), (nI cu), st, (nI d), sv, es, ops, argA, argB, len, en, er, fi, se, wr, cel, fn, bk, ix, vrs, eny, had) (nI j) := br_f (nI_pos (by omega)) (br_f (nI_ge hj (by omega)) h)
theorem yc_b0 {post : Int32 → Prop} {p : Int32} (hb : sw_bad nb p) (h : post 0) : wpY_isBlock post ((nI nf), (nI nb), (nI ns), (nI nl), (nI cu), st, (nI d), sv, es, ops, argA, argB, len, en, er, fi, se, wr, cel, fn, bk, ix, vrs, eny, had) p := sw_b2 hb h h
theorem yc_r1 {post : Int32 → Prop} {j : Nat} (hn : ns ≤ 4) (hj : j < 2 + ns) (h : post 1) : wpY_isReg post ((nI nf), (nI nb), (nI ns), (nI nl), (nI cu), st, (nI d), sv, es, ops, argA, argB, len, en, er, fi, se, wr, cel, fn, bk, ix, vrs, eny, had) (nI j) := by
  refine br_f (nI_pos (by omega)) (br_f ?_ h)
  rw [sw_1p]
  exact nI_nlt (by omega) (by omega)
theorem yc_r0 {post : Int32 → Prop} {p : Int32} (hn : ns ≤ 4) (hb : sw_bad (2 + ns) p) (h : post 0) : wpY_isReg post ((nI nf), (nI nb), (nI ns), (nI nl), (nI cu), st, (nI d), sv, es, ops, argA, argB, len, en, er, fi, se, wr, cel, fn, bk, ix, vrs, eny, had) p := by
  rcases Classical.em (p < 0) with z | z
  · exact br_t z h
  · refine br_f z (br_t ?_ h)
    rw [sw_1p]
    exact Int32.lt_of_lt_of_le (nI_lt (by omega) (by omega)) (hb.resolve_left z)
theorem xc_o1 {post : Int32 → Prop} {f b : Nat} (hn : nf ≤ 4) (hn2 : nb ≤ 8) (hf : f < nf) (hb : b < nb) (h : post 1) : wpX_isBlockOf post ((nI nf), (nI nb), (nI (2 + ns)), (nI nl), (nI cu), (nI d), st, sv, rs, es, ops, argA, argB, len, br, er, fi, se, raw, pln, rch, tch, rgn, ec, fil, fn, bk, ix, hd, slt, enx) (nI f) (nI b) := by
  unfold wpX_isBlockOf
  exact xc_f1 hn hf (br_f sw_10 (xc_b1 hn2 hb (br_f sw_10 h)))
theorem xc_o0 {post : Int32 → Prop} {p q : Int32} (hb : sw_bad nf p) (h : post 0) : wpX_isBlockOf post ((nI nf), (nI nb), (nI (2 + ns)), (nI nl), (nI cu), (nI d), st, sv, rs, es, ops, argA, argB, len, br, er, fi, se, raw, pln, rch, tch, rgn, ec, fil, fn, bk, ix, hd, slt, enx) p q := by
  unfold wpX_isBlockOf
  exact xc_f0 hb (br_t rfl h)
theorem xc_o2 {post : Int32 → Prop} {f : Nat} {q : Int32} (hn : nf ≤ 4) (hf : f < nf) (hb : sw_bad nb q) (h : post 0) : wpX_isBlockOf post ((nI nf), (nI nb), (nI (2 + ns)), (nI nl), (nI cu), (nI d), st, sv, rs, es, ops, argA, argB, len, br, er, fi, se, raw, pln, rch, tch, rgn, ec, fil, fn, bk, ix, hd, slt, enx) (nI f) q := by
  unfold wpX_isBlockOf
  exact xc_f1 hn hf (br_f sw_10 (xc_b0 hb (br_t rfl h)))
theorem sw_MC0 {H F H' F' : Nat → Nat → Prop} (h : sw_MC ns 0 H F sv rs fil hd slt enx cel vrs eny had) : sw_MC ns 0 H' F' sv rs fil hd slt enx cel vrs eny had :=
  ⟨h.1, fun l hl => absurd hl (Nat.not_lt_zero _), fun l hl => absurd hl (Nat.not_lt_zero _), fun l hl => absurd hl (Nat.not_lt_zero _), fun l hl => absurd hl (Nat.not_lt_zero _), h.2.2.2.2.2⟩
theorem sw_edit {g cu' : Nat} {ops' argA' argB' len' br' er' fi' se' en' : Nat → Int32} (h : sw_RG nf nb ns nl cu 0 sv rs ops argA argB len br en er fi se raw wr pln rch rgn ec fil fn bk ix hd slt enx cel vrs eny had) (hcu : cu' < 32) (hP' : sw_PG nf nb ns ops' argA' argB' len' er' fi' se') (hE' : sw_HE br' en')
    (hA : ∀ f, f ≠ g → sw_Ag ops argA argB len br er fi se ops' argA' argB' len' br' er' fi' se' f) : sw_RG nf nb ns nl cu' 0 sv rs ops' argA' argB' len' br' en' er' fi' se' raw wr (upd pln g 0) rch rgn ec fil fn bk ix hd slt enx cel vrs eny had := by
  obtain ⟨⟨z1, z2, z3, z4, z5, z6, z7, z8, z9, z10⟩, hP, hE, hW, hV, hB, hpl, hM⟩ := h
  refine ⟨⟨z1, z2, z3, z4, z5, z6, z7, z8, hcu, z10⟩, hP', hE', hW, ?_, hB, fun l hl => absurd hl (Nat.not_lt_zero _), sw_MC0 hM⟩
  intro f hf hp
  by_cases e : f = g
  · rw [e, pk_us] at hp
    exact absurd rfl hp
  · rw [pk_un e] at hp
    exact sw_Ag_F z4 (hA f e) (hV f hf hp)
theorem sw_sh3 {n : Nat} (h : n < 32) : nI n >>> ((3 : Int32) &&& 31) = nI (n / 8) := pk_shrN (by omega) _ 3 (by decide)
end CK
end
section
/-! the methods that change the program or the registers, and start -/
theorem sw_un {N k x : Nat} {p : Nat → Prop} {a : Nat → Int32} (h : ∀ m, m < N → ∃ j, p j ∧ a m = nI j) (hx : p x) : ∀ m, m < N → ∃ j, p j ∧ upd a k (nI x) m = nI j := by
  intro m hm
  by_cases e : m = k
  · rw [e, pk_us]
    exact ⟨x, hx, rfl⟩
  · rw [pk_un e]
    exact h m hm
theorem sw_HE_u {k : Nat} {br en : Nat → Int32} {x y : Int32} (h : sw_HE br en) (hx : (x = 0 ∧ y = 7) ∨ (¬ x = 0 ∧ y = 8)) : sw_HE (upd br k x) (upd en k y) := by
  intro m hm
  by_cases e : m = k
  · rw [e, pk_us, pk_us]
    exact hx
  · rw [pk_un e, pk_un e]
    exact h m hm
section ED
variable {nf nb ns nl cu d : Nat} {st sv rs es : Int32} {ops argA argB len br en er fi se raw wr pln rch tch rgn ec fil fn bk ix hd slt enx cel vrs eny had : Nat → Int32}
theorem sw_n0 : ¬ (0 : Int32) < nI 0 := by decide
theorem sj_open (hR : sw_RG nf nb ns nl cu d sv rs ops argA argB len br en er fi se raw wr pln rch rgn ec fil fn bk ix hd slt enx cel vrs eny had) (h2 : st = 1 → 0 < d) (v1 v2 : Int32) : wpX_open (fun r u' => wpY_open (fun r' v' => r' = r ∧ sw_Q u' v') ((nI nf), (nI nb), (nI ns), (nI nl), (nI cu), st, (nI d), sv, es, ops, argA, argB, len, en, er, fi, se, wr, cel, fn, bk, ix, vrs, eny, had) v1 v2) ((nI nf), (nI nb), (nI (2 + ns)), (nI nl), (nI cu), (nI d), st, sv, rs, es, ops, argA, argB, len, br, er, fi, se, raw, pln, rch, tch, rgn, ec, fil, fn, bk, ix, hd, slt, enx) v1 v2 := by
  have hQ : sw_Q ((nI nf), (nI nb), (nI (2 + ns)), (nI nl), (nI cu), (nI d), st, sv, rs, es, ops, argA, argB, len, br, er, fi, se, raw, pln, rch, tch, rgn, ec, fil, fn, bk, ix, hd, slt, enx) ((nI nf), (nI nb), (nI ns), (nI nl), (nI cu), st, (nI d), sv, es, ops, argA, argB, len, en, er, fi, se, wr, cel, fn, bk, ix, vrs, eny, had) := sw_in hR h2
  obtain ⟨⟨z1, z2, z3, z4, z5, z6, z7, z8, z9, z10⟩, hP, hE, _⟩ := id hR
  rcases Nat.eq_zero_or_pos d with z | z
  · subst z
    rcases sw_dic v1 (n := nf) (by omega) with b1 | ⟨g, hg, rfl⟩
    · exact br_f sw_n0 (xc_o0 b1 (br_t rfl (br_f sw_n0 (yc_f0 b1 (br_t rfl ⟨rfl, hQ⟩)))))
    · rcases sw_dic v2 (n := nb) (by omega) with b2 | ⟨b, hb, rfl⟩
      · exact br_f sw_n0 (xc_o2 z2 hg b2 (br_t rfl (br_f sw_n0 (yc_f1 z2 hg (br_f sw_10 (yc_b0 b2 (br_t rfl ⟨rfl, hQ⟩)))))))
      · have hin : vp_in (nI (8 * g + b)) 32 := vp_in_nI (by omega) (by omega)
        have hin4 : vp_in (nI g) 4 := vp_in_nI (by omega) (by omega)
        have eck : (nI (8 * g + b)).toNatClampNeg = 8 * g + b := nI_clamp (by omega)
        have ecg : (nI g).toNatClampNeg = g := nI_clamp (by omega)
        refine br_f sw_n0 (xc_o1 z2 z4 hg hb (br_f sw_10 (nm_r (sw_8 g b) ?_)))
        rw [eck, ecg, sw_b0]
        refine ⟨hin, nm_e ⟨hin, nm_e ⟨hin4, nm_e (br_f sw_n0 (yc_f1 z2 hg (br_f sw_10 (yc_b1 z4 hb (br_f sw_10 (nm_r (sw_8 g b) ?_))))))⟩⟩⟩
        rw [eck]
        refine ⟨hin, nm_e ⟨hin, nm_e ⟨rfl, sw_in (cu := 8 * g + b) (sw_edit hR (by omega) ⟨sw_un (x := 0) hP.1 (by omega), hP.2⟩ (sw_HE_u hE (Or.inl ⟨rfl, rfl⟩)) ?_) h2⟩⟩⟩
        intro f hf
        exact ⟨fun k hk => ⟨pk_un (by omega), pk_un (by omega), rfl, rfl, rfl⟩, fun _ _ => ⟨rfl, rfl, rfl⟩⟩
  · have h0 : (0 : Int32) < nI d := nI_lt (a := 0) z (by omega)
    exact br_t h0 (br_t h0 ⟨rfl, hQ⟩)
theorem sj_branchM (hR : sw_RG nf nb ns nl cu d sv rs ops argA argB len br en er fi se raw wr pln rch rgn ec fil fn bk ix hd slt enx cel vrs eny had) (h2 : st = 1 → 0 < d) (v1 v2 v3 : Int32) : wpX_branch (fun r u' => wpY_branch (fun r' v' => r' = r ∧ sw_Q u' v') ((nI nf), (nI nb), (nI ns), (nI nl), (nI cu), st, (nI d), sv, es, ops, argA, argB, len, en, er, fi, se, wr, cel, fn, bk, ix, vrs, eny, had) v1 v2 v3) ((nI nf), (nI nb), (nI (2 + ns)), (nI nl), (nI cu), (nI d), st, sv, rs, es, ops, argA, argB, len, br, er, fi, se, raw, pln, rch, tch, rgn, ec, fil, fn, bk, ix, hd, slt, enx) v1 v2 v3 := by
  have hQ : sw_Q ((nI nf), (nI nb), (nI (2 + ns)), (nI nl), (nI cu), (nI d), st, sv, rs, es, ops, argA, argB, len, br, er, fi, se, raw, pln, rch, tch, rgn, ec, fil, fn, bk, ix, hd, slt, enx) ((nI nf), (nI nb), (nI ns), (nI nl), (nI cu), st, (nI d), sv, es, ops, argA, argB, len, en, er, fi, se, wr, cel, fn, bk, ix, vrs, eny, had) := sw_in hR h2
  obtain ⟨⟨z1, z2, z3, z4, z5, z6, z7, z8, z9, z10⟩, hP, hE, _⟩ := id hR
  rcases Nat.eq_zero_or_pos d with z | z
  · subst z
    rcases sw_dic v1 (n := 2 + ns) (by omega) with b1 | ⟨r, hr, rfl⟩
    · exact br_f sw_n0 (xc_r0 b1 (br_t rfl (br_f sw_n0 (yc_r0 z6 b1 (br_t rfl ⟨rfl, hQ⟩)))))
    · rcases sw_dic v2 (n := nb) (by omega) with b2 | ⟨t, ht, rfl⟩
      · exact br_f sw_n0 (xc_r1 z6 hr (br_f sw_10 (xc_b0 b2 (br_t rfl (br_f sw_n0 (yc_r1 z6 hr (br_f sw_10 (yc_b0 b2 (br_t rfl ⟨rfl, hQ⟩)))))))))
      · rcases sw_dic v3 (n := nb) (by omega) with b3 | ⟨w, hw, rfl⟩
        · exact br_f sw_n0 (xc_r1 z6 hr (br_f sw_10 (xc_b1 z4 ht (br_f sw_10 (xc_b0 b3 (br_t rfl (br_f sw_n0 (yc_r1 z6 hr (br_f sw_10 (yc_b1 z4 ht (br_f sw_10 (yc_b0 b3 (br_t rfl ⟨rfl, hQ⟩)))))))))))))
        · have hin : vp_in (nI cu) 32 := vp_in_nI (by omega) (by omega)
          have hin4 : vp_in (nI (cu / 8)) 4 := vp_in_nI (by omega) (by omega)
          have eck : (nI cu).toNatClampNeg = cu := nI_clamp (by omega)
          have ecg : (nI (cu / 8)).toNatClampNeg = cu / 8 := nI_clamp (by omega)
          refine br_f sw_n0 (xc_r1 z6 hr (br_f sw_10 (xc_b1 z4 ht (br_f sw_10 (xc_b1 z4 hw (br_f sw_10 ?_))))))
          rw [sw_sh3 z9, eck, ecg, sw_b0, sw_b1]
          refine ⟨hin, nm_e ⟨hin, nm_e ⟨hin, nm_e ⟨hin, nm_e ⟨hin4, nm_e (br_f sw_n0 (yc_r1 z6 hr (br_f sw_10 (yc_b1 z4 ht (br_f sw_10 (yc_b1 z4 hw (br_f sw_10 ?_)))))))⟩⟩⟩⟩⟩
          rw [eck]
          refine ⟨hin, nm_e ⟨hin, nm_e ⟨hin, nm_e ⟨hin, nm_e ⟨rfl, sw_in (sw_edit hR z9 ⟨hP.1, sw_un hP.2.1 ht, sw_un hP.2.2.1 hw, sw_un hP.2.2.2.1 hr, hP.2.2.2.2⟩ (sw_HE_u hE (Or.inr ⟨sw_10, rfl⟩)) ?_) h2⟩⟩⟩⟩⟩
          intro f hf
          exact ⟨fun k hk => ⟨rfl, pk_un (by omega), pk_un (by omega), pk_un (by omega), pk_un (by omega)⟩, fun _ _ => ⟨rfl, rfl, rfl⟩⟩
  · have h0 : (0 : Int32) < nI d := nI_lt (a := 0) z (by omega)
    exact br_t h0 (br_t h0 ⟨rfl, hQ⟩)
/-! emit -/
theorem sw_7 {p : Int32} (h : sw_bad 7 p) (hn : ¬ p < 0) : ¬ p ≤ 6 := by
  intro w
  have := Int32.le_trans (h.resolve_left hn) w
  exact absurd this (by decide)
theorem xi_1 {post : Int32 → Prop} {o a : Nat} {v3 : Int32} (hnf : nf ≤ 4) (hns : ns ≤ 4) (ho : o ≤ 6) (h6 : o = 6 → a < nf) (hn6 : o ≠ 6 → a < 2 + ns) (hb : 2 ≤ o → o ≤ 5 → ∃ b, b < 2 + ns ∧ v3 = nI b) (h : post 1) : wpX_isInstruction post ((nI nf), (nI nb), (nI (2 + ns)), (nI nl), (nI cu), (nI d), st, sv, rs, es, ops, argA, argB, len, br, er, fi, se, raw, pln, rch, tch, rgn, ec, fil, fn, bk, ix, hd, slt, enx) (nI o) (nI a) v3 := by
  refine br_f (nI_pos (by omega)) (br_t (nI_le (b := 6) ho (by decide)) ?_)
  by_cases e : o = 6
  · subst e
    exact br_t rfl (xc_f1 hnf (h6 rfl) ⟨narrow_b1, h⟩)
  · refine br_f (fun w => e (sw_eqN (b := 6) (by omega) (by decide) w)) (xc_r1 hns (hn6 e) (br_f sw_10 ?_))
    rcases Nat.lt_or_ge o 2 with w | w
    · exact br_t (nI_lt (b := 2) w (by decide)) h
    · obtain ⟨b, hb2, rfl⟩ := hb w (by omega)
      exact br_f (nI_nlt (b := 2) w (by omega)) (xc_r1 hns hb2 (br_f sw_10 h))
theorem xe_1 {post : Int32 → SX → Prop} {o a L : Nat} {v3 : Int32} (hnf : nf ≤ 4) (hns : ns ≤ 4) (hcu : cu < 32) (hL : L < 6) (eL : len cu = nI L) (ho : o ≤ 6) (h6 : o = 6 → a < nf) (hn6 : o ≠ 6 → a < 2 + ns) (hb : 2 ≤ o → o ≤ 5 → ∃ b, b < 2 + ns ∧ v3 = nI b)
    (h : post 1 ((nI nf), (nI nb), (nI (2 + ns)), (nI nl), (nI cu), (nI 0), st, sv, rs, es, upd ops (6 * cu + L) (nI o), upd argA (6 * cu + L) (nI a), upd argB (6 * cu + L) (if o = 6 then 0 else v3), upd len cu (nI (L + 1)), br, er, fi, se, raw, upd pln (cu / 8) 0, rch, tch, rgn, ec, fil, fn, bk, ix, hd, slt, enx)) : wpX_emit post ((nI nf), (nI nb), (nI (2 + ns)), (nI nl), (nI cu), (nI 0), st, sv, rs, es, ops, argA, argB, len, br, er, fi, se, raw, pln, rch, tch, rgn, ec, fil, fn, bk, ix, hd, slt, enx) (nI o) (nI a) v3 := by
  have hin : vp_in (nI cu) 32 := vp_in_nI (by omega) (by omega)
  have hin1 : vp_in (nI (6 * cu + L)) 192 := vp_in_nI (by omega) (by omega)
  have hin4 : vp_in (nI (cu / 8)) 4 := vp_in_nI (by omega) (by omega)
  have eck : (nI cu).toNatClampNeg = cu := nI_clamp (by omega)
  have ec1 : (nI (6 * cu + L)).toNatClampNeg = 6 * cu + L := nI_clamp (by omega)
  have ecg : (nI (cu / 8)).toNatClampNeg = cu / 8 := nI_clamp (by omega)
  refine br_f sw_n0 ⟨hin, ?_⟩
  rw [eck, eL]
  refine br_f (nI_ge (b := 6) hL (by decide)) (xi_1 hnf hns ho h6 hn6 hb (br_f sw_10 ⟨hin, nm_r (sw_6 cu L) ⟨hin1, ?_⟩⟩))
  rw [ec1]
  refine nm_e ⟨hin1, nm_e ?_⟩
  have fin : ∀ z0 : Int32, z0 = (if o = 6 then 0 else v3) → wX_emit_85 post z0 (nI (6 * cu + L)) (nI nf) (nI nb) (nI (2 + ns)) (nI nl) (nI cu) (nI 0) st sv rs es (upd ops (6 * cu + L) (nI o)) (upd argA (6 * cu + L) (nI a)) argB len br er fi se raw pln rch tch rgn ec fil fn bk ix hd slt enx := by
    intro z0 e0
    subst e0
    unfold wX_emit_85
    rw [sw_sh3 hcu, ec1, eck, ecg, sw_b0, eL, nI_1]
    exact ⟨hin1, nm_e ⟨hin, hin, nm_e ⟨hin4, nm_e h⟩⟩⟩
  refine br_c (fun w => fin 0 ?_) (fun w => fin v3 ?_)
  · rw [if_pos (sw_eqN (b := 6) (by omega) (by decide) w)]
  · rw [if_neg (fun e => w (by rw [e]; rfl))]
theorem ye_1 {post : Int32 → SY → Prop} {o a L : Nat} {v3 : Int32} (hnf : nf ≤ 4) (hns : ns ≤ 4) (hcu : cu < 32) (hL : L < 6) (eL : len cu = nI L) (ho : o ≤ 6) (h6 : o = 6 → a < nf) (hn6 : o ≠ 6 → a < 2 + ns) (hb : 2 ≤ o → o ≤ 5 → ∃ b, b < 2 + ns ∧ v3 = nI b)
    (h : post 1 ((nI nf), (nI nb), (nI ns), (nI nl), (nI cu), st, (nI 0), sv, es, upd ops (6 * cu + L) (nI o), upd argA (6 * cu + L) (nI a), upd argB (6 * cu + L) (if o = 6 then 0 else v3), upd len cu (nI (L + 1)), en, er, fi, se, wr, cel, fn, bk, ix, vrs, eny, had)) : wpY_emit post ((nI nf), (nI nb), (nI ns), (nI nl), (nI cu), st, (nI 0), sv, es, ops, argA, argB, len, en, er, fi, se, wr, cel, fn, bk, ix, vrs, eny, had) (nI o) (nI a) v3 := by
  have hin : vp_in (nI cu) 32 := vp_in_nI (by omega) (by omega)
  have hin1 : vp_in (nI (6 * cu + L)) 192 := vp_in_nI (by omega) (by omega)
  have eck : (nI cu).toNatClampNeg = cu := nI_clamp (by omega)
  have ec1 : (nI (6 * cu + L)).toNatClampNeg = 6 * cu + L := nI_clamp (by omega)
  have fin : ∀ z0 : Int32, z0 = (if o = 6 then 0 else v3) → wY_emit_132 post z0 (nI (6 * cu + L)) (nI nf) (nI nb) (nI ns) (nI nl) (nI cu) st (nI 0) sv es (upd ops (6 * cu + L) (nI o)) (upd argA (6 * cu + L) (nI a)) argB len en er fi se wr cel fn bk ix vrs eny had := by
    intro z0 e0
    subst e0
    unfold wY_emit_132
    rw [ec1, eck, eL, nI_1]
    exact ⟨hin1, nm_e ⟨hin, hin, nm_e h⟩⟩
  have f80 : wY_emit_80 post (nI o) (nI a) v3 (nI nf) (nI nb) (nI ns) (nI nl) (nI cu) st (nI 0) sv es ops argA argB len en er fi se wr cel fn bk ix vrs eny had := by
    unfold wY_emit_80
    rw [eck, eL, sw_6y]
    refine ⟨hin, nm_e ⟨hin1, ?_⟩⟩
    rw [ec1]
    refine nm_e ⟨hin1, nm_e (br_c (fun w => fin 0 ?_) (fun w => fin v3 ?_))⟩
    · rw [if_pos (sw_eqN (b := 6) (by omega) (by decide) w)]
    · rw [if_neg (fun e => w (by rw [e]; rfl))]
  have f60 : wY_emit_60 post (nI o) (nI a) v3 (nI nf) (nI nb) (nI ns) (nI nl) (nI cu) st (nI 0) sv es ops argA argB len en er fi se wr cel fn bk ix vrs eny had := by
    unfold wY_emit_60
    rcases Nat.lt_or_ge o 2 with w | w
    · exact br_t (nI_lt (b := 2) w (by decide)) f80
    · refine br_f (nI_nlt (b := 2) w (by omega)) ?_
      rcases Nat.lt_or_ge 5 o with q | q
      · exact br_t (nI_lt (a := 5) q (by omega)) f80
      · obtain ⟨b, hb2, rfl⟩ := hb w q
        exact br_f (nI_nlt (a := 5) q (by decide)) (yc_r1 hns hb2 (br_f sw_10 f80))
  refine br_f sw_n0 ⟨hin, ?_⟩
  rw [eck, eL]
  refine br_f (nI_ge (b := 6) hL (by decide)) (br_f (nI_pos (by omega)) (br_t (nI_le (b := 6) ho (by decide)) ?_))
  by_cases e : o = 6
  · exact br_t (by rw [e]; rfl) (yc_f1 hnf (h6 e) (br_f sw_10 f60))
  · exact br_f (fun w => e (sw_eqN (b := 6) (by omega) (by decide) w)) (yc_r1 hns (hn6 e) (br_f sw_10 f60))
theorem sj_emit1 {o a L : Nat} {v3 : Int32} (hR : sw_RG nf nb ns nl cu 0 sv rs ops argA argB len br en er fi se raw wr pln rch rgn ec fil fn bk ix hd slt enx cel vrs eny had) (h2 : st = 1 → 0 < 0) (hL : L < 6) (eL : len cu = nI L) (ho : o ≤ 6) (h6 : o = 6 → a < nf) (hn6 : o ≠ 6 → a < 2 + ns) (hb : 2 ≤ o → o ≤ 5 → ∃ b, b < 2 + ns ∧ v3 = nI b) :
    wpX_emit (fun r u' => wpY_emit (fun r' v' => r' = r ∧ sw_Q u' v') ((nI nf), (nI nb), (nI ns), (nI nl), (nI cu), st, (nI 0), sv, es, ops, argA, argB, len, en, er, fi, se, wr, cel, fn, bk, ix, vrs, eny, had) (nI o) (nI a) v3) ((nI nf), (nI nb), (nI (2 + ns)), (nI nl), (nI cu), (nI 0), st, sv, rs, es, ops, argA, argB, len, br, er, fi, se, raw, pln, rch, tch, rgn, ec, fil, fn, bk, ix, hd, slt, enx) (nI o) (nI a) v3 := by
  obtain ⟨⟨z1, z2, z3, z4, z5, z6, z7, z8, z9, z10⟩, hP, hE, _⟩ := id hR
  refine xe_1 z2 z6 z9 hL eL ho h6 hn6 hb (ye_1 z2 z6 z9 hL eL ho h6 hn6 hb ⟨rfl, sw_in (d := 0) (sw_edit hR z9 ⟨sw_un hP.1 (by omega), hP.2.1, hP.2.2.1, hP.2.2.2.1, ?_⟩ hE ?_) h2⟩)
  · intro i hi
    by_cases e : i = 6 * cu + L
    · subst e
      rw [pk_us, pk_us, pk_us]
      refine ⟨o, a, ho, rfl, rfl, h6, hn6, fun w w5 => ?_⟩
      rw [if_neg (by omega)]
      exact hb w w5
    · rw [pk_un e, pk_un e, pk_un e]
      exact hP.2.2.2.2 i hi
  · intro f hf
    exact ⟨fun k hk => ⟨pk_un (by omega), rfl, rfl, rfl, rfl⟩, fun i hi => ⟨pk_un (by omega), pk_un (by omega), pk_un (by omega)⟩⟩
theorem sj_emit (hR : sw_RG nf nb ns nl cu d sv rs ops argA argB len br en er fi se raw wr pln rch rgn ec fil fn bk ix hd slt enx cel vrs eny had) (h2 : st = 1 → 0 < d) (v1 v2 v3 : Int32) : wpX_emit (fun r u' => wpY_emit (fun r' v' => r' = r ∧ sw_Q u' v') ((nI nf), (nI nb), (nI ns), (nI nl), (nI cu), st, (nI d), sv, es, ops, argA, argB, len, en, er, fi, se, wr, cel, fn, bk, ix, vrs, eny, had) v1 v2 v3) ((nI nf), (nI nb), (nI (2 + ns)), (nI nl), (nI cu), (nI d), st, sv, rs, es, ops, argA, argB, len, br, er, fi, se, raw, pln, rch, tch, rgn, ec, fil, fn, bk, ix, hd, slt, enx) v1 v2 v3 := by
  have hQ : sw_Q ((nI nf), (nI nb), (nI (2 + ns)), (nI nl), (nI cu), (nI d), st, sv, rs, es, ops, argA, argB, len, br, er, fi, se, raw, pln, rch, tch, rgn, ec, fil, fn, bk, ix, hd, slt, enx) ((nI nf), (nI nb), (nI ns), (nI nl), (nI cu), st, (nI d), sv, es, ops, argA, argB, len, en, er, fi, se, wr, cel, fn, bk, ix, vrs, eny, had) := sw_in hR h2
  obtain ⟨⟨z1, z2, z3, z4, z5, z6, z7, z8, z9, z10⟩, hP, hE, _⟩ := id hR
  rcases Nat.eq_zero_or_pos d with z | z
  · subst z
    obtain ⟨L, hL, eL⟩ := hP.1 cu z9
    have hin : vp_in (nI cu) 32 := vp_in_nI (by omega) (by omega)
    have eck : (nI cu).toNatClampNeg = cu := nI_clamp (by omega)
    rcases Nat.lt_or_ge L 6 with w | w
    · have n6 : ¬ (6 : Int32) ≤ len cu := by
        rw [eL]
        exact nI_ge (b := 6) w (by decide)
      rcases sw_dic v1 (n := 7) (by omega) with b1 | ⟨o, ho, rfl⟩
      · have fail : ∀ {A B : Prop}, B → (v1 < 0 → B) ∧ (¬ v1 < 0 → ((v1 ≤ 6 → A) ∧ (¬ v1 ≤ 6 → B))) := by
          intro A B hB
          exact br_c (fun _ => hB) (fun n => br_f (sw_7 b1 n) hB)
        refine br_f sw_n0 ⟨hin, ?_⟩
        rw [eck]
        refine br_f n6 (fail (br_t rfl (br_f sw_n0 ⟨hin, ?_⟩)))
        rw [eck]
        exact br_f n6 (fail ⟨rfl, hQ⟩)
      · by_cases e6 : o = 6
        · rcases sw_dic v2 (n := nf) (by omega) with b2 | ⟨a, ha, rfl⟩
          · subst e6
            refine br_f sw_n0 ⟨hin, ?_⟩
            rw [eck]
            refine br_f n6 (br_f (by decide) (br_t (by decide) (br_t rfl (xc_f0 b2 ⟨narrow_b0, br_t rfl (br_f sw_n0 ⟨hin, ?_⟩)⟩))))
            rw [eck]
            exact br_f n6 (br_f (by decide) (br_t (by decide) (br_t rfl (yc_f0 b2 (br_t rfl ⟨rfl, hQ⟩)))))
          · exact sj_emit1 hR h2 w eL (by omega) (fun _ => ha) (fun q => absurd e6 q) (fun _ _ => by omega)
        · have ne6 : ¬ nI o = 6 := fun q => e6 (sw_eqN (b := 6) (by omega) (by decide) q)
          have p0 : ¬ nI o < 0 := nI_pos (by omega)
          have l6 : nI o ≤ 6 := nI_le (b := 6) (by omega) (by decide)
          rcases sw_dic v2 (n := 2 + ns) (by omega) with b2 | ⟨a, ha, rfl⟩
          · refine br_f sw_n0 ⟨hin, ?_⟩
            rw [eck]
            refine br_f n6 (br_f p0 (br_t l6 (br_f ne6 (xc_r0 b2 (br_t rfl (br_t rfl (br_f sw_n0 ⟨hin, ?_⟩)))))))
            rw [eck]
            exact br_f n6 (br_f p0 (br_t l6 (br_f ne6 (yc_r0 z6 b2 (br_t rfl ⟨rfl, hQ⟩)))))
          · rcases Nat.lt_or_ge o 2 with q | q
            · exact sj_emit1 hR h2 w eL (by omega) (fun q => absurd q e6) (fun _ => ha) (fun _ _ => by omega)
            · rcases sw_dic v3 (n := 2 + ns) (by omega) with b3 | ⟨b, hb, rfl⟩
              · have g2 : ¬ nI o < 2 := nI_nlt (b := 2) q (by omega)
                have g5 : ¬ 5 < nI o := nI_nlt (a := 5) (by omega) (by decide)
                refine br_f sw_n0 ⟨hin, ?_⟩
                rw [eck]
                refine br_f n6 (br_f p0 (br_t l6 (br_f ne6 (xc_r1 z6 ha (br_f sw_10 (br_f g2 (xc_r0 b3 (br_t rfl (br_t rfl (br_f sw_n0 ⟨hin, ?_⟩))))))))))
                rw [eck]
                exact br_f n6 (br_f p0 (br_t l6 (br_f ne6 (yc_r1 z6 ha (br_f sw_10 (br_f g2 (br_f g5 (yc_r0 z6 b3 (br_t rfl ⟨rfl, hQ⟩)))))))))
              · exact sj_emit1 hR h2 w eL (by omega) (fun q => absurd q e6) (fun _ => ha) (fun _ _ => ⟨b, hb, rfl⟩)
    · have g6 : (6 : Int32) ≤ len cu := by
        rw [eL]
        exact nI_le (a := 6) w (by omega)
      refine br_f sw_n0 ⟨hin, ?_⟩
      rw [eck]
      refine br_t g6 (br_f sw_n0 ⟨hin, ?_⟩)
      rw [eck]
      exact br_t g6 ⟨rfl, hQ⟩
  · have h0 : (0 : Int32) < nI d := nI_lt (a := 0) z (by omega)
    exact br_t h0 (br_t h0 ⟨rfl, hQ⟩)
/-! wrap, setReg, start -/
theorem sj_wrap (hR : sw_RG nf nb ns nl cu d sv rs ops argA argB len br en er fi se raw wr pln rch rgn ec fil fn bk ix hd slt enx cel vrs eny had) (h2 : st = 1 → 0 < d) (v1 v2 : Int32) : wpX_wrap (fun r u' => wpY_wrap (fun r' v' => r' = r ∧ sw_Q u' v') ((nI nf), (nI nb), (nI ns), (nI nl), (nI cu), st, (nI d), sv, es, ops, argA, argB, len, en, er, fi, se, wr, cel, fn, bk, ix, vrs, eny, had) v1 (lw_bz v2)) ((nI nf), (nI nb), (nI (2 + ns)), (nI nl), (nI cu), (nI d), st, sv, rs, es, ops, argA, argB, len, br, er, fi, se, raw, pln, rch, tch, rgn, ec, fil, fn, bk, ix, hd, slt, enx) v1 (lw_bz v2) := by
  have hQ : sw_Q ((nI nf), (nI nb), (nI (2 + ns)), (nI nl), (nI cu), (nI d), st, sv, rs, es, ops, argA, argB, len, br, er, fi, se, raw, pln, rch, tch, rgn, ec, fil, fn, bk, ix, hd, slt, enx) ((nI nf), (nI nb), (nI ns), (nI nl), (nI cu), st, (nI d), sv, es, ops, argA, argB, len, en, er, fi, se, wr, cel, fn, bk, ix, vrs, eny, had) := sw_in hR h2
  obtain ⟨hZ, hP, hE, hW, hV, hB, hpl, hM⟩ := id hR
  obtain ⟨z1, z2, z3, z4, z5, z6, z7, z8, z9, z10⟩ := id hZ
  rcases Nat.eq_zero_or_pos d with z | z
  · subst z
    rcases sw_dic v1 (n := nf) (by omega) with b1 | ⟨g, hg, rfl⟩
    · exact br_f sw_n0 (xc_f0 b1 (br_t rfl (br_f sw_n0 (yc_f0 b1 (br_t rfl ⟨rfl, hQ⟩)))))
    · have hin4 : vp_in (nI g) 4 := vp_in_nI (by omega) (by omega)
      have ecg : (nI g).toNatClampNeg = g := nI_clamp (by omega)
      have fin : ∀ x y : Int32, (x = 0 ∧ ¬ y = 0) ∨ (¬ x = 0 ∧ y = 0) → sw_Q ((nI nf), (nI nb), (nI (2 + ns)), (nI nl), (nI cu), (nI 0), st, sv, rs, es, ops, argA, argB, len, br, er, fi, se, upd raw g x, pln, rch, tch, rgn, ec, fil, fn, bk, ix, hd, slt, enx) ((nI nf), (nI nb), (nI ns), (nI nl), (nI cu), st, (nI 0), sv, es, ops, argA, argB, len, en, er, fi, se, upd wr g y, cel, fn, bk, ix, vrs, eny, had) := by
        intro x y hxy
        refine sw_in (d := 0) ⟨hZ, hP, hE, ?_, hV, hB, hpl, sw_MC0 hM⟩ h2
        intro m hm
        by_cases e : m = g
        · rw [e, pk_us, pk_us]
          exact hxy
        · rw [pk_un e, pk_un e]
          exact hW m hm
      rcases lw_bz_01 v2 with e | e
      · rw [e]
        refine br_f sw_n0 (xc_f1 z2 hg (br_f sw_10 (br_t rfl ⟨hin4, ?_⟩)))
        rw [ecg, sw_b1]
        refine nm_e (br_f sw_n0 (yc_f1 z2 hg (br_f sw_10 ⟨hin4, ?_⟩)))
        rw [ecg, sw_b0]
        exact nm_e ⟨rfl, fin 1 0 (Or.inr ⟨sw_10, rfl⟩)⟩
      · rw [e]
        refine br_f sw_n0 (xc_f1 z2 hg (br_f sw_10 (br_f sw_10 ⟨hin4, ?_⟩)))
        rw [ecg, sw_b0]
        refine nm_e (br_f sw_n0 (yc_f1 z2 hg (br_f sw_10 ⟨hin4, ?_⟩)))
        rw [ecg, sw_b1]
        exact nm_e ⟨rfl, fin 0 1 (Or.inl ⟨rfl, sw_10⟩)⟩
  · have h0 : (0 : Int32) < nI d := nI_lt (a := 0) z (by omega)
    exact br_t h0 (br_t h0 ⟨rfl, hQ⟩)
theorem sj_setReg (hR : sw_RG nf nb ns nl cu d sv rs ops argA argB len br en er fi se raw wr pln rch rgn ec fil fn bk ix hd slt enx cel vrs eny had) (h2 : st = 1 → 0 < d) (v1 v2 : Int32) : wpX_setReg (fun r u' => wpY_setReg (fun r' v' => r' = r ∧ sw_Q u' v') ((nI nf), (nI nb), (nI ns), (nI nl), (nI cu), st, (nI d), sv, es, ops, argA, argB, len, en, er, fi, se, wr, cel, fn, bk, ix, vrs, eny, had) v1 v2) ((nI nf), (nI nb), (nI (2 + ns)), (nI nl), (nI cu), (nI d), st, sv, rs, es, ops, argA, argB, len, br, er, fi, se, raw, pln, rch, tch, rgn, ec, fil, fn, bk, ix, hd, slt, enx) v1 v2 := by
  have hQ : sw_Q ((nI nf), (nI nb), (nI (2 + ns)), (nI nl), (nI cu), (nI d), st, sv, rs, es, ops, argA, argB, len, br, er, fi, se, raw, pln, rch, tch, rgn, ec, fil, fn, bk, ix, hd, slt, enx) ((nI nf), (nI nb), (nI ns), (nI nl), (nI cu), st, (nI d), sv, es, ops, argA, argB, len, en, er, fi, se, wr, cel, fn, bk, ix, vrs, eny, had) := sw_in hR h2
  obtain ⟨hZ, hP, hE, hW, hV, hB, hpl, hM⟩ := id hR
  obtain ⟨z1, z2, z3, z4, z5, z6, z7, z8, z9, z10⟩ := id hZ
  rcases Nat.eq_zero_or_pos d with z | z
  · subst z
    rcases sw_dic v1 (n := 2 + ns) (by omega) with b1 | ⟨r, hr, rfl⟩
    · exact br_f sw_n0 (xc_r0 b1 (br_t rfl (br_f sw_n0 (yc_r0 z6 b1 (br_t rfl ⟨rfl, hQ⟩)))))
    · have hin : vp_in (nI r) 6 := vp_in_nI (by omega) (by omega)
      have ecr : (nI r).toNatClampNeg = r := nI_clamp (by omega)
      refine br_f sw_n0 (xc_r1 z6 hr (br_f sw_10 ⟨hin, ?_⟩))
      rw [ecr]
      refine nm_e (br_f sw_n0 (yc_r1 z6 hr (br_f sw_10 ⟨hin, ?_⟩)))
      rw [ecr]
      refine nm_e ⟨rfl, sw_in (d := 0) ⟨hZ, hP, hE, hW, hV, hB, hpl, ⟨?_, fun l hl => absurd hl (Nat.not_lt_zero _), fun l hl => absurd hl (Nat.not_lt_zero _), fun l hl => absurd hl (Nat.not_lt_zero _), fun l hl => absurd hl (Nat.not_lt_zero _), hM.2.2.2.2.2⟩⟩ h2⟩
      intro q hq
      show upd fil r v2 q = upd cel r v2 q
      by_cases e : q = r
      · rw [e, pk_us, pk_us]
      · rw [pk_un e, pk_un e]
        exact hM.1 q hq
  · have h0 : (0 : Int32) < nI d := nI_lt (a := 0) z (by omega)
    exact br_t h0 (br_t h0 ⟨rfl, hQ⟩)
theorem sj_start (hR : sw_RG nf nb ns nl cu d sv rs ops argA argB len br en er fi se raw wr pln rch rgn ec fil fn bk ix hd slt enx cel vrs eny had) (h2 : st = 1 → 0 < d) (v1 : Int32) : wpX_start (fun r u' => wpY_start (fun r' v' => r' = r ∧ sw_Q u' v') ((nI nf), (nI nb), (nI ns), (nI nl), (nI cu), st, (nI d), sv, es, ops, argA, argB, len, en, er, fi, se, wr, cel, fn, bk, ix, vrs, eny, had) v1) ((nI nf), (nI nb), (nI (2 + ns)), (nI nl), (nI cu), (nI d), st, sv, rs, es, ops, argA, argB, len, br, er, fi, se, raw, pln, rch, tch, rgn, ec, fil, fn, bk, ix, hd, slt, enx) v1 := by
  have hQ : sw_Q ((nI nf), (nI nb), (nI (2 + ns)), (nI nl), (nI cu), (nI d), st, sv, rs, es, ops, argA, argB, len, br, er, fi, se, raw, pln, rch, tch, rgn, ec, fil, fn, bk, ix, hd, slt, enx) ((nI nf), (nI nb), (nI ns), (nI nl), (nI cu), st, (nI d), sv, es, ops, argA, argB, len, en, er, fi, se, wr, cel, fn, bk, ix, vrs, eny, had) := sw_in hR h2
  obtain ⟨hZ, hP, hE, hW, hV, hB, hpl, hM⟩ := id hR
  obtain ⟨z1, z2, z3, z4, z5, z6, z7, z8, z9, z10⟩ := id hZ
  rcases Nat.eq_zero_or_pos d with z | z
  · subst z
    rcases sw_dic v1 (n := nf) (by omega) with b1 | ⟨g, hg, rfl⟩
    · exact br_f sw_n0 (xc_f0 b1 (br_t rfl (br_f sw_n0 (yc_f0 b1 (br_t rfl ⟨rfl, hQ⟩)))))
    · have hR0 : sw_RG nf nb ns nl cu 0 0 0 ops argA argB len br en er fi se raw wr pln rch rgn ec fil fn bk ix hd slt enx cel vrs eny had := ⟨hZ, hP, hE, hW, hV, hB, hpl, ⟨hM.1, fun l hl => absurd hl (Nat.not_lt_zero _), fun l hl => absurd hl (Nat.not_lt_zero _), fun l hl => absurd hl (Nat.not_lt_zero _), fun l hl => absurd hl (Nat.not_lt_zero _), by show (0 : Int32) = 0 - 0; decide⟩⟩
      refine br_f sw_n0 (xc_f1 z2 hg (br_f sw_10 (sw_enter (st := 1) hR0 (by omega) hg (fun u' v' hq hY => ?_))))
      exact br_f sw_n0 (yc_f1 z2 hg (br_f sw_10 (hY _ ⟨rfl, hq⟩)))
  · have h0 : (0 : Int32) < nI d := nI_lt (a := 0) z (by omega)
    exact br_t h0 (br_t h0 ⟨rfl, hQ⟩)
end ED
end
section
/-! the methods that look: region, edge, count, reg, entry, where, peek -/
section LK
variable {nf nb ns nl cu d : Nat} {st sv rs es : Int32} {ops argA argB len br en er fi se raw wr pln rch tch rgn ec fil fn bk ix hd slt enx cel vrs eny had : Nat → Int32}
theorem sw_RG_plan {pln' rch' rgn' ec' : Nat → Int32} (h : sw_RG nf nb ns nl cu d sv rs ops argA argB len br en er fi se raw wr pln rch rgn ec fil fn bk ix hd slt enx cel vrs eny had) (hV' : sw_PV nf nb ops argA argB len br er fi se ns pln' rch' rgn' ec') (hm : ∀ g, ¬ pln g = 0 → ¬ pln' g = 0) : sw_RG nf nb ns nl cu d sv rs ops argA argB len br en er fi se raw wr pln' rch' rgn' ec' fil fn bk ix hd slt enx cel vrs eny had := by
  obtain ⟨hZ, hP, hE, hW, hV, hB, hpl, hM⟩ := h
  exact ⟨hZ, hP, hE, hW, hV', hB, fun l hl => hm _ (hpl l hl), hM⟩
theorem ya_23 {post : Int32 → Prop} {f b : Nat} (hf : f < 4) (hC : sw_YC nf nb ops argA argB len br er fi se ns en) (hb : b < nb) {G : Int32} (hG : ∀ j, (bt G j = true ↔ sw_Rg nb ops argA argB len br er fi se f b (j + 2))) (h : post G) :
    ∀ q i m, i + q = ns → (∀ j, (bt m j = true ↔ j < i ∧ sw_Rg nb ops argA argB len br er fi se f b (j + 2))) → ∀ n, q < n → wY_region_23 post (nI f) (nI b) (nI nf) (nI nb) (nI ns) (nI nl) (nI cu) st (nI d) sv es ops argA argB len en er fi se wr cel fn bk ix vrs eny had n m (nI (i + 2)) := by
  have hns : ns ≤ 4 := hC.2.2.2.2.1
  have hnb : nb ≤ 8 := hC.2.2.2.1
  intro q
  induction q with
  | zero =>
    intro i m hi hm n hn
    obtain ⟨n, rfl⟩ : ∃ n', n = n' + 1 := ⟨n - 1, by omega⟩
    have e : m = G := by
      apply sw_ext
      intro j
      rw [hm j, hG j]
      exact ⟨fun w => w.2, fun w => ⟨by have := sw_Rg_lt hC.1 hns hnb hf w; omega, w⟩⟩
    rw [e]
    exact br_t (sw_nlt (by omega) (by omega)) h
  | succ q ih =>
    intro i m hi hm n hn
    obtain ⟨n, rfl⟩ : ∃ n', n = n' + 1 := ⟨n - 1, by omega⟩
    refine br_f (sw_nnlt (by omega) hns) (ya_inRegion hf hC hb (by omega) (fun w => br_f sw_10 ?_) (fun w => br_t rfl (nm_r (sw_j i) (ih (i + 1) m (by omega) ?_ n (by omega)))))
    · rw [sw_m2]
      refine nm_e (nm_r (sw_j i) (ih (i + 1) _ (by omega) ?_ n (by omega)))
      intro j
      rw [sw_orB, hm j, sw_sb (by omega)]
      constructor
      · rintro (u | u)
        · exact ⟨by omega, u.2⟩
        · rw [u]
          exact ⟨by omega, w⟩
      · intro u
        rcases Nat.lt_or_ge j i with q | q
        · exact Or.inl ⟨q, u.2⟩
        · exact Or.inr (by omega)
    · intro j
      rw [hm j]
      constructor
      · exact fun u => ⟨by omega, u.2⟩
      · intro u
        rcases Nat.lt_or_ge j i with q | q
        · exact ⟨q, u.2⟩
        · have e : j = i := by omega
          rw [e] at u
          exact absurd u.2 w
theorem ya_region {post : Int32 → Prop} {f b : Nat} (hf : f < nf) (hC : sw_YC nf nb ops argA argB len br er fi se ns en) (hb : b < nb) {G : Int32} (hG : ∀ j, (bt G j = true ↔ sw_Rg nb ops argA argB len br er fi se f b (j + 2))) (h : post G) : wpY_region post ((nI nf), (nI nb), (nI ns), (nI nl), (nI cu), st, (nI d), sv, es, ops, argA, argB, len, en, er, fi, se, wr, cel, fn, bk, ix, vrs, eny, had) (nI f) (nI b) := by
  have hnf : nf ≤ 4 := hC.2.2.1
  have hnb : nb ≤ 8 := hC.2.2.2.1
  unfold wpY_region
  refine yc_f1 hnf hf (br_f sw_10 (yc_b1 hnb hb (br_f sw_10 ⟨ns + 1, ya_23 (by omega) hC hb hG h ns 0 0 (by omega) (fun j => ?_) (ns + 1) (by omega)⟩)))
  rw [sw_0B]
  exact ⟨fun w => w.elim, fun w => absurd w.1 (Nat.not_lt_zero _)⟩
theorem sj_region (hR : sw_RG nf nb ns nl cu d sv rs ops argA argB len br en er fi se raw wr pln rch rgn ec fil fn bk ix hd slt enx cel vrs eny had) (h2 : st = 1 → 0 < d) (v1 v2 : Int32) : wpX_region (fun r u' => wpY_region (fun r' => r' = r ∧ sw_Q u' ((nI nf), (nI nb), (nI ns), (nI nl), (nI cu), st, (nI d), sv, es, ops, argA, argB, len, en, er, fi, se, wr, cel, fn, bk, ix, vrs, eny, had)) ((nI nf), (nI nb), (nI ns), (nI nl), (nI cu), st, (nI d), sv, es, ops, argA, argB, len, en, er, fi, se, wr, cel, fn, bk, ix, vrs, eny, had) v1 v2) ((nI nf), (nI nb), (nI (2 + ns)), (nI nl), (nI cu), (nI d), st, sv, rs, es, ops, argA, argB, len, br, er, fi, se, raw, pln, rch, tch, rgn, ec, fil, fn, bk, ix, hd, slt, enx) v1 v2 := by
  have hQ : sw_Q ((nI nf), (nI nb), (nI (2 + ns)), (nI nl), (nI cu), (nI d), st, sv, rs, es, ops, argA, argB, len, br, er, fi, se, raw, pln, rch, tch, rgn, ec, fil, fn, bk, ix, hd, slt, enx) ((nI nf), (nI nb), (nI ns), (nI nl), (nI cu), st, (nI d), sv, es, ops, argA, argB, len, en, er, fi, se, wr, cel, fn, bk, ix, vrs, eny, had) := sw_in hR h2
  have hC := sw_RG_C hR
  obtain ⟨⟨z1, z2, z3, z4, z5, z6, z7, z8, z9, z10⟩, hP, hE, hW, hV, _⟩ := id hR
  unfold wpX_region
  rcases sw_dic v1 (n := nf) (by omega) with b1 | ⟨g, hg, rfl⟩
  · refine xc_o0 b1 (br_t rfl ?_)
    unfold wpY_region
    exact yc_f0 b1 (br_t rfl ⟨rfl, hQ⟩)
  · rcases sw_dic v2 (n := nb) (by omega) with b2 | ⟨b, hb, rfl⟩
    · refine xc_o2 z2 hg b2 (br_t rfl ?_)
      unfold wpY_region
      exact yc_f1 z2 hg (br_f sw_10 (yc_b0 b2 (br_t rfl ⟨rfl, hQ⟩)))
    · refine xc_o1 z2 z4 hg hb (br_f sw_10 (xa_plan hg z2 z4 z6 (by omega) hP hV (fun pln' rch' tch' rgn' ec' hV' hp hm => ?_)))
      have hin : vp_in (8 * nI g + nI b) 32 := by rw [sw_8]; exact vp_in_nI (by omega) (by omega)
      refine And.intro hin ?_
      rw [sw_8, nI_clamp (by omega : 8 * g + b < 2 ^ 31)]
      exact ya_region hg hC hb ((hV' g hg hp).2.1 b hb) ⟨rfl, sw_in (sw_RG_plan hR hV' hm) h2⟩
/-! edge -/
def sw_Jn (nb : Nat) (ops argA argB len br er fi se : Nat → Int32) (f b t i : Nat) : Prop := t = 0 ∨ ∃ c, c < i ∧ c ≠ b ∧ ¬ br (8 * f + c) = 0 ∧ sw_Pa nb ops argA argB len br er fi se f 0 c ∧ (fi (8 * f + c) = nI t ∨ se (8 * f + c) = nI t)
theorem sw_Jn_y {f b t i : Nat} (h : i ≠ b ∧ ¬ br (8 * f + i) = 0 ∧ sw_Pa nb ops argA argB len br er fi se f 0 i ∧ (fi (8 * f + i) = nI t ∨ se (8 * f + i) = nI t)) : sw_Jn nb ops argA argB len br er fi se f b t (i + 1) := Or.inr ⟨i, by omega, h⟩
theorem sw_Jn_n {f b t i : Nat} (h : ¬ (i ≠ b ∧ ¬ br (8 * f + i) = 0 ∧ sw_Pa nb ops argA argB len br er fi se f 0 i ∧ (fi (8 * f + i) = nI t ∨ se (8 * f + i) = nI t))) : sw_Jn nb ops argA argB len br er fi se f b t (i + 1) ↔ sw_Jn nb ops argA argB len br er fi se f b t i := by
  constructor
  · rintro (w | ⟨c, hc, w⟩)
    · exact Or.inl w
    · rcases Nat.lt_or_ge c i with q | q
      · exact Or.inr ⟨c, q, w⟩
      · have e : c = i := by omega
        rw [e] at w
        exact absurd w h
  · rintro (w | ⟨c, hc, w⟩)
    · exact Or.inl w
    · exact Or.inr ⟨c, by omega, w⟩
theorem sw_Jn_m {f b t i : Nat} (h : sw_Jn nb ops argA argB len br er fi se f b t i) : sw_Jn nb ops argA argB len br er fi se f b t (i + 1) := by
  rcases h with w | ⟨c, hc, w⟩
  · exact Or.inl w
  · exact Or.inr ⟨c, by omega, w⟩
theorem xa_j14 {post : Int32 → Prop} {f b t : Nat} (hf : f < 4) (hnb : nb ≤ 8) (h0nb : 0 < nb) (hb : b < nb) (hR : ∀ b, b < nb → ∀ y, (bt (rch (8 * f + b)) y = true ↔ sw_Pa nb ops argA argB len br er fi se f b y))
    (h1 : sw_Jn nb ops argA argB len br er fi se f b t nb → post 1) (h0 : ¬ sw_Jn nb ops argA argB len br er fi se f b t nb → post 0) :
    ∀ q i x4, i + q = nb → ((x4 = 0 ∧ ¬ sw_Jn nb ops argA argB len br er fi se f b t i) ∨ (x4 = 1 ∧ sw_Jn nb ops argA argB len br er fi se f b t i)) → ∀ n, q < n → wX_isJoin_14 post (nI f) (nI b) (nI t) (nI nf) (nI nb) (nI (2 + ns)) (nI nl) (nI cu) (nI d) st sv rs es ops argA argB len br er fi se raw pln rch tch rgn ec fil fn bk ix hd slt enx n x4 (nI i) := by
  intro q
  induction q with
  | zero =>
    intro i x4 hi hx n hn
    obtain ⟨n, rfl⟩ : ∃ n', n = n' + 1 := ⟨n - 1, by omega⟩
    have e : i = nb := by omega
    rw [e] at hx
    refine br_t (nI_le (by omega) (by omega)) ?_
    rcases hx with ⟨rfl, w⟩ | ⟨rfl, w⟩
    · exact ⟨narrow_b0, h0 w⟩
    · exact ⟨narrow_b1, h1 w⟩
  | succ q ih =>
    intro i x4 hi hx n hn
    obtain ⟨n, rfl⟩ : ∃ n', n = n' + 1 := ⟨n - 1, by omega⟩
    have hi' : i < nb := by omega
    have hin : vp_in (nI (8 * f + i)) 32 := vp_in_nI (by omega) (by omega)
    have no : ¬ (i ≠ b ∧ ¬ br (8 * f + i) = 0 ∧ sw_Pa nb ops argA argB len br er fi se f 0 i ∧ (fi (8 * f + i) = nI t ∨ se (8 * f + i) = nI t)) → wX_isJoin_14 post (nI f) (nI b) (nI t) (nI nf) (nI nb) (nI (2 + ns)) (nI nl) (nI cu) (nI d) st sv rs es ops argA argB len br er fi se raw pln rch tch rgn ec fil fn bk ix hd slt enx n x4 (nI (i + 1)) := by
      intro w
      refine ih (i + 1) x4 (by omega) ?_ n (by omega)
      rw [sw_Jn_n w]
      exact hx
    have yes : (i ≠ b ∧ ¬ br (8 * f + i) = 0 ∧ sw_Pa nb ops argA argB len br er fi se f 0 i ∧ (fi (8 * f + i) = nI t ∨ se (8 * f + i) = nI t)) → wX_isJoin_14 post (nI f) (nI b) (nI t) (nI nf) (nI nb) (nI (2 + ns)) (nI nl) (nI cu) (nI d) st sv rs es ops argA argB len br er fi se raw pln rch tch rgn ec fil fn bk ix hd slt enx n (x4 ||| 1) (nI (i + 1)) := by
      intro w
      refine ih (i + 1) _ (by omega) (Or.inr ⟨?_, sw_Jn_y w⟩) n (by omega)
      rcases hx with ⟨rfl, _⟩ | ⟨rfl, _⟩
      · decide
      · decide
    refine br_f (nI_ge hi' (by omega)) (nm_r (sw_8 f i) ?_)
    rw [nI_clamp (by omega : 8 * f + i < 2 ^ 31)]
    refine br_c (fun e => nm_r (nI_1 i) (no (fun w => w.1 (sw_eqN (by omega) (by omega) e)))) (fun e => ⟨hin, br_c (fun e2 => nm_r (nI_1 i) (no (fun w => w.2.1 e2))) (fun e2 => xa_reach hf (by omega) (fun p => br_f sw_10 ⟨hin, ?_⟩) (fun p => br_t rfl (nm_r (nI_1 i) (no (fun w => p ((hR 0 h0nb i).mpr w.2.2.1)))))) ⟩)
    have ne : i ≠ b := fun w => e (by rw [w])
    have p' := (hR 0 h0nb i).mp p
    refine br_c (fun e3 => nm_e (nm_r (nI_1 i) (yes ⟨ne, e2, p', Or.inl e3⟩))) (fun e3 => ⟨hin, br_c (fun e4 => nm_e (nm_r (nI_1 i) (yes ⟨ne, e2, p', Or.inr e4⟩))) (fun e4 => nm_r (Int32.or_zero) (nm_r (nI_1 i) (no (fun w => w.2.2.2.elim e3 e4))))⟩)
theorem xa_join {post : Int32 → Prop} {f b t : Nat} (hf : f < 4) (hnb : nb ≤ 8) (h0nb : 0 < nb) (hb : b < nb) (ht : t < nb) (hR : ∀ b, b < nb → ∀ y, (bt (rch (8 * f + b)) y = true ↔ sw_Pa nb ops argA argB len br er fi se f b y))
    (h1 : sw_Jn nb ops argA argB len br er fi se f b t nb → post 1) (h0 : ¬ sw_Jn nb ops argA argB len br er fi se f b t nb → post 0) : wpX_isJoin post ((nI nf), (nI nb), (nI (2 + ns)), (nI nl), (nI cu), (nI d), st, sv, rs, es, ops, argA, argB, len, br, er, fi, se, raw, pln, rch, tch, rgn, ec, fil, fn, bk, ix, hd, slt, enx) (nI f) (nI b) (nI t) := by
  refine br_c (fun e => ⟨nb + 1, xa_j14 hf hnb h0nb hb hR h1 h0 nb 0 1 (by omega) (Or.inr ⟨rfl, Or.inl ?_⟩) (nb + 1) (by omega)⟩) (fun e => ⟨nb + 1, xa_j14 hf hnb h0nb hb hR h1 h0 nb 0 0 (by omega) (Or.inl ⟨rfl, ?_⟩) (nb + 1) (by omega)⟩)
  · exact sw_eqN (b := 0) (by omega) (by decide) e
  · rintro (w | ⟨c, hc, _⟩)
    · exact e (by rw [w]; rfl)
    · omega
noncomputable def sw_ev (w : Nat) (here there : Int32) (C : Prop) : Int32 := if w = 0 then there &&& (here ^^^ (-1)) else if w = 1 then here &&& (there ^^^ (-1)) else sw_i (¬ here = there ∧ C) 1 0
theorem xa_87 {post : Int32 → SX → Prop} {w f b t : Nat} (hw : w ≤ 2) (hf : f < 4) (hnb : nb ≤ 8) (h0nb : 0 < nb) (hb : b < nb) (ht : t < nb) (hR : ∀ b, b < nb → ∀ y, (bt (rch (8 * f + b)) y = true ↔ sw_Pa nb ops argA argB len br er fi se f b y))
    (h : post (sw_ev w (rgn (8 * f + b)) (rgn (8 * f + t)) (¬ fi (8 * f + b) = se (8 * f + b) ∧ sw_Jn nb ops argA argB len br er fi se f b t nb)) ((nI nf), (nI nb), (nI (2 + ns)), (nI nl), (nI cu), (nI d), st, sv, rs, es, ops, argA, argB, len, br, er, fi, se, raw, pln, rch, tch, rgn, ec, fil, fn, bk, ix, hd, slt, enx)) : wX_edge_87 post (nI w) (nI f) (nI b) (nI (8 * f + b)) (nI t) (nI nf) (nI nb) (nI (2 + ns)) (nI nl) (nI cu) (nI d) st sv rs es ops argA argB len br er fi se raw pln rch tch rgn ec fil fn bk ix hd slt enx := by
  have hin : vp_in (nI (8 * f + b)) 32 := vp_in_nI (by omega) (by omega)
  have hin2 : vp_in (nI (8 * f + t)) 32 := vp_in_nI (by omega) (by omega)
  unfold wX_edge_87
  rw [sw_8, nI_clamp (by omega : 8 * f + b < 2 ^ 31), nI_clamp (by omega : 8 * f + t < 2 ^ 31)]
  refine ⟨hin, nm_e ⟨hin2, nm_e ?_⟩⟩
  have hc : w = 0 ∨ w = 1 ∨ w = 2 := by omega
  rcases hc with rfl | rfl | rfl
  · exact br_t rfl h
  · exact br_f (by decide) (br_t rfl h)
  · have h' : post (sw_i (¬ rgn (8 * f + b) = rgn (8 * f + t) ∧ ¬ fi (8 * f + b) = se (8 * f + b) ∧ sw_Jn nb ops argA argB len br er fi se f b t nb) 1 0) ((nI nf), (nI nb), (nI (2 + ns)), (nI nl), (nI cu), (nI d), st, sv, rs, es, ops, argA, argB, len, br, er, fi, se, raw, pln, rch, tch, rgn, ec, fil, fn, bk, ix, hd, slt, enx) := h
    refine br_f (by decide) (br_f (by decide) ⟨hin, hin, br_c (fun e => ?_) (fun e => ?_)⟩)
    · rw [sw_if (fun u => u.2.1 e)] at h'
      unfold wX_edge_159
      exact br_c (fun _ => h') (fun _ => br_t rfl h')
    · unfold wX_edge_159
      refine br_c (fun e2 => ?_) (fun e2 => br_f sw_10 (xa_join hf hnb h0nb hb ht hR (fun u => br_f sw_10 ?_) (fun u => br_t rfl ?_)))
      · rw [sw_if (fun u => u.1 e2)] at h'
        exact h'
      · rw [sw_it ⟨e2, e, u⟩] at h'
        exact h'
      · rw [sw_if (fun v => u v.2.2)] at h'
        exact h'
theorem ya_217 {post : Int32 → Prop} {J : Int32 → Int32 → Prop} {f c : Nat} {x3 x5 x6 x7 x8 x9 : Int32} (hf : f < 4) (hC : sw_YC nf nb ops argA argB len br er fi se ns en) (hc : c < nb) (h1 : sw_Pa nb ops argA argB len br er fi se f 0 c → J 1 (nI (c + 1))) (h0 : ¬ sw_Pa nb ops argA argB len br er fi se f 0 c → J x9 (nI (c + 1))) : wY_edge_217 post J (nI f) x3 x5 x6 x7 x8 x9 (nI c) (nI nf) (nI nb) (nI ns) (nI nl) (nI cu) st (nI d) sv es ops argA argB len en er fi se wr cel fn bk ix vrs eny had := by
  unfold wY_edge_217
  exact ya_path hf hC hC.2.2.2.2.2 hc (fun p => br_f sw_10 (nm_r (nI_1 c) (h1 p))) (fun p => br_t rfl (nm_r (nI_1 c) (h0 p)))
theorem ya_151 {post : Int32 → Prop} {f b t : Nat} {x7 x8 : Int32} (hf : f < 4) (hC : sw_YC nf nb ops argA argB len br er fi se ns en) (hb : b < nb) (ht : t < nb)
    (h : post (sw_i (¬ x7 = x8 ∧ ¬ fi (8 * f + b) = se (8 * f + b) ∧ sw_Jn nb ops argA argB len br er fi se f b t nb) 1 0)) :
    ∀ q i x9, i + q = nb → (¬ x9 = 0 ↔ sw_Jn nb ops argA argB len br er fi se f b t i) → ∀ n, q < n → wY_edge_151 post (nI f) (nI b) (nI (8 * f + b)) (nI t) x7 x8 (nI nf) (nI nb) (nI ns) (nI nl) (nI cu) st (nI d) sv es ops argA argB len en er fi se wr cel fn bk ix vrs eny had n x9 (nI i) := by
  have hnb : nb ≤ 8 := hC.2.2.2.1
  intro q
  induction q with
  | zero =>
    intro i x9 hi hx n hn
    obtain ⟨n, rfl⟩ : ∃ n', n = n' + 1 := ⟨n - 1, by omega⟩
    have e : i = nb := by omega
    rw [e] at hx
    have hin : vp_in (nI (8 * f + b)) 32 := vp_in_nI (by omega) (by omega)
    refine br_t (nI_le (by omega) (by omega)) ?_
    rw [nI_clamp (by omega : 8 * f + b < 2 ^ 31)]
    refine br_c (fun e1 => ?_) (fun e1 => ⟨hin, hin, br_c (fun e2 => ?_) (fun e2 => br_c (fun e3 => ?_) (fun e3 => ?_))⟩)
    · rw [sw_if (fun u => u.1 e1)] at h
      exact h
    · rw [sw_if (fun u => u.2.1 e2)] at h
      exact h
    · rw [sw_if (fun u => (hx.mpr u.2.2) e3)] at h
      exact h
    · rw [sw_it ⟨e1, e2, hx.mp e3⟩] at h
      exact h
  | succ q ih =>
    intro i x9 hi hx n hn
    obtain ⟨n, rfl⟩ : ∃ n', n = n' + 1 := ⟨n - 1, by omega⟩
    have hi' : i < nb := by omega
    have hin : vp_in (nI (8 * f + i)) 32 := vp_in_nI (by omega) (by omega)
    have no : ¬ (i ≠ b ∧ ¬ br (8 * f + i) = 0 ∧ sw_Pa nb ops argA argB len br er fi se f 0 i ∧ (fi (8 * f + i) = nI t ∨ se (8 * f + i) = nI t)) → wY_edge_151 post (nI f) (nI b) (nI (8 * f + b)) (nI t) x7 x8 (nI nf) (nI nb) (nI ns) (nI nl) (nI cu) st (nI d) sv es ops argA argB len en er fi se wr cel fn bk ix vrs eny had n x9 (nI (i + 1)) := by
      intro w
      refine ih (i + 1) x9 (by omega) ?_ n (by omega)
      rw [sw_Jn_n w]
      exact hx
    have yes : (i ≠ b ∧ ¬ br (8 * f + i) = 0 ∧ sw_Pa nb ops argA argB len br er fi se f 0 i ∧ (fi (8 * f + i) = nI t ∨ se (8 * f + i) = nI t)) → wY_edge_151 post (nI f) (nI b) (nI (8 * f + b)) (nI t) x7 x8 (nI nf) (nI nb) (nI ns) (nI nl) (nI cu) st (nI d) sv es ops argA argB len en er fi se wr cel fn bk ix vrs eny had n 1 (nI (i + 1)) :=
      fun w => ih (i + 1) 1 (by omega) ⟨fun _ => sw_Jn_y w, fun _ => sw_10⟩ n (by omega)
    refine br_f (nI_ge hi' (by omega)) (br_c (fun e => nm_r (nI_1 i) (no (fun w => w.1 (sw_eqN (by omega) (by omega) e)))) (fun e => ?_))
    have ne : i ≠ b := fun w => e (by rw [w])
    rw [sw_8y, nI_clamp (by omega : 8 * f + i < 2 ^ 31)]
    refine ⟨hin, ?_⟩
    rcases hC.2.1 (8 * f + i) (by omega) with z | z
    · exact br_f (by rw [z.2]; decide) (nm_r (nI_1 i) (no (fun w => w.2.1 z.1)))
    · refine br_t z.2 ⟨hin, br_c (fun e1 => ya_217 hf hC hi' (fun p => yes ⟨ne, z.1, p, Or.inl e1⟩) (fun p => no (fun w => p w.2.2.1))) (fun e1 => ⟨hin, br_c (fun e2 => ya_217 hf hC hi' (fun p => yes ⟨ne, z.1, p, Or.inr e2⟩) (fun p => no (fun w => p w.2.2.1))) (fun e2 => nm_r (nI_1 i) (no (fun w => w.2.2.2.elim e1 e2)))⟩)⟩
theorem ya_92 {post : Int32 → Prop} {w f b t : Nat} {G1 G2 : Int32} (hw : w ≤ 2) (hf : f < nf) (hC : sw_YC nf nb ops argA argB len br er fi se ns en) (hb : b < nb) (ht : t < nb) (hG1 : ∀ j, (bt G1 j = true ↔ sw_Rg nb ops argA argB len br er fi se f b (j + 2))) (hG2 : ∀ j, (bt G2 j = true ↔ sw_Rg nb ops argA argB len br er fi se f t (j + 2)))
    (h : post (sw_ev w G1 G2 (¬ fi (8 * f + b) = se (8 * f + b) ∧ sw_Jn nb ops argA argB len br er fi se f b t nb))) : wY_edge_92 post (nI w) (nI f) (nI b) (nI (8 * f + b)) (nI t) (nI nf) (nI nb) (nI ns) (nI nl) (nI cu) st (nI d) sv es ops argA argB len en er fi se wr cel fn bk ix vrs eny had := by
  have hnf : nf ≤ 4 := hC.2.2.1
  have hnb : nb ≤ 8 := hC.2.2.2.1
  unfold wY_edge_92
  refine ya_region hf hC hb hG1 (ya_region hf hC ht hG2 ?_)
  have hc : w = 0 ∨ w = 1 ∨ w = 2 := by omega
  rcases hc with rfl | rfl | rfl
  · exact br_t rfl h
  · exact br_f (by decide) (br_t rfl h)
  · refine br_f (by decide) (br_f (by decide) (br_c (fun e => ⟨nb + 1, ya_151 (by omega) hC hb ht h nb 0 1 (by omega) ⟨fun _ => Or.inl ?_, fun _ => sw_10⟩ (nb + 1) (by omega)⟩) (fun e => ⟨nb + 1, ya_151 (by omega) hC hb ht h nb 0 0 (by omega) ⟨fun u => absurd rfl u, ?_⟩ (nb + 1) (by omega)⟩)))
    · exact sw_eqN (b := 0) (by omega) (by decide) e
    · rintro (w | ⟨c, hc, _⟩)
      · exact absurd (by rw [w]; rfl) e
      · omega
theorem sj_edge (hR : sw_RG nf nb ns nl cu d sv rs ops argA argB len br en er fi se raw wr pln rch rgn ec fil fn bk ix hd slt enx cel vrs eny had) (h2 : st = 1 → 0 < d) (v1 v2 v3 v4 : Int32) : wpX_edge (fun r u' => wpY_edge (fun r' => r' = r ∧ sw_Q u' ((nI nf), (nI nb), (nI ns), (nI nl), (nI cu), st, (nI d), sv, es, ops, argA, argB, len, en, er, fi, se, wr, cel, fn, bk, ix, vrs, eny, had)) ((nI nf), (nI nb), (nI ns), (nI nl), (nI cu), st, (nI d), sv, es, ops, argA, argB, len, en, er, fi, se, wr, cel, fn, bk, ix, vrs, eny, had) v1 v2 v3 v4) ((nI nf), (nI nb), (nI (2 + ns)), (nI nl), (nI cu), (nI d), st, sv, rs, es, ops, argA, argB, len, br, er, fi, se, raw, pln, rch, tch, rgn, ec, fil, fn, bk, ix, hd, slt, enx) v1 v2 v3 v4 := by
  have hQ : sw_Q ((nI nf), (nI nb), (nI (2 + ns)), (nI nl), (nI cu), (nI d), st, sv, rs, es, ops, argA, argB, len, br, er, fi, se, raw, pln, rch, tch, rgn, ec, fil, fn, bk, ix, hd, slt, enx) ((nI nf), (nI nb), (nI ns), (nI nl), (nI cu), st, (nI d), sv, es, ops, argA, argB, len, en, er, fi, se, wr, cel, fn, bk, ix, vrs, eny, had) := sw_in hR h2
  have hC := sw_RG_C hR
  obtain ⟨⟨z1, z2, z3, z4, z5, z6, z7, z8, z9, z10⟩, hP, hE, hW, hV, _⟩ := id hR
  unfold wpX_edge
  rcases sw_dic v2 (n := nf) (by omega) with b1 | ⟨g, hg, rfl⟩
  · refine xc_o0 b1 (br_t rfl ?_)
    unfold wpY_edge
    exact yc_f0 b1 (br_t rfl ⟨rfl, hQ⟩)
  · rcases sw_dic v3 (n := nb) (by omega) with b2 | ⟨b, hb, rfl⟩
    · refine xc_o2 z2 hg b2 (br_t rfl ?_)
      unfold wpY_edge
      exact yc_f1 z2 hg (br_f sw_10 (yc_b0 b2 (br_t rfl ⟨rfl, hQ⟩)))
    · refine xc_o1 z2 z4 hg hb (br_f sw_10 ?_)
      refine br_c (fun e1 => ?_) (fun e1 => br_c (fun e2 => ?_) (fun e2 => br_c (fun e3 => ?_) (fun e3 => br_c (fun e4 => ?_) (fun e4 => ?_))))
      · unfold wpY_edge
        exact yc_f1 z2 hg (br_f sw_10 (yc_b1 z4 hb (br_f sw_10 (br_t e1 ⟨rfl, hQ⟩))))
      · unfold wpY_edge
        exact yc_f1 z2 hg (br_f sw_10 (yc_b1 z4 hb (br_f sw_10 (br_f e1 (br_t e2 ⟨rfl, hQ⟩)))))
      · unfold wpY_edge
        exact yc_f1 z2 hg (br_f sw_10 (yc_b1 z4 hb (br_f sw_10 (br_f e1 (br_f e2 (br_t e3 ⟨rfl, hQ⟩))))))
      · obtain ⟨w, hw, rfl⟩ := nI_of2 (x := v1) (M := 2) (n := 2) (by decide) e3 e4
        refine xa_plan hg z2 z4 z6 (by omega) hP hV (fun pln' rch' tch' rgn' ec' hV' hp hm => nm_r (sw_8 g b) ?_)
        have hQ' : sw_Q ((nI nf), (nI nb), (nI (2 + ns)), (nI nl), (nI cu), (nI d), st, sv, rs, es, ops, argA, argB, len, br, er, fi, se, raw, pln', rch', tch', rgn', ec', fil, fn, bk, ix, hd, slt, enx) ((nI nf), (nI nb), (nI ns), (nI nl), (nI cu), st, (nI d), sv, es, ops, argA, argB, len, en, er, fi, se, wr, cel, fn, bk, ix, vrs, eny, had) := sw_in (sw_RG_plan hR hV' hm) h2
        obtain ⟨pf1, pf2, pf3⟩ := hV' g hg hp
        have hin : vp_in (nI (8 * g + b)) 32 := vp_in_nI (by omega) (by omega)
        have eck : (nI (8 * g + b)).toNatClampNeg = 8 * g + b := nI_clamp (by omega)
        obtain ⟨t1, ht1, et1⟩ := hP.2.1 (8 * g + b) (by omega)
        obtain ⟨t2, ht2, et2⟩ := hP.2.2.1 (8 * g + b) (by omega)
        -- Y up to the path
        have y0 : ∀ post : Int32 → Prop, br (8 * g + b) = 0 ∨ ¬ sw_Pa nb ops argA argB len br er fi se g 0 b → post 0 → wpY_edge post ((nI nf), (nI nb), (nI ns), (nI nl), (nI cu), st, (nI d), sv, es, ops, argA, argB, len, en, er, fi, se, wr, cel, fn, bk, ix, vrs, eny, had) (nI w) (nI g) (nI b) v4 := by
          intro post ho hpost
          unfold wpY_edge
          refine yc_f1 z2 hg (br_f sw_10 (yc_b1 z4 hb (br_f sw_10 (br_f e1 (br_f e2 (br_f e3 (br_t e4 (nm_r (sw_8y g b) ⟨hin, ?_⟩))))))))
          rw [eck]
          rcases hE (8 * g + b) (by omega) with z | z
          · exact br_t z.2 hpost
          · refine br_f (by rw [z.2]; decide) (ya_path (x := 0) (by omega) hC (by omega) hb (fun p => ?_) (fun p => br_t rfl hpost))
            rcases ho with u | u
            · exact absurd u z.1
            · exact absurd p u
        have y1 : ∀ (post : Int32 → Prop) (t : Nat), t < nb → (v4 = 0 → t = t1) → (¬ v4 = 0 → t = t2) → ¬ br (8 * g + b) = 0 → sw_Pa nb ops argA argB len br er fi se g 0 b → post (sw_ev w (rgn' (8 * g + b)) (rgn' (8 * g + t)) (¬ fi (8 * g + b) = se (8 * g + b) ∧ sw_Jn nb ops argA argB len br er fi se g b t nb)) → wpY_edge post ((nI nf), (nI nb), (nI ns), (nI nl), (nI cu), st, (nI d), sv, es, ops, argA, argB, len, en, er, fi, se, wr, cel, fn, bk, ix, vrs, eny, had) (nI w) (nI g) (nI b) v4 := by
          intro post t ht k0 k1 hbr hpa hpost
          have fin : wY_edge_92 post (nI w) (nI g) (nI b) (nI (8 * g + b)) (nI t) (nI nf) (nI nb) (nI ns) (nI nl) (nI cu) st (nI d) sv es ops argA argB len en er fi se wr cel fn bk ix vrs eny had := ya_92 hw hg hC hb ht (pf2 b hb) (pf2 t ht) hpost
          unfold wpY_edge
          refine yc_f1 z2 hg (br_f sw_10 (yc_b1 z4 hb (br_f sw_10 (br_f e1 (br_f e2 (br_f e3 (br_t e4 (nm_r (sw_8y g b) ⟨hin, ?_⟩))))))))
          rw [eck, et1, et2]
          rcases hE (8 * g + b) (by omega) with z | z
          · exact absurd z.1 hbr
          · exact br_f (by rw [z.2]; decide) (ya_path (x := 0) (by omega) hC (by omega) hb (fun p => br_f sw_10 (br_c (fun u => ⟨hin, (k0 u) ▸ fin⟩) (fun u => ⟨hin, (k1 u) ▸ fin⟩))) (fun p => absurd hpa p))
        refine xa_reach (by omega) (by omega) (fun p => br_f sw_10 ⟨hin, ?_⟩) (fun p => br_t rfl (y0 _ (Or.inr (fun u => p ((pf1 0 (by omega) b).mpr u))) ⟨rfl, hQ'⟩))
        rw [eck, et1, et2]
        have hpa := (pf1 0 (by omega) b).mp p
        refine br_c (fun u => y0 _ (Or.inl u) ⟨rfl, hQ'⟩) (fun u => br_c (fun k => ⟨hin, ?_⟩) (fun k => ⟨hin, ?_⟩))
        · exact xa_87 hw (by omega) z4 (by omega) hb ht1 pf1 (y1 _ t1 ht1 (fun _ => rfl) (fun n => absurd k n) u hpa ⟨rfl, hQ'⟩)
        · exact xa_87 hw (by omega) z4 (by omega) hb ht2 pf1 (y1 _ t2 ht2 (fun n => absurd n k) (fun _ => rfl) u hpa ⟨rfl, hQ'⟩)
      · unfold wpY_edge
        exact yc_f1 z2 hg (br_f sw_10 (yc_b1 z4 hb (br_f sw_10 (br_f e1 (br_f e2 (br_f e3 (br_f e4 ⟨rfl, hQ⟩)))))))
end LK
end
section
/-! count, reg, entry, where, peek -/
section RT
variable {nf nb ns nl cu d : Nat} {st sv rs es : Int32} {ops argA argB len br en er fi se raw wr pln rch tch rgn ec fil fn bk ix hd slt enx cel vrs eny had : Nat → Int32}
theorem sw_sub1 (s x : Int32) : s - x + (-1) = s - (x + 1) := by grind
theorem sw_subA (s x y : Int32) : s - x - y = s - (x + y) := by grind
theorem ya_c32 {post : Int32 → Prop} {J : Int32 → Int32 → Prop} {l : Nat} {s0 : Int32} (hC : sw_YC nf nb ops argA argB len br er fi se ns en) (hW : sw_HW raw wr) (hB : sw_HF nf nb fn bk ix) (hl : l < 8)
    (hJ : J (s0 - sw_sm (fun j => sw_Ho nb ops argA argB len br er fi se raw fn bk l (j + 2)) ns) (nI (l + 1))) :
    ∀ q i, i + q = ns → ∀ n, q < n → wY_count_32 post J (nI l) (nI nf) (nI nb) (nI ns) (nI nl) (nI cu) st (nI d) sv es ops argA argB len en er fi se wr cel fn bk ix vrs eny had n (s0 - sw_sm (fun j => sw_Ho nb ops argA argB len br er fi se raw fn bk l (j + 2)) i) (nI (i + 2)) := by
  have hns : ns ≤ 4 := hC.2.2.2.2.1
  intro q
  induction q with
  | zero =>
    intro i hi n hn
    obtain ⟨n, rfl⟩ : ∃ n', n = n' + 1 := ⟨n - 1, by omega⟩
    have e : i = ns := by omega
    rw [e]
    exact br_t (sw_nlt (Nat.le_refl _) (by omega)) (nm_r (nI_1 l) hJ)
  | succ q ih =>
    intro i hi n hn
    obtain ⟨n, rfl⟩ : ∃ n', n = n' + 1 := ⟨n - 1, by omega⟩
    refine br_f (sw_nnlt (by omega) hns) (ya_holds hC hW hB hl (by omega) (fun w => br_f sw_10 (nm_r ?_ (nm_r (sw_j i) (ih (i + 1) (by omega) n (by omega))))) (fun w => br_t rfl (nm_r (sw_j i) ?_)))
    · rw [sw_sub1]
      simp only [sw_sm]
      rw [sw_it w]
    · have e : sw_sm (fun j => sw_Ho nb ops argA argB len br er fi se raw fn bk l (j + 2)) i = sw_sm (fun j => sw_Ho nb ops argA argB len br er fi se raw fn bk l (j + 2)) (i + 1) := by
        simp only [sw_sm]
        rw [sw_if w, Int32.add_zero]
      rw [e]
      exact ih (i + 1) (by omega) n (by omega)
theorem ya_c21 {post : Int32 → Prop} (hC : sw_YC nf nb ops argA argB len br er fi se ns en) (hW : sw_HW raw wr) (hB : sw_HF nf nb fn bk ix) (hd8 : d ≤ 8)
    (h : post (sv - sw_hc (sw_Ho nb ops argA argB len br er fi se raw fn bk) ns d)) :
    ∀ q l, l + q = d → ∀ n, q < n → wY_count_21 post (nI nf) (nI nb) (nI ns) (nI nl) (nI cu) st (nI d) sv es ops argA argB len en er fi se wr cel fn bk ix vrs eny had n (sv - sw_hc (sw_Ho nb ops argA argB len br er fi se raw fn bk) ns l) (nI l) := by
  intro q
  induction q with
  | zero =>
    intro l hl n hn
    obtain ⟨n, rfl⟩ : ∃ n', n = n' + 1 := ⟨n - 1, by omega⟩
    have e : l = d := by omega
    rw [e]
    exact br_t (nI_le (Nat.le_refl _) (by omega)) h
  | succ q ih =>
    intro l hl n hn
    obtain ⟨n, rfl⟩ : ∃ n', n = n' + 1 := ⟨n - 1, by omega⟩
    have f0 := ya_c32 (post := post) (J := wY_count_21 post (nI nf) (nI nb) (nI ns) (nI nl) (nI cu) st (nI d) sv es ops argA argB len en er fi se wr cel fn bk ix vrs eny had n) (l := l) (s0 := sv - sw_hc (sw_Ho nb ops argA argB len br er fi se raw fn bk) ns l) (raw := raw) (d := d) (nl := nl) (cu := cu) (st := st) (sv := sv) (es := es) (cel := cel) (vrs := vrs) (eny := eny) (had := had) hC hW hB (by omega) (by
      rw [sw_subA]
      exact ih (l + 1) (by omega) n (by omega)) ns 0 (by omega) (ns + 1) (by omega)
    refine br_f (nI_ge (by omega) (by omega)) ⟨ns + 1, ?_⟩
    have e : sv - sw_hc (sw_Ho nb ops argA argB len br er fi se raw fn bk) ns l - sw_sm (fun j => sw_Ho nb ops argA argB len br er fi se raw fn bk l (j + 2)) 0 = sv - sw_hc (sw_Ho nb ops argA argB len br er fi se raw fn bk) ns l := Int32.sub_zero _
    rw [e] at f0
    exact f0
theorem sj_count (hR : sw_RG nf nb ns nl cu d sv rs ops argA argB len br en er fi se raw wr pln rch rgn ec fil fn bk ix hd slt enx cel vrs eny had) (h2 : st = 1 → 0 < d) (v1 : Int32) : wpX_count (fun r => wpY_count (fun r' => r' = r ∧ sw_Q ((nI nf), (nI nb), (nI (2 + ns)), (nI nl), (nI cu), (nI d), st, sv, rs, es, ops, argA, argB, len, br, er, fi, se, raw, pln, rch, tch, rgn, ec, fil, fn, bk, ix, hd, slt, enx) ((nI nf), (nI nb), (nI ns), (nI nl), (nI cu), st, (nI d), sv, es, ops, argA, argB, len, en, er, fi, se, wr, cel, fn, bk, ix, vrs, eny, had)) ((nI nf), (nI nb), (nI ns), (nI nl), (nI cu), st, (nI d), sv, es, ops, argA, argB, len, en, er, fi, se, wr, cel, fn, bk, ix, vrs, eny, had) v1) ((nI nf), (nI nb), (nI (2 + ns)), (nI nl), (nI cu), (nI d), st, sv, rs, es, ops, argA, argB, len, br, er, fi, se, raw, pln, rch, tch, rgn, ec, fil, fn, bk, ix, hd, slt, enx) v1 := by
  have hQ : sw_Q ((nI nf), (nI nb), (nI (2 + ns)), (nI nl), (nI cu), (nI d), st, sv, rs, es, ops, argA, argB, len, br, er, fi, se, raw, pln, rch, tch, rgn, ec, fil, fn, bk, ix, hd, slt, enx) ((nI nf), (nI nb), (nI ns), (nI nl), (nI cu), st, (nI d), sv, es, ops, argA, argB, len, en, er, fi, se, wr, cel, fn, bk, ix, vrs, eny, had) := sw_in hR h2
  have hC := sw_RG_C hR
  obtain ⟨⟨z1, z2, z3, z4, z5, z6, z7, z8, z9, z10⟩, hP, hE, hW, hV, hB, hpl, hM⟩ := id hR
  have big : ∀ n : Nat, n < 6 → sw_bad 6 v1 → ¬ v1 = nI n := by
    intro n hn hb e
    subst e
    rcases hb with w | w
    · exact nI_pos (by omega) w
    · exact nI_ge hn (by decide) w
  rcases sw_dic v1 (n := 6) (by omega) with b | ⟨j, hj, rfl⟩
  · have yy : wpY_count (fun r' => r' = -1 ∧ sw_Q ((nI nf), (nI nb), (nI (2 + ns)), (nI nl), (nI cu), (nI d), st, sv, rs, es, ops, argA, argB, len, br, er, fi, se, raw, pln, rch, tch, rgn, ec, fil, fn, bk, ix, hd, slt, enx) ((nI nf), (nI nb), (nI ns), (nI nl), (nI cu), st, (nI d), sv, es, ops, argA, argB, len, en, er, fi, se, wr, cel, fn, bk, ix, vrs, eny, had)) ((nI nf), (nI nb), (nI ns), (nI nl), (nI cu), st, (nI d), sv, es, ops, argA, argB, len, en, er, fi, se, wr, cel, fn, bk, ix, vrs, eny, had) v1 := br_f (big 0 (by omega) b) (br_f (big 1 (by omega) b) (br_f (big 2 (by omega) b) (br_f (big 3 (by omega) b) (br_f (big 4 (by omega) b) (br_f (big 5 (by omega) b) ⟨rfl, hQ⟩)))))
    refine br_c (fun _ => yy) (fun n => br_t ?_ yy)
    exact Int32.lt_of_lt_of_le (b := nI 6) (by decide) (b.resolve_left n)
  · have hc : j = 0 ∨ j = 1 ∨ j = 2 ∨ j = 3 ∨ j = 4 ∨ j = 5 := by omega
    rcases hc with rfl | rfl | rfl | rfl | rfl | rfl
    · exact br_f (by decide) (br_f (by decide) (br_t (by decide) (br_t (by decide) ⟨rfl, hQ⟩)))
    · refine br_f (by decide) (br_f (by decide) (br_f (by decide) (br_t (by decide) (br_f (by decide) (br_t (by decide) ⟨d + 1, ?_⟩)))))
      have f0 := ya_c21 (post := fun r' => r' = rs ∧ sw_Q ((nI nf), (nI nb), (nI (2 + ns)), (nI nl), (nI cu), (nI d), st, sv, rs, es, ops, argA, argB, len, br, er, fi, se, raw, pln, rch, tch, rgn, ec, fil, fn, bk, ix, hd, slt, enx) ((nI nf), (nI nb), (nI ns), (nI nl), (nI cu), st, (nI d), sv, es, ops, argA, argB, len, en, er, fi, se, wr, cel, fn, bk, ix, vrs, eny, had)) (raw := raw) (d := d) (nl := nl) (cu := cu) (st := st) (sv := sv) (es := es) (cel := cel) (vrs := vrs) (eny := eny) (had := had) hC hW hB (by omega) ⟨hM.2.2.2.2.2.symm, hQ⟩ d 0 (by omega) (d + 1) (by omega)
      have e : sv - sw_hc (sw_Ho nb ops argA argB len br er fi se raw fn bk) ns 0 = sv := Int32.sub_zero _
      rw [e] at f0
      exact f0
    · exact br_f (by decide) (br_f (by decide) (br_f (by decide) (br_f (by decide) (br_t (by decide) (br_f (by decide) (br_f (by decide) (br_t (by decide) ⟨rfl, hQ⟩)))))))
    · exact br_f (by decide) (br_f (by decide) (br_f (by decide) (br_f (by decide) (br_f (by decide) (br_t (by decide) (br_f (by decide) (br_f (by decide) (br_f (by decide) (br_t (by decide) ⟨rfl, hQ⟩)))))))))
    · exact br_f (by decide) (br_f (by decide) (br_f (by decide) (br_f (by decide) (br_f (by decide) (br_f (by decide) (br_t (by decide) (br_f (by decide) (br_f (by decide) (br_f (by decide) (br_f (by decide) (br_t (by decide) ⟨rfl, hQ⟩)))))))))))
    · exact br_f (by decide) (br_f (by decide) (br_f (by decide) (br_f (by decide) (br_f (by decide) (br_f (by decide) (br_f (by decide) (br_t (by decide) (br_f (by decide) (br_f (by decide) (br_f (by decide) (br_f (by decide) (br_f (by decide) (br_t (by decide) ⟨rfl, hQ⟩)))))))))))))
theorem sw_lev {v1 : Int32} (hd8 : d ≤ 8) (h : ¬ v1 < -1) (hle : v1 ≤ nI d - 1) : ∃ m, m ≤ d ∧ v1 = nI m - 1 := by
  have hm1 : (-1 : Int32).toInt = -1 := by decide
  have h0 : (0 : Int32).toInt = 0 := by decide
  rcases Classical.em (v1 < 0) with z | z
  · refine ⟨0, Nat.zero_le _, ?_⟩
    rw [Int32.lt_iff_toInt_lt, hm1] at h
    rw [Int32.lt_iff_toInt_lt, h0] at z
    have e : v1.toInt = (-1 : Int32).toInt := by rw [hm1]; omega
    exact Int32.toInt_inj.mp e
  · obtain ⟨j, hj, rfl⟩ := nI_of z
    rcases Nat.eq_zero_or_pos d with w | w
    · subst w
      have e : nI 0 - 1 = -1 := by decide
      rw [e, Int32.le_iff_toInt_le, hm1, nI_toInt hj] at hle
      omega
    · obtain ⟨l, rfl⟩ : ∃ l, d = l + 1 := ⟨d - 1, by omega⟩
      rw [nI_pred, nI_leI hj (by omega)] at hle
      exact ⟨j + 1, by omega, (nI_pred j).symm⟩
theorem sj_reg (hR : sw_RG nf nb ns nl cu d sv rs ops argA argB len br en er fi se raw wr pln rch rgn ec fil fn bk ix hd slt enx cel vrs eny had) (h2 : st = 1 → 0 < d) (v1 v2 : Int32) : wpX_reg (fun r => wpY_reg (fun r' => r' = r ∧ sw_Q ((nI nf), (nI nb), (nI (2 + ns)), (nI nl), (nI cu), (nI d), st, sv, rs, es, ops, argA, argB, len, br, er, fi, se, raw, pln, rch, tch, rgn, ec, fil, fn, bk, ix, hd, slt, enx) ((nI nf), (nI nb), (nI ns), (nI nl), (nI cu), st, (nI d), sv, es, ops, argA, argB, len, en, er, fi, se, wr, cel, fn, bk, ix, vrs, eny, had)) ((nI nf), (nI nb), (nI ns), (nI nl), (nI cu), st, (nI d), sv, es, ops, argA, argB, len, en, er, fi, se, wr, cel, fn, bk, ix, vrs, eny, had) v1 v2) ((nI nf), (nI nb), (nI (2 + ns)), (nI nl), (nI cu), (nI d), st, sv, rs, es, ops, argA, argB, len, br, er, fi, se, raw, pln, rch, tch, rgn, ec, fil, fn, bk, ix, hd, slt, enx) v1 v2 := by
  have hQ : sw_Q ((nI nf), (nI nb), (nI (2 + ns)), (nI nl), (nI cu), (nI d), st, sv, rs, es, ops, argA, argB, len, br, er, fi, se, raw, pln, rch, tch, rgn, ec, fil, fn, bk, ix, hd, slt, enx) ((nI nf), (nI nb), (nI ns), (nI nl), (nI cu), st, (nI d), sv, es, ops, argA, argB, len, en, er, fi, se, wr, cel, fn, bk, ix, vrs, eny, had) := sw_in hR h2
  have hC := sw_RG_C hR
  obtain ⟨⟨z1, z2, z3, z4, z5, z6, z7, z8, z9, z10⟩, hP, hE, hW, hV, hB, hpl, hM⟩ := id hR
  obtain ⟨m5, m1, m2, m3, m4, mR⟩ := hM
  refine br_c (fun e => br_t e ⟨rfl, hQ⟩) (fun e => ?_)
  rcases sw_dic v2 (n := 2 + ns) (by omega) with b | ⟨r, hr, rfl⟩
  · exact xc_r0 b (br_t rfl (br_f e (yc_r0 z6 b (br_t rfl ⟨rfl, hQ⟩))))
  · have x35 : ∀ (post : Int32 → Prop) (m : Nat), m ≤ d → post (sw_rd (sw_Ho nb ops argA argB len br er fi se raw fn bk) vrs cel m r) → wX_reg_35 post (nI r) (nI m - 1) (nI nf) (nI nb) (nI (2 + ns)) (nI nl) (nI cu) (nI d) st sv rs es ops argA argB len br er fi se raw pln rch tch rgn ec fil fn bk ix hd slt enx := by
      intro post m hm hp
      unfold wX_reg_35
      exact xa_seen z6 (by omega) m5 m1 m2 sw_Ho_2 hr hm hp
    have y35 : ∀ (post : Int32 → Prop) (m : Nat), m ≤ d → post (sw_rd (sw_Ho nb ops argA argB len br er fi se raw fn bk) vrs cel m r) → wY_reg_35 post (nI r) (nI m - 1) (nI nf) (nI nb) (nI ns) (nI nl) (nI cu) st (nI d) sv es ops argA argB len en er fi se wr cel fn bk ix vrs eny had := by
      intro post m hm hp
      unfold wY_reg_35
      exact ya_read hC hW hB (by omega) (by omega) hp
    refine xc_r1 z6 hr (br_f sw_10 (br_c (fun le => ?_) (fun le => ?_)))
    · obtain ⟨m, hm, rfl⟩ := sw_lev (by omega) e le
      exact x35 _ m hm (br_f e (yc_r1 z6 hr (br_f sw_10 (br_t le (y35 _ m hm ⟨rfl, hQ⟩)))))
    · exact x35 _ d (Nat.le_refl _) (br_f e (yc_r1 z6 hr (br_f sw_10 (br_f le (y35 _ d (Nat.le_refl _) ⟨rfl, hQ⟩)))))
theorem sj_entry (hR : sw_RG nf nb ns nl cu d sv rs ops argA argB len br en er fi se raw wr pln rch rgn ec fil fn bk ix hd slt enx cel vrs eny had) (h2 : st = 1 → 0 < d) (v1 v2 : Int32) : wpX_entry (fun r => wpY_entry (fun r' => r' = r ∧ sw_Q ((nI nf), (nI nb), (nI (2 + ns)), (nI nl), (nI cu), (nI d), st, sv, rs, es, ops, argA, argB, len, br, er, fi, se, raw, pln, rch, tch, rgn, ec, fil, fn, bk, ix, hd, slt, enx) ((nI nf), (nI nb), (nI ns), (nI nl), (nI cu), st, (nI d), sv, es, ops, argA, argB, len, en, er, fi, se, wr, cel, fn, bk, ix, vrs, eny, had)) ((nI nf), (nI nb), (nI ns), (nI nl), (nI cu), st, (nI d), sv, es, ops, argA, argB, len, en, er, fi, se, wr, cel, fn, bk, ix, vrs, eny, had) v1 v2) ((nI nf), (nI nb), (nI (2 + ns)), (nI nl), (nI cu), (nI d), st, sv, rs, es, ops, argA, argB, len, br, er, fi, se, raw, pln, rch, tch, rgn, ec, fil, fn, bk, ix, hd, slt, enx) v1 v2 := by
  have hQ : sw_Q ((nI nf), (nI nb), (nI (2 + ns)), (nI nl), (nI cu), (nI d), st, sv, rs, es, ops, argA, argB, len, br, er, fi, se, raw, pln, rch, tch, rgn, ec, fil, fn, bk, ix, hd, slt, enx) ((nI nf), (nI nb), (nI ns), (nI nl), (nI cu), st, (nI d), sv, es, ops, argA, argB, len, en, er, fi, se, wr, cel, fn, bk, ix, vrs, eny, had) := sw_in hR h2
  obtain ⟨⟨z1, z2, z3, z4, z5, z6, z7, z8, z9, z10⟩, hP, hE, hW, hV, hB, hpl, hM⟩ := id hR
  obtain ⟨m5, m1, m2, m3, m4, mR⟩ := hM
  refine br_c (fun e => br_t e ⟨rfl, hQ⟩) (fun e => br_c (fun e2 => br_f e (br_t e2 ⟨rfl, hQ⟩)) (fun e2 => br_c (fun e3 => br_f e (br_f e2 (br_t e3 ⟨rfl, hQ⟩))) (fun e3 => ?_)))
  rcases sw_dic v2 (n := 2 + ns) (by omega) with b | ⟨r, hr, rfl⟩
  · refine br_f (fun w => ?_) (br_f e (br_f e2 (br_f e3 (yc_r0 z6 b (br_t rfl ⟨rfl, hQ⟩)))))
    rcases b with q | q
    · exact e3 (Int32.lt_trans q (by decide))
    · exact Int32.lt_irrefl (Int32.lt_of_lt_of_le w q)
  · obtain ⟨l, hl, rfl⟩ := nI_of e
    rw [nI_leI (by omega) hl] at e2
    have e2' : ¬ nI d ≤ nI l := nI_ge (by omega) (by omega)
    have r2 : 2 ≤ r := by
      rcases Nat.lt_or_ge r 2 with q | q
      · exact absurd (nI_lt (b := 2) q (by decide)) e3
      · exact q
    obtain ⟨j, rfl⟩ : ∃ j, r = j + 2 := ⟨r - 2, by omega⟩
    refine br_t (nI_lt hr (by omega)) ?_
    rw [sw_4, nI_clamp (by omega : 4 * l + j < 2 ^ 31)]
    refine ⟨vp_in_nI (by omega) (by omega), br_f e (br_f e2' (br_f e3 (yc_r1 z6 hr (br_f sw_10 ?_))))⟩
    rw [sw_6y, nI_clamp (by omega : 6 * l + (j + 2) < 2 ^ 31)]
    exact ⟨vp_in_nI (by omega) (by omega), (m3 l (by omega) j (by omega)).symm, hQ⟩
theorem sj_where (hR : sw_RG nf nb ns nl cu d sv rs ops argA argB len br en er fi se raw wr pln rch rgn ec fil fn bk ix hd slt enx cel vrs eny had) (h2 : st = 1 → 0 < d) (v1 : Int32) : wpX_where (fun r => wpY_where (fun r' => r' = r ∧ sw_Q ((nI nf), (nI nb), (nI (2 + ns)), (nI nl), (nI cu), (nI d), st, sv, rs, es, ops, argA, argB, len, br, er, fi, se, raw, pln, rch, tch, rgn, ec, fil, fn, bk, ix, hd, slt, enx) ((nI nf), (nI nb), (nI ns), (nI nl), (nI cu), st, (nI d), sv, es, ops, argA, argB, len, en, er, fi, se, wr, cel, fn, bk, ix, vrs, eny, had)) ((nI nf), (nI nb), (nI ns), (nI nl), (nI cu), st, (nI d), sv, es, ops, argA, argB, len, en, er, fi, se, wr, cel, fn, bk, ix, vrs, eny, had) v1) ((nI nf), (nI nb), (nI (2 + ns)), (nI nl), (nI cu), (nI d), st, sv, rs, es, ops, argA, argB, len, br, er, fi, se, raw, pln, rch, tch, rgn, ec, fil, fn, bk, ix, hd, slt, enx) v1 := by
  have hQ : sw_Q ((nI nf), (nI nb), (nI (2 + ns)), (nI nl), (nI cu), (nI d), st, sv, rs, es, ops, argA, argB, len, br, er, fi, se, raw, pln, rch, tch, rgn, ec, fil, fn, bk, ix, hd, slt, enx) ((nI nf), (nI nb), (nI ns), (nI nl), (nI cu), st, (nI d), sv, es, ops, argA, argB, len, en, er, fi, se, wr, cel, fn, bk, ix, vrs, eny, had) := sw_in hR h2
  obtain ⟨⟨z1, z2, z3, z4, z5, z6, z7, z8, z9, z10⟩, _⟩ := id hR
  refine br_c (fun e => br_t e ⟨rfl, hQ⟩) (fun e => br_c (fun e2 => ?_) (fun e2 => br_f e (br_f e2 ⟨rfl, hQ⟩)))
  have hin : vp_in v1 8 := by
    obtain ⟨l, hl, rfl⟩ := nI_of e
    rw [nI_ltI hl (by omega)] at e2
    exact vp_in_nI (by omega) (by omega)
  exact ⟨hin, hin, hin, br_f e (br_t e2 ⟨hin, hin, hin, rfl, hQ⟩)⟩
def sw_pkE (post : Int32 → Prop) (en er fi se : Nat → Int32) (k : Nat) (v4 : Int32) : Prop := (v4 = 0 → (vp_in (nI k) 32 ∧ post (en k))) ∧ (¬ v4 = 0 → (vp_in (nI k) 32 ∧ ((en k = 7 → post 0) ∧ (¬ en k = 7 → ((v4 = 1 → (vp_in (nI k) 32 ∧ post (er k))) ∧ (¬ v4 = 1 → (vp_in (nI k) 32 ∧ (vp_in (nI k) 32 ∧ post ((8 * fi k) + se k)))))))))
def sw_pkI (post : Int32 → Prop) (ops argA argB : Nat → Int32) (x : Int32) (v4 : Int32) : Prop := (v4 = 0 → (vp_in x 192 ∧ post (ops x.toNatClampNeg))) ∧ (¬ v4 = 0 → ((v4 = 1 → (vp_in x 192 ∧ post (argA x.toNatClampNeg))) ∧ (¬ v4 = 1 → (vp_in x 192 ∧ post (argB x.toNatClampNeg)))))
def sw_pk (post : Int32 → Prop) (ops argA argB en er fi se : Nat → Int32) (k L : Nat) (v3 v4 : Int32) : Prop := (v4 < 0 → post (-1)) ∧ (¬ v4 < 0 → ((2 < v4 → post (-1)) ∧ (¬ 2 < v4 → ((v3 < 0 → post (-1)) ∧ (¬ v3 < 0 → (vp_in (nI k) 32 ∧ ((v3 ≤ nI L → (vp_in (nI k) 32 ∧ ((nI L ≤ v3 → sw_pkE post en er fi se k v4) ∧ (¬ nI L ≤ v3 → sw_pkI post ops argA argB (nI k * 6 + v3) v4)))) ∧ (¬ v3 ≤ nI L → post (-1)))))))))
theorem sj_peek (hR : sw_RG nf nb ns nl cu d sv rs ops argA argB len br en er fi se raw wr pln rch rgn ec fil fn bk ix hd slt enx cel vrs eny had) (h2 : st = 1 → 0 < d) (v1 v2 v3 v4 : Int32) : wpX_peek (fun r => wpY_peek (fun r' => r' = r ∧ sw_Q ((nI nf), (nI nb), (nI (2 + ns)), (nI nl), (nI cu), (nI d), st, sv, rs, es, ops, argA, argB, len, br, er, fi, se, raw, pln, rch, tch, rgn, ec, fil, fn, bk, ix, hd, slt, enx) ((nI nf), (nI nb), (nI ns), (nI nl), (nI cu), st, (nI d), sv, es, ops, argA, argB, len, en, er, fi, se, wr, cel, fn, bk, ix, vrs, eny, had)) ((nI nf), (nI nb), (nI ns), (nI nl), (nI cu), st, (nI d), sv, es, ops, argA, argB, len, en, er, fi, se, wr, cel, fn, bk, ix, vrs, eny, had) v1 v2 v3 v4) ((nI nf), (nI nb), (nI (2 + ns)), (nI nl), (nI cu), (nI d), st, sv, rs, es, ops, argA, argB, len, br, er, fi, se, raw, pln, rch, tch, rgn, ec, fil, fn, bk, ix, hd, slt, enx) v1 v2 v3 v4 := by
  have hQ : sw_Q ((nI nf), (nI nb), (nI (2 + ns)), (nI nl), (nI cu), (nI d), st, sv, rs, es, ops, argA, argB, len, br, er, fi, se, raw, pln, rch, tch, rgn, ec, fil, fn, bk, ix, hd, slt, enx) ((nI nf), (nI nb), (nI ns), (nI nl), (nI cu), st, (nI d), sv, es, ops, argA, argB, len, en, er, fi, se, wr, cel, fn, bk, ix, vrs, eny, had) := sw_in hR h2
  obtain ⟨⟨z1, z2, z3, z4, z5, z6, z7, z8, z9, z10⟩, hP, hE, hW, _⟩ := id hR
  unfold wpX_peek
  rcases sw_dic v1 (n := nf) (by omega) with b1 | ⟨g, hg, rfl⟩
  · refine xc_o0 b1 (br_t rfl ?_)
    unfold wpY_peek
    exact yc_f0 b1 (br_t rfl ⟨rfl, hQ⟩)
  · rcases sw_dic v2 (n := nb) (by omega) with b2 | ⟨b, hb, rfl⟩
    · refine xc_o2 z2 hg b2 (br_t rfl ?_)
      unfold wpY_peek
      exact yc_f1 z2 hg (br_f sw_10 (yc_b0 b2 (br_t rfl ⟨rfl, hQ⟩)))
    · have hin4 : vp_in (nI g) 4 := vp_in_nI (by omega) (by omega)
      have ecg : (nI g).toNatClampNeg = g := nI_clamp (by omega)
      have hin : vp_in (nI (8 * g + b)) 32 := vp_in_nI (by omega) (by omega)
      have eck : (nI (8 * g + b)).toNatClampNeg = 8 * g + b := nI_clamp (by omega)
      obtain ⟨L, hL, eL⟩ := hP.1 (8 * g + b) (by omega)
      refine xc_o1 z2 z4 hg hb (br_f sw_10 (br_c (fun e3 => ⟨hin4, ?_⟩) (fun e3 => nm_r (sw_8 g b) ?_)))
      · rw [ecg]
        have y0 : ∀ x : Int32, (¬ wr g = 0 → x = 1) → (wr g = 0 → x = 0) → wpY_peek (fun r' => r' = x ∧ sw_Q ((nI nf), (nI nb), (nI (2 + ns)), (nI nl), (nI cu), (nI d), st, sv, rs, es, ops, argA, argB, len, br, er, fi, se, raw, pln, rch, tch, rgn, ec, fil, fn, bk, ix, hd, slt, enx) ((nI nf), (nI nb), (nI ns), (nI nl), (nI cu), st, (nI d), sv, es, ops, argA, argB, len, en, er, fi, se, wr, cel, fn, bk, ix, vrs, eny, had)) ((nI nf), (nI nb), (nI ns), (nI nl), (nI cu), st, (nI d), sv, es, ops, argA, argB, len, en, er, fi, se, wr, cel, fn, bk, ix, vrs, eny, had) (nI g) (nI b) v3 v4 := by
          intro x k1 k0
          unfold wpY_peek
          refine yc_f1 z2 hg (br_f sw_10 (yc_b1 z4 hb (br_f sw_10 (br_t e3 ⟨hin4, ?_⟩))))
          rw [ecg]
          exact br_c (fun u => ⟨(k0 u).symm, hQ⟩) (fun u => ⟨(k1 u).symm, hQ⟩)
        rcases hW g (by omega) with w | w
        · exact br_t w.1 (y0 1 (fun _ => rfl) (fun u => absurd u w.2))
        · exact br_f w.1 (y0 0 (fun u => absurd w.2 u) (fun _ => rfl))
      · -- Y's walk up to the sizes, under a name
        have yw : ∀ post : Int32 → Prop, sw_pk post ops argA argB en er fi se (8 * g + b) L v3 v4 → wpY_peek post ((nI nf), (nI nb), (nI ns), (nI nl), (nI cu), st, (nI d), sv, es, ops, argA, argB, len, en, er, fi, se, wr, cel, fn, bk, ix, vrs, eny, had) (nI g) (nI b) v3 v4 := by
          intro post h
          unfold wpY_peek
          refine yc_f1 z2 hg (br_f sw_10 (yc_b1 z4 hb (br_f sw_10 (br_f e3 (nm_r (sw_8y g b) ?_)))))
          rw [eck, eL]
          exact h
        rw [eck, eL]
        refine br_c (fun e4 => yw _ (br_t e4 ⟨rfl, hQ⟩)) (fun e4 => br_c (fun e5 => yw _ (br_f e4 (br_t e5 ⟨rfl, hQ⟩))) (fun e5 => br_c (fun e6 => yw _ (br_f e4 (br_f e5 (br_t e6 ⟨rfl, hQ⟩)))) (fun e6 => ⟨hin, br_c (fun e7 => ⟨hin, br_c (fun e8 => ?_) (fun e8 => nm_e ?_)⟩) (fun e7 => yw _ (br_f e4 (br_f e5 (br_f e6 ⟨hin, br_f e7 ⟨rfl, hQ⟩⟩))))⟩)))
        · -- the end of the block
          have e9 : nI L ≤ v3 := by rw [e8]; exact Int32.le_refl _
          have ye : ∀ post : Int32 → Prop, sw_pkE post en er fi se (8 * g + b) v4 → wpY_peek post ((nI nf), (nI nb), (nI ns), (nI nl), (nI cu), st, (nI d), sv, es, ops, argA, argB, len, en, er, fi, se, wr, cel, fn, bk, ix, vrs, eny, had) (nI g) (nI b) v3 v4 :=
            fun post h => yw post (br_f e4 (br_f e5 (br_f e6 ⟨hin, br_t e7 ⟨hin, br_t e9 h⟩⟩)))
          unfold wpX_peekEnd
          rw [eck]
          rcases hE (8 * g + b) (by omega) with w | w
          · refine br_c (fun f0 => ⟨hin, br_t w.1 (ye _ (br_t f0 ⟨hin, w.2, hQ⟩))⟩) (fun f0 => ⟨hin, br_t w.1 (ye _ (br_f f0 ⟨hin, br_t w.2 ⟨rfl, hQ⟩⟩))⟩)
          · have n7 : ¬ en (8 * g + b) = 7 := by rw [w.2]; decide
            refine br_c (fun f0 => ⟨hin, br_f w.1 (ye _ (br_t f0 ⟨hin, w.2, hQ⟩))⟩) (fun f0 => ⟨hin, br_f w.1 (br_c (fun f1 => ⟨hin, ye _ (br_f f0 ⟨hin, br_f n7 (br_t f1 ⟨hin, rfl, hQ⟩)⟩)⟩) (fun f1 => ⟨hin, hin, ye _ (br_f f0 ⟨hin, br_f n7 (br_f f1 ⟨hin, hin, rfl, hQ⟩)⟩)⟩))⟩)
        · -- an instruction
          obtain ⟨i, hi, rfl⟩ := nI_of e6
          rw [nI_leI hi (by omega)] at e7
          have hne : i ≠ L := fun u => e8 (by rw [u])
          have e9 : ¬ nI L ≤ nI i := nI_ge (by omega) (by omega)
          have e7' : nI i ≤ nI L := nI_le (by omega) (by omega)
          have hin1 : vp_in (nI (6 * (8 * g + b) + i)) 192 := vp_in_nI (by omega) (by omega)
          have ye : ∀ post : Int32 → Prop, sw_pkI post ops argA argB (nI (6 * (8 * g + b) + i)) v4 → wpY_peek post ((nI nf), (nI nb), (nI ns), (nI nl), (nI cu), st, (nI d), sv, es, ops, argA, argB, len, en, er, fi, se, wr, cel, fn, bk, ix, vrs, eny, had) (nI g) (nI b) (nI i) v4 := by
            intro post h
            refine yw post (br_f e4 (br_f e5 (br_f e6 ⟨hin, br_t e7' ⟨hin, br_f e9 ?_⟩⟩)))
            rw [sw_6y]
            exact h
          have ec6 : (nI (6 * (8 * g + b) + i)).toNatClampNeg = 6 * (8 * g + b) + i := nI_clamp (by omega)
          rw [sw_6]
          exact br_c (fun f0 => ⟨hin1, ye _ (br_t f0 ⟨hin1, rfl, hQ⟩)⟩) (fun f0 => br_c (fun f1 => ⟨hin1, ye _ (br_f f0 (br_t f1 ⟨hin1, rfl, hQ⟩))⟩) (fun f1 => ⟨hin1, ye _ (br_f f0 (br_f f1 ⟨hin1, rfl, hQ⟩))⟩))
end RT
end
section
/-! the constructors; what is owed -/
section IN
variable {nf nb ns nl cu d : Nat} {st sv rs es : Int32} {ops argA argB len br en er fi se raw wr pln rch tch rgn ec fil fn bk ix hd slt enx cel vrs eny had : Nat → Int32}
theorem yi_209 {post : SY → Prop} (h : ∀ wr' : Nat → Int32, (∀ f, f < 4 → wr' f = 1) → post ((nI nf), (nI nb), (nI ns), (nI nl), (nI cu), st, (nI d), sv, es, ops, argA, argB, len, en, er, fi, se, wr', cel, fn, bk, ix, vrs, eny, had)) :
    ∀ q i (wr' : Nat → Int32), i + q = 4 → (∀ f, f < i → wr' f = 1) → ∀ n, q < n → wY_init_209 post (nI nf) (nI nb) (nI ns) (nI nl) (nI cu) st (nI d) sv es n (nI i) ops argA argB len en er fi se wr' cel fn bk ix vrs eny had := by
  intro q
  induction q with
  | zero =>
    intro i wr' hi hw n hn
    obtain ⟨n, rfl⟩ : ∃ n', n = n' + 1 := ⟨n - 1, by omega⟩
    exact br_t (nI_le (a := 4) (by omega) (by omega)) (h wr' (fun f hf => hw f (by omega)))
  | succ q ih =>
    intro i wr' hi hw n hn
    obtain ⟨n, rfl⟩ : ∃ n', n = n' + 1 := ⟨n - 1, by omega⟩
    refine br_f (nI_ge (b := 4) (by omega) (by decide)) ⟨vp_in_nI (by omega) (by omega), ?_⟩
    rw [nI_clamp (by omega : i < 2 ^ 31), sw_b1]
    refine nm_e (nm_r (nI_1 i) (ih (i + 1) _ (by omega) ?_ n (by omega)))
    intro f hf
    by_cases e : f = i
    · rw [e, pk_us]
    · rw [pk_un e]
      exact hw f (by omega)
theorem yi_184 {post : SY → Prop} (h : ∀ en' wr' : Nat → Int32, (∀ k, k < 32 → en' k = 7) → (∀ f, f < 4 → wr' f = 1) → post ((nI nf), (nI nb), (nI ns), (nI nl), (nI cu), st, (nI d), sv, es, ops, argA, argB, len, en', er, fi, se, wr', cel, fn, bk, ix, vrs, eny, had)) :
    ∀ q i (en' : Nat → Int32), i + q = 32 → (∀ k, k < i → en' k = 7) → ∀ n, q < n → wY_init_184 post (nI nf) (nI nb) (nI ns) (nI nl) (nI cu) st (nI d) sv es n (nI i) ops argA argB len en' er fi se wr cel fn bk ix vrs eny had := by
  intro q
  induction q with
  | zero =>
    intro i en' hi hw n hn
    obtain ⟨n, rfl⟩ : ∃ n', n = n' + 1 := ⟨n - 1, by omega⟩
    exact br_t (nI_le (a := 32) (by omega) (by omega)) ⟨5, yi_209 (fun wr' hw' => h en' wr' (fun k hk => hw k (by omega)) hw') 4 0 wr (by omega) (fun _ hf => absurd hf (Nat.not_lt_zero _)) 5 (by omega)⟩
  | succ q ih =>
    intro i en' hi hw n hn
    obtain ⟨n, rfl⟩ : ∃ n', n = n' + 1 := ⟨n - 1, by omega⟩
    refine br_f (nI_ge (b := 32) (by omega) (by decide)) ⟨vp_in_nI (by omega) (by omega), ?_⟩
    rw [nI_clamp (by omega : i < 2 ^ 31)]
    refine nm_e (nm_r (nI_1 i) (ih (i + 1) _ (by omega) ?_ n (by omega)))
    intro f hf
    by_cases e : f = i
    · rw [e, pk_us]
    · rw [pk_un e]
      exact hw f (by omega)
end IN
theorem sw_init (k0 k1 k2 k3 : Int32) : wpX_init (fun u => wpY_init (fun v => sw_Q u v) k0 k1 k2 k3) k0 k1 k2 k3 := by
  obtain ⟨nf, a1, a2, aX, aY⟩ := sw_clamp (p := k0) (lo := 1) (hi := 4) (by decide) (by decide)
  obtain ⟨nb, b1, b2, bX, bY⟩ := sw_clamp (p := k1) (lo := 2) (hi := 8) (by decide) (by decide)
  obtain ⟨ns, c1, c2, cX, cY⟩ := sw_clamp (p := k2) (lo := 1) (hi := 4) (by decide) (by decide)
  obtain ⟨nl, d1, d2, dX, dY⟩ := sw_clamp (p := k3) (lo := 1) (hi := 8) (by decide) (by decide)
  unfold wpX_init
  refine aX _ _ (bX _ _ (cX _ _ (nm_r (nI_add 2 ns) (dX _ _ ?_))))
  unfold wpY_init
  refine aY _ _ (bY _ _ (cY _ _ (dY _ _ ⟨33, ?_⟩)))
  refine yi_184 (cu := 0) (d := 0) (fun en' wr' he hw => ?_) 32 0 (fun _ => 0) (by omega) (fun _ hk => absurd hk (Nat.not_lt_zero _)) 33 (by omega)
  refine sw_in (nf := nf) (nb := nb) (ns := ns) (nl := nl) (cu := 0) (d := 0) (rs := 0) ⟨⟨a1, a2, b1, b2, c1, c2, d1, d2, by omega, by omega⟩, ⟨fun _ _ => ⟨0, by omega, rfl⟩, fun _ _ => ⟨0, by omega, rfl⟩, fun _ _ => ⟨0, by omega, rfl⟩, fun _ _ => ⟨0, by omega, rfl⟩, fun _ _ => ⟨0, 0, by omega, rfl, rfl, fun w => absurd w (by decide), fun _ => by omega, fun w => absurd w (by decide)⟩⟩, fun k hk => Or.inl ⟨rfl, he k hk⟩, fun f hf => Or.inl ⟨rfl, fun w => sw_10 ((hw f hf).symm.trans w)⟩, fun f _ w => absurd rfl w, fun _ => ⟨⟨0, by omega, rfl⟩, ⟨0, by omega, rfl⟩, ⟨0, by omega, rfl⟩⟩, fun l hl => absurd hl (Nat.not_lt_zero _), ⟨fun _ _ => rfl, fun l hl => absurd hl (Nat.not_lt_zero _), fun l hl => absurd hl (Nat.not_lt_zero _), fun l hl => absurd hl (Nat.not_lt_zero _), fun l hl => absurd hl (Nat.not_lt_zero _), by show (0 : Int32) = 0 - 0; decide⟩⟩ (fun w => absurd w (by decide))
/-- the relation at the head of a turn -/
def i_Rel (_k : Nat) (u : SX) (v : SY) : Prop := sw_Q u v
theorem i_up {k : Nat} {u : SX} {v : SY} (h : i_Rel k u v) : i_Rel (k + 5) u v := h
theorem i_vc0 (k0 : Int32) (k1 : Int32) (k2 : Int32) (k3 : Int32) : wpX_init (fun u => wpY_init (fun v => i_Rel 4 u v) k0 k1 k2 k3) k0 k1 k2 k3 := sw_init k0 k1 k2 k3
theorem i_vc_open {k : Nat} {u : SX} {v : SY} (I : i_Rel k u v) (hk : k + 5 ≤ 2564) (v1 : Int32) (v2 : Int32) : wpX_open (fun r u' => wpY_open (fun r' v' => r' = r ∧ i_Rel (k + 5) u' v') v v1 v2) u v1 v2 :=
  sw_el (Z := fun u v => wpX_open (fun r u' => wpY_open (fun r' v' => r' = r ∧ sw_Q u' v') v v1 v2) u v1 v2) (fun _ _ _ _ _ _ _ _ _ _ _ _ _ _ _ _ _ _ _ _ _ _ _ _ _ _ _ _ _ _ _ _ _ _ _ _ _ hR h2 => sj_open hR h2 v1 v2) I
theorem i_vc_emit {k : Nat} {u : SX} {v : SY} (I : i_Rel k u v) (hk : k + 5 ≤ 2564) (v1 : Int32) (v2 : Int32) (v3 : Int32) : wpX_emit (fun r u' => wpY_emit (fun r' v' => r' = r ∧ i_Rel (k + 5) u' v') v v1 v2 v3) u v1 v2 v3 :=
  sw_el (Z := fun u v => wpX_emit (fun r u' => wpY_emit (fun r' v' => r' = r ∧ sw_Q u' v') v v1 v2 v3) u v1 v2 v3) (fun _ _ _ _ _ _ _ _ _ _ _ _ _ _ _ _ _ _ _ _ _ _ _ _ _ _ _ _ _ _ _ _ _ _ _ _ _ hR h2 => sj_emit hR h2 v1 v2 v3) I
theorem i_vc_branch {k : Nat} {u : SX} {v : SY} (I : i_Rel k u v) (hk : k + 5 ≤ 2564) (v1 : Int32) (v2 : Int32) (v3 : Int32) : wpX_branch (fun r u' => wpY_branch (fun r' v' => r' = r ∧ i_Rel (k + 5) u' v') v v1 v2 v3) u v1 v2 v3 :=
  sw_el (Z := fun u v => wpX_branch (fun r u' => wpY_branch (fun r' v' => r' = r ∧ sw_Q u' v') v v1 v2 v3) u v1 v2 v3) (fun _ _ _ _ _ _ _ _ _ _ _ _ _ _ _ _ _ _ _ _ _ _ _ _ _ _ _ _ _ _ _ _ _ _ _ _ _ hR h2 => sj_branchM hR h2 v1 v2 v3) I
theorem i_vc_wrap {k : Nat} {u : SX} {v : SY} (I : i_Rel k u v) (hk : k + 5 ≤ 2564) (v1 : Int32) (v2 : Int32) : wpX_wrap (fun r u' => wpY_wrap (fun r' v' => r' = r ∧ i_Rel (k + 5) u' v') v v1 (lw_bz v2)) u v1 (lw_bz v2) :=
  sw_el (Z := fun u v => wpX_wrap (fun r u' => wpY_wrap (fun r' v' => r' = r ∧ sw_Q u' v') v v1 (lw_bz v2)) u v1 (lw_bz v2)) (fun _ _ _ _ _ _ _ _ _ _ _ _ _ _ _ _ _ _ _ _ _ _ _ _ _ _ _ _ _ _ _ _ _ _ _ _ _ hR h2 => sj_wrap hR h2 v1 v2) I
theorem i_vc_setReg {k : Nat} {u : SX} {v : SY} (I : i_Rel k u v) (hk : k + 5 ≤ 2564) (v1 : Int32) (v2 : Int32) : wpX_setReg (fun r u' => wpY_setReg (fun r' v' => r' = r ∧ i_Rel (k + 5) u' v') v v1 v2) u v1 v2 :=
  sw_el (Z := fun u v => wpX_setReg (fun r u' => wpY_setReg (fun r' v' => r' = r ∧ sw_Q u' v') v v1 v2) u v1 v2) (fun _ _ _ _ _ _ _ _ _ _ _ _ _ _ _ _ _ _ _ _ _ _ _ _ _ _ _ _ _ _ _ _ _ _ _ _ _ hR h2 => sj_setReg hR h2 v1 v2) I
theorem i_vc_start {k : Nat} {u : SX} {v : SY} (I : i_Rel k u v) (hk : k + 5 ≤ 2564) (v1 : Int32) : wpX_start (fun r u' => wpY_start (fun r' v' => r' = r ∧ i_Rel (k + 5) u' v') v v1) u v1 :=
  sw_el (Z := fun u v => wpX_start (fun r u' => wpY_start (fun r' v' => r' = r ∧ sw_Q u' v') v v1) u v1) (fun _ _ _ _ _ _ _ _ _ _ _ _ _ _ _ _ _ _ _ _ _ _ _ _ _ _ _ _ _ _ _ _ _ _ _ _ _ hR h2 => sj_start hR h2 v1) I
theorem i_vc_run {k : Nat} {u : SX} {v : SY} (I : i_Rel k u v) (hk : k + 5 ≤ 2564) (v1 : Int32) : wpX_run (fun r u' => wpY_run (fun r' v' => r' = r ∧ i_Rel (k + 5) u' v') v v1) u v1 :=
  sw_run I v1
theorem i_vc_unwind {k : Nat} {u : SX} {v : SY} (I : i_Rel k u v) (hk : k + 5 ≤ 2564) : wpX_unwind (fun r u' => wpY_unwind (fun r' v' => r' = r ∧ i_Rel (k + 5) u' v') v) u :=
  sw_el (Z := fun u v => wpX_unwind (fun r u' => wpY_unwind (fun r' v' => r' = r ∧ sw_Q u' v') v) u) (fun _ _ _ _ _ _ _ _ _ _ _ _ _ _ _ _ _ _ _ _ _ _ _ _ _ _ _ _ _ _ _ _ _ _ _ _ _ hR h2 => sj_unwind hR h2) I
theorem i_vc_region {k : Nat} {u : SX} {v : SY} (I : i_Rel k u v) (hk : k + 5 ≤ 2564) (v1 : Int32) (v2 : Int32) : wpX_region (fun r u' => wpY_region (fun r' => r' = r ∧ i_Rel (k + 5) u' v) v v1 v2) u v1 v2 :=
  sw_el (Z := fun u v => wpX_region (fun r u' => wpY_region (fun r' => r' = r ∧ sw_Q u' v) v v1 v2) u v1 v2) (fun _ _ _ _ _ _ _ _ _ _ _ _ _ _ _ _ _ _ _ _ _ _ _ _ _ _ _ _ _ _ _ _ _ _ _ _ _ hR h2 => sj_region hR h2 v1 v2) I
theorem i_vc_edge {k : Nat} {u : SX} {v : SY} (I : i_Rel k u v) (hk : k + 5 ≤ 2564) (v1 : Int32) (v2 : Int32) (v3 : Int32) (v4 : Int32) : wpX_edge (fun r u' => wpY_edge (fun r' => r' = r ∧ i_Rel (k + 5) u' v) v v1 v2 v3 v4) u v1 v2 v3 v4 :=
  sw_el (Z := fun u v => wpX_edge (fun r u' => wpY_edge (fun r' => r' = r ∧ sw_Q u' v) v v1 v2 v3 v4) u v1 v2 v3 v4) (fun _ _ _ _ _ _ _ _ _ _ _ _ _ _ _ _ _ _ _ _ _ _ _ _ _ _ _ _ _ _ _ _ _ _ _ _ _ hR h2 => sj_edge hR h2 v1 v2 v3 v4) I
theorem i_vc_count {k : Nat} {u : SX} {v : SY} (I : i_Rel k u v) (hk : k + 5 ≤ 2564) (v1 : Int32) : wpX_count (fun r => wpY_count (fun r' => r' = r ∧ i_Rel (k + 5) u v) v v1) u v1 :=
  sw_el (Z := fun u v => wpX_count (fun r => wpY_count (fun r' => r' = r ∧ sw_Q u v) v v1) u v1) (fun _ _ _ _ _ _ _ _ _ _ _ _ _ _ _ _ _ _ _ _ _ _ _ _ _ _ _ _ _ _ _ _ _ _ _ _ _ hR h2 => sj_count hR h2 v1) I
theorem i_vc_reg {k : Nat} {u : SX} {v : SY} (I : i_Rel k u v) (hk : k + 5 ≤ 2564) (v1 : Int32) (v2 : Int32) : wpX_reg (fun r => wpY_reg (fun r' => r' = r ∧ i_Rel (k + 5) u v) v v1 v2) u v1 v2 :=
  sw_el (Z := fun u v => wpX_reg (fun r => wpY_reg (fun r' => r' = r ∧ sw_Q u v) v v1 v2) u v1 v2) (fun _ _ _ _ _ _ _ _ _ _ _ _ _ _ _ _ _ _ _ _ _ _ _ _ _ _ _ _ _ _ _ _ _ _ _ _ _ hR h2 => sj_reg hR h2 v1 v2) I
theorem i_vc_entry {k : Nat} {u : SX} {v : SY} (I : i_Rel k u v) (hk : k + 5 ≤ 2564) (v1 : Int32) (v2 : Int32) : wpX_entry (fun r => wpY_entry (fun r' => r' = r ∧ i_Rel (k + 5) u v) v v1 v2) u v1 v2 :=
  sw_el (Z := fun u v => wpX_entry (fun r => wpY_entry (fun r' => r' = r ∧ sw_Q u v) v v1 v2) u v1 v2) (fun _ _ _ _ _ _ _ _ _ _ _ _ _ _ _ _ _ _ _ _ _ _ _ _ _ _ _ _ _ _ _ _ _ _ _ _ _ hR h2 => sj_entry hR h2 v1 v2) I
theorem i_vc_where {k : Nat} {u : SX} {v : SY} (I : i_Rel k u v) (hk : k + 5 ≤ 2564) (v1 : Int32) : wpX_where (fun r => wpY_where (fun r' => r' = r ∧ i_Rel (k + 5) u v) v v1) u v1 :=
  sw_el (Z := fun u v => wpX_where (fun r => wpY_where (fun r' => r' = r ∧ sw_Q u v) v v1) u v1) (fun _ _ _ _ _ _ _ _ _ _ _ _ _ _ _ _ _ _ _ _ _ _ _ _ _ _ _ _ _ _ _ _ _ _ _ _ _ hR h2 => sj_where hR h2 v1) I
theorem i_vc_peek {k : Nat} {u : SX} {v : SY} (I : i_Rel k u v) (hk : k + 5 ≤ 2564) (v1 : Int32) (v2 : Int32) (v3 : Int32) (v4 : Int32) : wpX_peek (fun r => wpY_peek (fun r' => r' = r ∧ i_Rel (k + 5) u v) v v1 v2 v3 v4) u v1 v2 v3 v4 :=
  sw_el (Z := fun u v => wpX_peek (fun r => wpY_peek (fun r' => r' = r ∧ sw_Q u v) v v1 v2 v3 v4) u v1 v2 v3 v4) (fun _ _ _ _ _ _ _ _ _ _ _ _ _ _ _ _ _ _ _ _ _ _ _ _ _ _ _ _ _ _ _ _ _ _ _ _ _ hR h2 => sj_peek hR h2 v1 v2 v3 v4) I
end
